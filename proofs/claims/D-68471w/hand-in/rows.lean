section
-- ===== PART A: goes FIRST, ahead of the names: the tables' words, and 'selects' of the private methods out of them =====
/-- a private method of a class that the tables say can be made, by its rows of tables_1 -/
def lw_okq (q : MethodName × Nat) : Prop := (q.1.cls ≠ "java/lang/invoke/MethodHandle" ∧ q.1.cls ≠ "java/lang/invoke/VarHandle") ∧ Cond.instantiable q.1.cls q.2 ∈ tables_1 ∧ Cond.privateMethod q.1 ∈ tables_1 ∧ Cond.instanceMethod q.1 ∈ tables_1
theorem lw_p0 : lw_okq (⟨"PatternTree", "find", "(J)I"⟩, 3) := ⟨⟨by decide +kernel, by decide +kernel⟩, List.mem_of_getElem? (i := 13) (by decide +kernel), List.mem_of_getElem? (i := 82) (by decide +kernel), List.mem_of_getElem? (i := 83) (by decide +kernel)⟩
theorem lw_p1 : lw_okq (⟨"PatternTree$Tree", "node", "(IIJ)I"⟩, 11) := ⟨⟨by decide +kernel, by decide +kernel⟩, List.mem_of_getElem? (i := 21) (by decide +kernel), List.mem_of_getElem? (i := 90) (by decide +kernel), List.mem_of_getElem? (i := 91) (by decide +kernel)⟩
theorem lw_p2 : lw_okq (⟨"PatternTree$Tree", "best", "(IIJ)I"⟩, 11) := ⟨⟨by decide +kernel, by decide +kernel⟩, List.mem_of_getElem? (i := 21) (by decide +kernel), List.mem_of_getElem? (i := 94) (by decide +kernel), List.mem_of_getElem? (i := 95) (by decide +kernel)⟩
theorem lw_p3 : lw_okq (⟨"PatternTree$Tree", "leaf", "(III)I"⟩, 11) := ⟨⟨by decide +kernel, by decide +kernel⟩, List.mem_of_getElem? (i := 21) (by decide +kernel), List.mem_of_getElem? (i := 101) (by decide +kernel), List.mem_of_getElem? (i := 102) (by decide +kernel)⟩
theorem lw_p4 : lw_okq (⟨"PatternTree$Tree", "with", "(IIII)I"⟩, 11) := ⟨⟨by decide +kernel, by decide +kernel⟩, List.mem_of_getElem? (i := 21) (by decide +kernel), List.mem_of_getElem? (i := 105) (by decide +kernel), List.mem_of_getElem? (i := 106) (by decide +kernel)⟩
theorem lw_p5 : lw_okq (⟨"java/lang/Throwable", "fillInStackTrace", "(I)Ljava/lang/Throwable;"⟩, 6) := ⟨⟨by decide +kernel, by decide +kernel⟩, List.mem_of_getElem? (i := 175) (by decide +kernel), List.mem_of_getElem? (i := 173) (by decide +kernel), List.mem_of_getElem? (i := 174) (by decide +kernel)⟩
theorem lw_p6 : lw_okq (⟨"PatternTree", "isPattern", "(JJ)Z"⟩, 3) := ⟨⟨by decide +kernel, by decide +kernel⟩, List.mem_of_getElem? (i := 13) (by decide +kernel), List.mem_of_getElem? (i := 208) (by decide +kernel), List.mem_of_getElem? (i := 209) (by decide +kernel)⟩
theorem lw_p7 : lw_okq (⟨"PatternTree", "put", "(JJ)I"⟩, 3) := ⟨⟨by decide +kernel, by decide +kernel⟩, List.mem_of_getElem? (i := 13) (by decide +kernel), List.mem_of_getElem? (i := 213) (by decide +kernel), List.mem_of_getElem? (i := 214) (by decide +kernel)⟩
theorem lw_p8 : lw_okq (⟨"PatternTree", "find", "(JJ)I"⟩, 3) := ⟨⟨by decide +kernel, by decide +kernel⟩, List.mem_of_getElem? (i := 13) (by decide +kernel), List.mem_of_getElem? (i := 232) (by decide +kernel), List.mem_of_getElem? (i := 233) (by decide +kernel)⟩
theorem lw_p9 : lw_okq (⟨"PatternTree", "open", "(JJ)J"⟩, 3) := ⟨⟨by decide +kernel, by decide +kernel⟩, List.mem_of_getElem? (i := 13) (by decide +kernel), List.mem_of_getElem? (i := 289) (by decide +kernel), List.mem_of_getElem? (i := 290) (by decide +kernel)⟩
theorem lw_p10 : lw_okq (⟨"PatternTree", "size", "(J)J"⟩, 3) := ⟨⟨by decide +kernel, by decide +kernel⟩, List.mem_of_getElem? (i := 13) (by decide +kernel), List.mem_of_getElem? (i := 293) (by decide +kernel), List.mem_of_getElem? (i := 294) (by decide +kernel)⟩
theorem lw_p11 : lw_okq (⟨"PatternTree", "any", "(JJ)Z"⟩, 3) := ⟨⟨by decide +kernel, by decide +kernel⟩, List.mem_of_getElem? (i := 13) (by decide +kernel), List.mem_of_getElem? (i := 310) (by decide +kernel), List.mem_of_getElem? (i := 311) (by decide +kernel)⟩
theorem lw_p12 : lw_okq (⟨"PatternTree", "least", "(JJI)J"⟩, 3) := ⟨⟨by decide +kernel, by decide +kernel⟩, List.mem_of_getElem? (i := 13) (by decide +kernel), List.mem_of_getElem? (i := 314) (by decide +kernel), List.mem_of_getElem? (i := 315) (by decide +kernel)⟩
theorem lw_p13 : lw_okq (⟨"PatternTreeModel", "fail", "(I)I"⟩, 7) := ⟨⟨by decide +kernel, by decide +kernel⟩, List.mem_of_getElem? (i := 325) (by decide +kernel), List.mem_of_getElem? (i := 361) (by decide +kernel), List.mem_of_getElem? (i := 362) (by decide +kernel)⟩
theorem lw_p14 : lw_okq (⟨"PatternTreeModel", "wrong", "(JJ)Z"⟩, 7) := ⟨⟨by decide +kernel, by decide +kernel⟩, List.mem_of_getElem? (i := 325) (by decide +kernel), List.mem_of_getElem? (i := 369) (by decide +kernel), List.mem_of_getElem? (i := 370) (by decide +kernel)⟩
theorem lw_p15 : lw_okq (⟨"PatternTreeModel", "mask", "()J"⟩, 7) := ⟨⟨by decide +kernel, by decide +kernel⟩, List.mem_of_getElem? (i := 325) (by decide +kernel), List.mem_of_getElem? (i := 374) (by decide +kernel), List.mem_of_getElem? (i := 375) (by decide +kernel)⟩
def lw_privs_1 : List (MethodName × Nat) := [(⟨"PatternTree", "find", "(J)I"⟩, 3), (⟨"PatternTree$Tree", "node", "(IIJ)I"⟩, 11), (⟨"PatternTree$Tree", "best", "(IIJ)I"⟩, 11), (⟨"PatternTree$Tree", "leaf", "(III)I"⟩, 11), (⟨"PatternTree$Tree", "with", "(IIII)I"⟩, 11), (⟨"java/lang/Throwable", "fillInStackTrace", "(I)Ljava/lang/Throwable;"⟩, 6), (⟨"PatternTree", "isPattern", "(JJ)Z"⟩, 3), (⟨"PatternTree", "put", "(JJ)I"⟩, 3), (⟨"PatternTree", "find", "(JJ)I"⟩, 3), (⟨"PatternTree", "open", "(JJ)J"⟩, 3), (⟨"PatternTree", "size", "(J)J"⟩, 3), (⟨"PatternTree", "any", "(JJ)Z"⟩, 3), (⟨"PatternTree", "least", "(JJI)J"⟩, 3), (⟨"PatternTreeModel", "fail", "(I)I"⟩, 7), (⟨"PatternTreeModel", "wrong", "(JJ)Z"⟩, 7), (⟨"PatternTreeModel", "mask", "()J"⟩, 7)]
theorem lw_r1 : ∀ q ∈ lw_privs_1, lw_okq q := List.forall_mem_cons.mpr ⟨lw_p0, List.forall_mem_cons.mpr ⟨lw_p1, List.forall_mem_cons.mpr ⟨lw_p2, List.forall_mem_cons.mpr ⟨lw_p3, List.forall_mem_cons.mpr ⟨lw_p4, List.forall_mem_cons.mpr ⟨lw_p5, List.forall_mem_cons.mpr ⟨lw_p6, List.forall_mem_cons.mpr ⟨lw_p7, List.forall_mem_cons.mpr ⟨lw_p8, List.forall_mem_cons.mpr ⟨lw_p9, List.forall_mem_cons.mpr ⟨lw_p10, List.forall_mem_cons.mpr ⟨lw_p11, List.forall_mem_cons.mpr ⟨lw_p12, List.forall_mem_cons.mpr ⟨lw_p13, List.forall_mem_cons.mpr ⟨lw_p14, List.forall_mem_cons.mpr ⟨lw_p15, fun _ h => absurd h List.not_mem_nil⟩⟩⟩⟩⟩⟩⟩⟩⟩⟩⟩⟩⟩⟩⟩⟩
theorem lw_p16 : lw_okq (⟨"PatternTreeModel", "first", "(JJ)I"⟩, 7) := ⟨⟨by decide +kernel, by decide +kernel⟩, List.mem_of_getElem? (i := 325) (by decide +kernel), List.mem_of_getElem? (i := 378) (by decide +kernel), List.mem_of_getElem? (i := 379) (by decide +kernel)⟩
theorem lw_p17 : lw_okq (⟨"PatternTreeModel", "meet", "(IJJ)Z"⟩, 7) := ⟨⟨by decide +kernel, by decide +kernel⟩, List.mem_of_getElem? (i := 325) (by decide +kernel), List.mem_of_getElem? (i := 382) (by decide +kernel), List.mem_of_getElem? (i := 383) (by decide +kernel)⟩
theorem lw_p18 : lw_okq (⟨"PatternTreeModel", "none", "(JJ)J"⟩, 7) := ⟨⟨by decide +kernel, by decide +kernel⟩, List.mem_of_getElem? (i := 325) (by decide +kernel), List.mem_of_getElem? (i := 409) (by decide +kernel), List.mem_of_getElem? (i := 410) (by decide +kernel)⟩
theorem lw_p19 : lw_okq (⟨"PatternTreeModel", "some", "(JJ)Z"⟩, 7) := ⟨⟨by decide +kernel, by decide +kernel⟩, List.mem_of_getElem? (i := 325) (by decide +kernel), List.mem_of_getElem? (i := 423) (by decide +kernel), List.mem_of_getElem? (i := 424) (by decide +kernel)⟩
def lw_privs_2 : List (MethodName × Nat) := [(⟨"PatternTreeModel", "first", "(JJ)I"⟩, 7), (⟨"PatternTreeModel", "meet", "(IJJ)Z"⟩, 7), (⟨"PatternTreeModel", "none", "(JJ)J"⟩, 7), (⟨"PatternTreeModel", "some", "(JJ)Z"⟩, 7)]
theorem lw_r2 : ∀ q ∈ lw_privs_2, lw_okq q := List.forall_mem_cons.mpr ⟨lw_p16, List.forall_mem_cons.mpr ⟨lw_p17, List.forall_mem_cons.mpr ⟨lw_p18, List.forall_mem_cons.mpr ⟨lw_p19, fun _ h => absurd h List.not_mem_nil⟩⟩⟩⟩
def lw_privs : List (MethodName × Nat) := lw_privs_1 ++ (lw_privs_2)
def lw_tbl : List Cond := k2_sels lw_privs ++ tables_1
theorem lw_privs_ok : ∀ q ∈ lw_privs, lw_okq q := by
  show ∀ q ∈ lw_privs_1 ++ (lw_privs_2), lw_okq q
  exact List.forall_mem_append.mpr ⟨lw_r1, lw_r2⟩

def TT : List Cond := lw_tbl.filter goodWord
theorem tt_tab {w : Cond} (i : Nat) (h : tables_1[i]? = some w) (hg : goodWord w = true) : w ∈ TT := List.mem_filter.mpr ⟨List.mem_append_right _ (List.mem_of_getElem? h), hg⟩
theorem tt_sel {q : MethodName × Nat} (h : q ∈ lw_privs) : Cond.selects q.1.cls q.1 q.1 ∈ TT := List.mem_filter.mpr ⟨List.mem_append_left _ (List.mem_map.mpr ⟨q, h, rfl⟩), rfl⟩
theorem tt_good : GoodIn TT TT := fun w h => ⟨h, good_of_word (List.mem_filter.mp h).2⟩
theorem tt_hts {args : Array Value} {s : State} (h : ∀ w ∈ lw_tbl, w.before args s = true) : ∀ w ∈ TT, w.before args s = true := fun w hw => h w (List.mem_filter.mp hw).1

abbrev bb_PT_init : ByteArray := prog_1_method_1_code
abbrev yy_PT_init : MethodName := ⟨"PatternTree", "<init>", "()V"⟩
abbrev bb_TR_init : ByteArray := prog_2_method_1_code
abbrev yy_TR_init : MethodName := ⟨"PatternTree$Tree", "<init>", "()V"⟩
abbrev bb_PT_decode : ByteArray := prog_1_method_12_code
abbrev yy_PT_decode : MethodName := ⟨"PatternTree", "decode", "(J)I"⟩
abbrev bb_PT_find1 : ByteArray := prog_1_method_11_code
abbrev yy_PT_find1 : MethodName := ⟨"PatternTree", "find", "(J)I"⟩
abbrev bb_TR_grow : ByteArray := prog_2_method_5_code
abbrev yy_TR_grow : MethodName := ⟨"PatternTree$Tree", "grow", "()V"⟩
abbrev bb_TR_node : ByteArray := prog_2_method_9_code
abbrev yy_TR_node : MethodName := ⟨"PatternTree$Tree", "node", "(IIJ)I"⟩
abbrev bb_TR_best : ByteArray := prog_2_method_6_code
abbrev yy_TR_best : MethodName := ⟨"PatternTree$Tree", "best", "(IIJ)I"⟩
abbrev bb_JM_min : ByteArray := prog_9_method_69_code
abbrev yy_JM_min : MethodName := ⟨"java/lang/Math", "min", "(II)I"⟩
abbrev bb_TR_leaf : ByteArray := prog_2_method_7_code
abbrev yy_TR_leaf : MethodName := ⟨"PatternTree$Tree", "leaf", "(III)I"⟩
abbrev bb_TR_with : ByteArray := prog_2_method_8_code
abbrev yy_TR_with : MethodName := ⟨"PatternTree$Tree", "with", "(IIII)I"⟩
abbrev bb_TR_mask : ByteArray := prog_2_method_2_code
abbrev yy_TR_mask : MethodName := ⟨"PatternTree$Tree", "mask", "()J"⟩
abbrev bb_TR_decode : ByteArray := prog_2_method_10_code
abbrev yy_TR_decode : MethodName := ⟨"PatternTree$Tree", "decode", "(J)I"⟩
abbrev bb_TR_takes : ByteArray := prog_2_method_3_code
abbrev yy_TR_takes : MethodName := ⟨"PatternTree$Tree", "takes", "(IJ)Z"⟩
abbrev bb_PT_count : ByteArray := prog_1_method_21_code
abbrev yy_PT_count : MethodName := ⟨"PatternTree", "count", "(I)I"⟩
abbrev bb_LW_clear : ByteArray := method_3_code
abbrev yy_LW_clear : MethodName := ⟨"PatternTreeLaw", "clear", "(LPatternTree;I)I"⟩
abbrev bb_PT_clear : ByteArray := prog_1_method_4_code
abbrev yy_PT_clear : MethodName := ⟨"PatternTree", "clear", "(I)V"⟩
abbrev bb_PT_check : ByteArray := prog_1_method_2_code
abbrev yy_PT_check : MethodName := ⟨"PatternTree", "check", "(Z)V"⟩
abbrev bb_LW_add : ByteArray := method_4_code
abbrev yy_LW_add : MethodName := ⟨"PatternTreeLaw", "add", "(LPatternTree;JJ[J)I"⟩
abbrev bb_PT_add : ByteArray := prog_1_method_8_code
abbrev yy_PT_add : MethodName := ⟨"PatternTree", "add", "(JJ)I"⟩
abbrev bb_PT_isPattern : ByteArray := prog_1_method_7_code
abbrev yy_PT_isPattern : MethodName := ⟨"PatternTree", "isPattern", "(JJ)Z"⟩
abbrev bb_PT_put : ByteArray := prog_1_method_6_code
abbrev yy_PT_put : MethodName := ⟨"PatternTree", "put", "(JJ)I"⟩
abbrev bb_PT_find2 : ByteArray := prog_1_method_5_code
abbrev yy_PT_find2 : MethodName := ⟨"PatternTree", "find", "(JJ)I"⟩
abbrev bb_TR_clashes : ByteArray := prog_2_method_4_code
abbrev yy_TR_clashes : MethodName := ⟨"PatternTree$Tree", "clashes", "(IJJ)Z"⟩
abbrev bb_LW_signs : ByteArray := method_5_code
abbrev yy_LW_signs : MethodName := ⟨"PatternTreeLaw", "signs", "(LPatternTree;J[J)I"⟩
abbrev bb_PT_signs : ByteArray := prog_1_method_9_code
abbrev yy_PT_signs : MethodName := ⟨"PatternTree", "signs", "(J)I"⟩
abbrev bb_LW_drop : ByteArray := method_6_code
abbrev yy_LW_drop : MethodName := ⟨"PatternTreeLaw", "drop", "(LPatternTree;I)I"⟩
abbrev bb_PT_drop : ByteArray := prog_1_method_10_code
abbrev yy_PT_drop : MethodName := ⟨"PatternTree", "drop", "(I)V"⟩
abbrev bb_PT_there : ByteArray := prog_1_method_3_code
abbrev yy_PT_there : MethodName := ⟨"PatternTree", "there", "(Z)V"⟩
abbrev bb_LW_meets : ByteArray := method_7_code
abbrev yy_LW_meets : MethodName := ⟨"PatternTreeLaw", "meets", "(LPatternTree;JJ[J)I"⟩
abbrev bb_PT_meets : ByteArray := prog_1_method_13_code
abbrev yy_PT_meets : MethodName := ⟨"PatternTree", "meets", "(JJ)I"⟩
abbrev bb_LW_free : ByteArray := method_8_code
abbrev yy_LW_free : MethodName := ⟨"PatternTreeLaw", "free", "(LPatternTree;JJ[J)I"⟩
abbrev bb_PT_free : ByteArray := prog_1_method_16_code
abbrev yy_PT_free : MethodName := ⟨"PatternTree", "free", "(JJ)J"⟩
abbrev bb_PT_open : ByteArray := prog_1_method_15_code
abbrev yy_PT_open : MethodName := ⟨"PatternTree", "open", "(JJ)J"⟩
abbrev bb_PT_size : ByteArray := prog_1_method_14_code
abbrev yy_PT_size : MethodName := ⟨"PatternTree", "size", "(J)J"⟩
abbrev bb_JL_bitCount : ByteArray := prog_8_method_50_code
abbrev yy_JL_bitCount : MethodName := ⟨"java/lang/Long", "bitCount", "(J)I"⟩
abbrev bb_LW_next : ByteArray := method_9_code
abbrev yy_LW_next : MethodName := ⟨"PatternTreeLaw", "next", "(LPatternTree;J[J)I"⟩
abbrev bb_PT_next : ByteArray := prog_1_method_19_code
abbrev yy_PT_next : MethodName := ⟨"PatternTree", "next", "(J)J"⟩
abbrev bb_PT_any : ByteArray := prog_1_method_17_code
abbrev yy_PT_any : MethodName := ⟨"PatternTree", "any", "(JJ)Z"⟩
abbrev bb_PT_least : ByteArray := prog_1_method_18_code
abbrev yy_PT_least : MethodName := ⟨"PatternTree", "least", "(JJI)J"⟩
abbrev bb_LW_told : ByteArray := method_10_code
abbrev yy_LW_told : MethodName := ⟨"PatternTreeLaw", "told", "(LPatternTree;II[J)I"⟩
abbrev bb_PT_told : ByteArray := prog_1_method_20_code
abbrev yy_PT_told : MethodName := ⟨"PatternTree", "told", "(II)J"⟩
abbrev bb_MO_init : ByteArray := prog_4_method_1_code
abbrev yy_MO_init : MethodName := ⟨"PatternTreeModel", "<init>", "()V"⟩
abbrev bb_MO_thrown : ByteArray := prog_4_method_2_code
abbrev yy_MO_thrown : MethodName := ⟨"PatternTreeModel", "thrown", "()I"⟩
abbrev bb_MO_clear : ByteArray := prog_4_method_10_code
abbrev yy_MO_clear : MethodName := ⟨"PatternTreeModel", "clear", "(I)V"⟩
abbrev bb_MO_fail : ByteArray := prog_4_method_3_code
abbrev yy_MO_fail : MethodName := ⟨"PatternTreeModel", "fail", "(I)I"⟩
abbrev bb_MO_add : ByteArray := prog_4_method_11_code
abbrev yy_MO_add : MethodName := ⟨"PatternTreeModel", "add", "(JJ)I"⟩
abbrev bb_MO_wrong : ByteArray := prog_4_method_7_code
abbrev yy_MO_wrong : MethodName := ⟨"PatternTreeModel", "wrong", "(JJ)Z"⟩
abbrev bb_MO_mask : ByteArray := prog_4_method_4_code
abbrev yy_MO_mask : MethodName := ⟨"PatternTreeModel", "mask", "()J"⟩
abbrev bb_MO_first : ByteArray := prog_4_method_9_code
abbrev yy_MO_first : MethodName := ⟨"PatternTreeModel", "first", "(JJ)I"⟩
abbrev bb_MO_meet : ByteArray := prog_4_method_8_code
abbrev yy_MO_meet : MethodName := ⟨"PatternTreeModel", "meet", "(IJJ)Z"⟩
abbrev bb_MO_signs : ByteArray := prog_4_method_12_code
abbrev yy_MO_signs : MethodName := ⟨"PatternTreeModel", "signs", "(J)I"⟩
abbrev bb_MO_drop : ByteArray := prog_4_method_13_code
abbrev yy_MO_drop : MethodName := ⟨"PatternTreeModel", "drop", "(I)V"⟩
abbrev bb_MO_decode : ByteArray := prog_4_method_14_code
abbrev yy_MO_decode : MethodName := ⟨"PatternTreeModel", "decode", "(J)I"⟩
abbrev bb_MO_meets : ByteArray := prog_4_method_15_code
abbrev yy_MO_meets : MethodName := ⟨"PatternTreeModel", "meets", "(JJ)I"⟩
abbrev bb_MO_free : ByteArray := prog_4_method_17_code
abbrev yy_MO_free : MethodName := ⟨"PatternTreeModel", "free", "(JJ)J"⟩
abbrev bb_MO_none : ByteArray := prog_4_method_16_code
abbrev yy_MO_none : MethodName := ⟨"PatternTreeModel", "none", "(JJ)J"⟩
abbrev bb_MO_bits : ByteArray := prog_4_method_5_code
abbrev yy_MO_bits : MethodName := ⟨"PatternTreeModel", "bits", "(J)I"⟩
abbrev bb_MO_power : ByteArray := prog_4_method_6_code
abbrev yy_MO_power : MethodName := ⟨"PatternTreeModel", "power", "(I)J"⟩
abbrev bb_MO_next : ByteArray := prog_4_method_19_code
abbrev yy_MO_next : MethodName := ⟨"PatternTreeModel", "next", "(J)J"⟩
abbrev bb_MO_some : ByteArray := prog_4_method_18_code
abbrev yy_MO_some : MethodName := ⟨"PatternTreeModel", "some", "(JJ)Z"⟩
abbrev bb_MO_told : ByteArray := prog_4_method_20_code
abbrev yy_MO_told : MethodName := ⟨"PatternTreeModel", "told", "(II)J"⟩
abbrev bb_MO_count : ByteArray := prog_4_method_21_code
abbrev yy_MO_count : MethodName := ⟨"PatternTreeModel", "count", "(I)I"⟩
theorem tw_0 : (.initialized "PatternTreeLaw" : Cond) ∈ TT := tt_tab 0 (by decide +kernel) rfl
theorem tw_1 : (.initialized "PatternTree" : Cond) ∈ TT := tt_tab 1 (by decide +kernel) rfl
theorem tw_2 : (.initialized "PatternTree$Tree" : Cond) ∈ TT := tt_tab 2 (by decide +kernel) rfl
theorem tw_3 : (.initialized "PatternTreeModel" : Cond) ∈ TT := tt_tab 3 (by decide +kernel) rfl
theorem tw_4 : (.initialized "java/lang/Throwable" : Cond) ∈ TT := tt_tab 4 (by decide +kernel) rfl
theorem tw_5 : (.initialized "java/lang/Exception" : Cond) ∈ TT := tt_tab 5 (by decide +kernel) rfl
theorem tw_6 : (.initialized "java/lang/RuntimeException" : Cond) ∈ TT := tt_tab 6 (by decide +kernel) rfl
theorem tw_7 : (.initialized "java/lang/IllegalArgumentException" : Cond) ∈ TT := tt_tab 7 (by decide +kernel) rfl
theorem tw_8 : (.initialized "java/lang/IllegalStateException" : Cond) ∈ TT := tt_tab 8 (by decide +kernel) rfl
theorem tw_9 : (.initialized "java/util/NoSuchElementException" : Cond) ∈ TT := tt_tab 9 (by decide +kernel) rfl
theorem tw_10 : (.initialized "java/lang/Math" : Cond) ∈ TT := tt_tab 10 (by decide +kernel) rfl
theorem tw_11 : (.initialized "java/lang/Long" : Cond) ∈ TT := tt_tab 11 (by decide +kernel) rfl
theorem tw_12 : (.classLink "PatternTreeLaw" 8 "PatternTree" : Cond) ∈ TT := tt_tab 12 (by decide +kernel) rfl
theorem tw_13 : (.instantiable "PatternTree" 3 : Cond) ∈ TT := tt_tab 13 (by decide +kernel) rfl
theorem tw_14 : (.methodLink "PatternTreeLaw" 45 ⟨"PatternTree", "<init>", "()V"⟩ : Cond) ∈ TT := tt_tab 14 (by decide +kernel) rfl
theorem tw_15 : (.instanceMethod ⟨"PatternTree", "<init>", "()V"⟩ : Cond) ∈ TT := tt_tab 15 (by decide +kernel) rfl
theorem tw_16 : (.code ⟨"PatternTree", "<init>", "()V"⟩ prog_1_method_1_code 1 none : Cond) ∈ TT := tt_tab 16 rfl rfl
theorem tw_17 : (.methodLink "PatternTree" 1 ⟨"java/lang/Object", "<init>", "()V"⟩ : Cond) ∈ TT := tt_tab 17 (by decide +kernel) rfl
theorem tw_18 : (.instanceMethod ⟨"java/lang/Object", "<init>", "()V"⟩ : Cond) ∈ TT := tt_tab 18 (by decide +kernel) rfl
theorem tw_19 : (.code ⟨"java/lang/Object", "<init>", "()V"⟩ object_method_1_code 1 none : Cond) ∈ TT := tt_tab 19 rfl rfl
theorem tw_20 : (.classLink "PatternTree" 7 "PatternTree$Tree" : Cond) ∈ TT := tt_tab 20 (by decide +kernel) rfl
theorem tw_21 : (.instantiable "PatternTree$Tree" 11 : Cond) ∈ TT := tt_tab 21 (by decide +kernel) rfl
theorem tw_23 : (.instanceMethod ⟨"PatternTree$Tree", "<init>", "()V"⟩ : Cond) ∈ TT := tt_tab 23 (by decide +kernel) rfl
theorem tw_24 : (.code ⟨"PatternTree$Tree", "<init>", "()V"⟩ prog_2_method_1_code 1 none : Cond) ∈ TT := tt_tab 24 rfl rfl
theorem tw_25 : (.methodLink "PatternTree$Tree" 1 ⟨"java/lang/Object", "<init>", "()V"⟩ : Cond) ∈ TT := tt_tab 25 (by decide +kernel) rfl
theorem tw_26 : (.constant "PatternTree$Tree" 33 33792 : Cond) ∈ TT := tt_tab 26 (by decide +kernel) rfl
theorem tw_27 : (.fieldLink "PatternTree$Tree" 7 "PatternTree$Tree" "length" "I" : Cond) ∈ TT := tt_tab 27 (by decide +kernel) rfl
theorem tw_28 : (.fieldLink "PatternTree" 30 "PatternTree$Tree" "length" "I" : Cond) ∈ TT := tt_tab 28 (by decide +kernel) rfl
theorem tw_29 : (.fieldLink "PatternTree" 33 "PatternTree$Tree" "ops" "I" : Cond) ∈ TT := tt_tab 29 (by decide +kernel) rfl
theorem tw_30 : (.fieldLink "PatternTree$Tree" 45 "PatternTree$Tree" "ops" "I" : Cond) ∈ TT := tt_tab 30 (by decide +kernel) rfl
theorem tw_31 : (.fieldLink "PatternTree$Tree" 13 "PatternTree$Tree" "care" "[J" : Cond) ∈ TT := tt_tab 31 (by decide +kernel) rfl
theorem tw_32 : (.fieldLink "PatternTree" 51 "PatternTree$Tree" "care" "[J" : Cond) ∈ TT := tt_tab 32 (by decide +kernel) rfl
theorem tw_33 : (.fieldLink "PatternTree$Tree" 17 "PatternTree$Tree" "want" "[J" : Cond) ∈ TT := tt_tab 33 (by decide +kernel) rfl
theorem tw_34 : (.fieldLink "PatternTree" 55 "PatternTree$Tree" "want" "[J" : Cond) ∈ TT := tt_tab 34 (by decide +kernel) rfl
theorem tw_35 : (.fieldLink "PatternTree$Tree" 20 "PatternTree$Tree" "bit" "[I" : Cond) ∈ TT := tt_tab 35 (by decide +kernel) rfl
theorem tw_36 : (.fieldLink "PatternTree$Tree" 24 "PatternTree$Tree" "left" "[I" : Cond) ∈ TT := tt_tab 36 (by decide +kernel) rfl
theorem tw_37 : (.fieldLink "PatternTree$Tree" 27 "PatternTree$Tree" "right" "[I" : Cond) ∈ TT := tt_tab 37 (by decide +kernel) rfl
theorem tw_38 : (.fieldLink "PatternTree$Tree" 39 "PatternTree$Tree" "nodes" "I" : Cond) ∈ TT := tt_tab 38 (by decide +kernel) rfl
theorem tw_39 : (.fieldLink "PatternTree$Tree" 30 "PatternTree$Tree" "listed" "[I" : Cond) ∈ TT := tt_tab 39 (by decide +kernel) rfl
theorem tw_40 : (.fieldLink "PatternTree$Tree" 42 "PatternTree$Tree" "listedMany" "I" : Cond) ∈ TT := tt_tab 40 (by decide +kernel) rfl
theorem tw_41 : (.fieldLink "PatternTree$Tree" 34 "PatternTree$Tree" "pile" "[I" : Cond) ∈ TT := tt_tab 41 (by decide +kernel) rfl
theorem tw_42 : (.lays "PatternTree$Tree" "PatternTree$Tree" "length" "I" : Cond) ∈ TT := tt_tab 42 (by decide +kernel) rfl
theorem tw_44 : (.lays "PatternTree$Tree" "PatternTree$Tree" "ops" "I" : Cond) ∈ TT := tt_tab 44 (by decide +kernel) rfl
theorem tw_46 : (.laysFinal "PatternTree$Tree" "PatternTree$Tree" "care" "[J" : Cond) ∈ TT := tt_tab 46 (by decide +kernel) rfl
theorem tw_48 : (.laysFinal "PatternTree$Tree" "PatternTree$Tree" "want" "[J" : Cond) ∈ TT := tt_tab 48 (by decide +kernel) rfl
theorem tw_50 : (.laysFinal "PatternTree$Tree" "PatternTree$Tree" "bit" "[I" : Cond) ∈ TT := tt_tab 50 (by decide +kernel) rfl
theorem tw_52 : (.laysFinal "PatternTree$Tree" "PatternTree$Tree" "left" "[I" : Cond) ∈ TT := tt_tab 52 (by decide +kernel) rfl
theorem tw_54 : (.laysFinal "PatternTree$Tree" "PatternTree$Tree" "right" "[I" : Cond) ∈ TT := tt_tab 54 (by decide +kernel) rfl
theorem tw_56 : (.lays "PatternTree$Tree" "PatternTree$Tree" "nodes" "I" : Cond) ∈ TT := tt_tab 56 (by decide +kernel) rfl
theorem tw_58 : (.laysFinal "PatternTree$Tree" "PatternTree$Tree" "listed" "[I" : Cond) ∈ TT := tt_tab 58 (by decide +kernel) rfl
theorem tw_60 : (.lays "PatternTree$Tree" "PatternTree$Tree" "listedMany" "I" : Cond) ∈ TT := tt_tab 60 (by decide +kernel) rfl
theorem tw_62 : (.laysFinal "PatternTree$Tree" "PatternTree$Tree" "pile" "[I" : Cond) ∈ TT := tt_tab 62 (by decide +kernel) rfl
theorem tw_65 : (.arrayClass .long : Cond) ∈ TT := tt_tab 65 (by decide +kernel) rfl
theorem tw_66 : (.arrayClass .int : Cond) ∈ TT := tt_tab 66 (by decide +kernel) rfl
theorem tw_67 : (.fieldLink "PatternTree" 10 "PatternTree" "tree" "LPatternTree$Tree;" : Cond) ∈ TT := tt_tab 67 (by decide +kernel) rfl
theorem tw_68 : (.fieldLink "PatternTree" 36 "PatternTree" "grown" "Z" : Cond) ∈ TT := tt_tab 68 (by decide +kernel) rfl
theorem tw_69 : (.fieldLink "PatternTree" 16 "PatternTree" "clash" "I" : Cond) ∈ TT := tt_tab 69 (by decide +kernel) rfl
theorem tw_70 : (.laysFinal "PatternTree" "PatternTree" "tree" "LPatternTree$Tree;" : Cond) ∈ TT := tt_tab 70 (by decide +kernel) rfl
theorem tw_72 : (.lays "PatternTree" "PatternTree" "grown" "Z" : Cond) ∈ TT := tt_tab 72 (by decide +kernel) rfl
theorem tw_74 : (.lays "PatternTree" "PatternTree" "clash" "I" : Cond) ∈ TT := tt_tab 74 (by decide +kernel) rfl
theorem tw_77 : (.methodLink "PatternTreeLaw" 72 ⟨"PatternTree", "decode", "(J)I"⟩ : Cond) ∈ TT := tt_tab 77 (by decide +kernel) rfl
theorem tw_78 : (.instanceMethod ⟨"PatternTree", "decode", "(J)I"⟩ : Cond) ∈ TT := tt_tab 78 (by decide +kernel) rfl
theorem tw_79 : (.selects "PatternTree" ⟨"PatternTree", "decode", "(J)I"⟩ ⟨"PatternTree", "decode", "(J)I"⟩ : Cond) ∈ TT := tt_tab 79 (by decide +kernel) rfl
theorem tw_80 : (.code ⟨"PatternTree", "decode", "(J)I"⟩ prog_1_method_12_code 3 (some .int) : Cond) ∈ TT := tt_tab 80 rfl rfl
theorem tw_81 : (.methodLink "PatternTree" 85 ⟨"PatternTree", "find", "(J)I"⟩ : Cond) ∈ TT := tt_tab 81 (by decide +kernel) rfl
theorem tw_83 : (.instanceMethod ⟨"PatternTree", "find", "(J)I"⟩ : Cond) ∈ TT := tt_tab 83 (by decide +kernel) rfl
theorem tw_84 : (.code ⟨"PatternTree", "find", "(J)I"⟩ prog_1_method_11_code 3 (some .int) : Cond) ∈ TT := tt_tab 84 rfl rfl
theorem tw_85 : (.methodLink "PatternTree" 78 ⟨"PatternTree$Tree", "grow", "()V"⟩ : Cond) ∈ TT := tt_tab 85 (by decide +kernel) rfl
theorem tw_86 : (.instanceMethod ⟨"PatternTree$Tree", "grow", "()V"⟩ : Cond) ∈ TT := tt_tab 86 (by decide +kernel) rfl
theorem tw_87 : (.selects "PatternTree$Tree" ⟨"PatternTree$Tree", "grow", "()V"⟩ ⟨"PatternTree$Tree", "grow", "()V"⟩ : Cond) ∈ TT := tt_tab 87 (by decide +kernel) rfl
theorem tw_88 : (.code ⟨"PatternTree$Tree", "grow", "()V"⟩ prog_2_method_5_code 2 none : Cond) ∈ TT := tt_tab 88 rfl rfl
theorem tw_89 : (.methodLink "PatternTree$Tree" 48 ⟨"PatternTree$Tree", "node", "(IIJ)I"⟩ : Cond) ∈ TT := tt_tab 89 (by decide +kernel) rfl
theorem tw_91 : (.instanceMethod ⟨"PatternTree$Tree", "node", "(IIJ)I"⟩ : Cond) ∈ TT := tt_tab 91 (by decide +kernel) rfl
theorem tw_92 : (.code ⟨"PatternTree$Tree", "node", "(IIJ)I"⟩ prog_2_method_9_code 7 (some .int) : Cond) ∈ TT := tt_tab 92 rfl rfl
theorem tw_93 : (.methodLink "PatternTree$Tree" 58 ⟨"PatternTree$Tree", "best", "(IIJ)I"⟩ : Cond) ∈ TT := tt_tab 93 (by decide +kernel) rfl
theorem tw_95 : (.instanceMethod ⟨"PatternTree$Tree", "best", "(IIJ)I"⟩ : Cond) ∈ TT := tt_tab 95 (by decide +kernel) rfl
theorem tw_96 : (.code ⟨"PatternTree$Tree", "best", "(IIJ)I"⟩ prog_2_method_6_code 11 (some .int) : Cond) ∈ TT := tt_tab 96 rfl rfl
theorem tw_97 : (.methodLink "PatternTree$Tree" 52 ⟨"java/lang/Math", "min", "(II)I"⟩ : Cond) ∈ TT := tt_tab 97 (by decide +kernel) rfl
theorem tw_98 : (.static ⟨"java/lang/Math", "min", "(II)I"⟩ : Cond) ∈ TT := tt_tab 98 (by decide +kernel) rfl
theorem tw_99 : (.code ⟨"java/lang/Math", "min", "(II)I"⟩ prog_9_method_69_code 2 (some .int) : Cond) ∈ TT := tt_tab 99 rfl rfl
theorem tw_100 : (.methodLink "PatternTree$Tree" 61 ⟨"PatternTree$Tree", "leaf", "(III)I"⟩ : Cond) ∈ TT := tt_tab 100 (by decide +kernel) rfl
theorem tw_102 : (.instanceMethod ⟨"PatternTree$Tree", "leaf", "(III)I"⟩ : Cond) ∈ TT := tt_tab 102 (by decide +kernel) rfl
theorem tw_103 : (.code ⟨"PatternTree$Tree", "leaf", "(III)I"⟩ prog_2_method_7_code 5 (some .int) : Cond) ∈ TT := tt_tab 103 rfl rfl
theorem tw_104 : (.methodLink "PatternTree$Tree" 65 ⟨"PatternTree$Tree", "with", "(IIII)I"⟩ : Cond) ∈ TT := tt_tab 104 (by decide +kernel) rfl
theorem tw_106 : (.instanceMethod ⟨"PatternTree$Tree", "with", "(IIII)I"⟩ : Cond) ∈ TT := tt_tab 106 (by decide +kernel) rfl
theorem tw_107 : (.code ⟨"PatternTree$Tree", "with", "(IIII)I"⟩ prog_2_method_8_code 8 (some .int) : Cond) ∈ TT := tt_tab 107 rfl rfl
theorem tw_108 : (.methodLink "PatternTree" 60 ⟨"PatternTree$Tree", "mask", "()J"⟩ : Cond) ∈ TT := tt_tab 108 (by decide +kernel) rfl
theorem tw_109 : (.instanceMethod ⟨"PatternTree$Tree", "mask", "()J"⟩ : Cond) ∈ TT := tt_tab 109 (by decide +kernel) rfl
theorem tw_110 : (.selects "PatternTree$Tree" ⟨"PatternTree$Tree", "mask", "()J"⟩ ⟨"PatternTree$Tree", "mask", "()J"⟩ : Cond) ∈ TT := tt_tab 110 (by decide +kernel) rfl
theorem tw_111 : (.code ⟨"PatternTree$Tree", "mask", "()J"⟩ prog_2_method_2_code 1 (some .long) : Cond) ∈ TT := tt_tab 111 rfl rfl
theorem tw_112 : (.constantLong "PatternTree$Tree" 37 (-1) : Cond) ∈ TT := tt_tab 112 (by decide +kernel) rfl
theorem tw_113 : (.methodLink "PatternTree" 81 ⟨"PatternTree$Tree", "decode", "(J)I"⟩ : Cond) ∈ TT := tt_tab 113 (by decide +kernel) rfl
theorem tw_114 : (.instanceMethod ⟨"PatternTree$Tree", "decode", "(J)I"⟩ : Cond) ∈ TT := tt_tab 114 (by decide +kernel) rfl
theorem tw_115 : (.selects "PatternTree$Tree" ⟨"PatternTree$Tree", "decode", "(J)I"⟩ ⟨"PatternTree$Tree", "decode", "(J)I"⟩ : Cond) ∈ TT := tt_tab 115 (by decide +kernel) rfl
theorem tw_116 : (.code ⟨"PatternTree$Tree", "decode", "(J)I"⟩ prog_2_method_10_code 7 (some .int) : Cond) ∈ TT := tt_tab 116 rfl rfl
theorem tw_117 : (.methodLink "PatternTree$Tree" 69 ⟨"PatternTree$Tree", "takes", "(IJ)Z"⟩ : Cond) ∈ TT := tt_tab 117 (by decide +kernel) rfl
theorem tw_118 : (.instanceMethod ⟨"PatternTree$Tree", "takes", "(IJ)Z"⟩ : Cond) ∈ TT := tt_tab 118 (by decide +kernel) rfl
theorem tw_119 : (.selects "PatternTree$Tree" ⟨"PatternTree$Tree", "takes", "(IJ)Z"⟩ ⟨"PatternTree$Tree", "takes", "(IJ)Z"⟩ : Cond) ∈ TT := tt_tab 119 (by decide +kernel) rfl
theorem tw_120 : (.code ⟨"PatternTree$Tree", "takes", "(IJ)Z"⟩ prog_2_method_3_code 4 (some .boolean) : Cond) ∈ TT := tt_tab 120 rfl rfl
theorem tw_121 : (.methodLink "PatternTreeLaw" 89 ⟨"PatternTree", "count", "(I)I"⟩ : Cond) ∈ TT := tt_tab 121 (by decide +kernel) rfl
theorem tw_122 : (.instanceMethod ⟨"PatternTree", "count", "(I)I"⟩ : Cond) ∈ TT := tt_tab 122 (by decide +kernel) rfl
theorem tw_123 : (.selects "PatternTree" ⟨"PatternTree", "count", "(I)I"⟩ ⟨"PatternTree", "count", "(I)I"⟩ : Cond) ∈ TT := tt_tab 123 (by decide +kernel) rfl
theorem tw_124 : (.code ⟨"PatternTree", "count", "(I)I"⟩ prog_1_method_21_code 2 (some .int) : Cond) ∈ TT := tt_tab 124 rfl rfl
theorem tw_125 : (.methodLink "PatternTreeLaw" 49 ⟨"PatternTreeLaw", "clear", "(LPatternTree;I)I"⟩ : Cond) ∈ TT := tt_tab 125 (by decide +kernel) rfl
theorem tw_126 : (.static ⟨"PatternTreeLaw", "clear", "(LPatternTree;I)I"⟩ : Cond) ∈ TT := tt_tab 126 (by decide +kernel) rfl
theorem tw_127 : (.codeWith ⟨"PatternTreeLaw", "clear", "(LPatternTree;I)I"⟩ method_3_code 3 (some .int) [(0, 5, 8, 13)] : Cond) ∈ TT := tt_tab 127 rfl rfl
theorem tw_128 : (.classLink "PatternTreeLaw" 13 "java/lang/IllegalArgumentException" : Cond) ∈ TT := tt_tab 128 (by decide +kernel) rfl
theorem tw_129 : (.methodLink "PatternTreeLaw" 7 ⟨"PatternTree", "clear", "(I)V"⟩ : Cond) ∈ TT := tt_tab 129 (by decide +kernel) rfl
theorem tw_130 : (.instanceMethod ⟨"PatternTree", "clear", "(I)V"⟩ : Cond) ∈ TT := tt_tab 130 (by decide +kernel) rfl
theorem tw_131 : (.selects "PatternTree" ⟨"PatternTree", "clear", "(I)V"⟩ ⟨"PatternTree", "clear", "(I)V"⟩ : Cond) ∈ TT := tt_tab 131 (by decide +kernel) rfl
theorem tw_132 : (.code ⟨"PatternTree", "clear", "(I)V"⟩ prog_1_method_4_code 2 none : Cond) ∈ TT := tt_tab 132 rfl rfl
theorem tw_133 : (.methodLink "PatternTree" 26 ⟨"PatternTree", "check", "(Z)V"⟩ : Cond) ∈ TT := tt_tab 133 (by decide +kernel) rfl
theorem tw_134 : (.static ⟨"PatternTree", "check", "(Z)V"⟩ : Cond) ∈ TT := tt_tab 134 (by decide +kernel) rfl
theorem tw_135 : (.code ⟨"PatternTree", "check", "(Z)V"⟩ prog_1_method_2_code 1 none : Cond) ∈ TT := tt_tab 135 rfl rfl
theorem tw_136 : (.classLink "PatternTree" 20 "java/lang/IllegalArgumentException" : Cond) ∈ TT := tt_tab 136 (by decide +kernel) rfl
theorem tw_137 : (.instantiable "java/lang/IllegalArgumentException" 6 : Cond) ∈ TT := tt_tab 137 (by decide +kernel) rfl
theorem tw_145 : (.selects "java/lang/IllegalArgumentException" ⟨"java/lang/Throwable", "fillInStackTrace", "(I)Ljava/lang/Throwable;"⟩ ⟨"java/lang/Throwable", "fillInStackTrace", "(I)Ljava/lang/Throwable;"⟩ : Cond) ∈ TT := tt_tab 145 (by decide +kernel) rfl
theorem tw_146 : (.selects "java/lang/IllegalArgumentException" ⟨"java/lang/Throwable", "fillInStackTrace", "()Ljava/lang/Throwable;"⟩ ⟨"java/lang/Throwable", "fillInStackTrace", "()Ljava/lang/Throwable;"⟩ : Cond) ∈ TT := tt_tab 146 (by decide +kernel) rfl
theorem tw_147 : (.lays "java/lang/IllegalArgumentException" "java/lang/Throwable" "cause" "Ljava/lang/Throwable;" : Cond) ∈ TT := tt_tab 147 (by decide +kernel) rfl
theorem tw_148 : (.lays "java/lang/Throwable" "java/lang/Throwable" "cause" "Ljava/lang/Throwable;" : Cond) ∈ TT := tt_tab 148 (by decide +kernel) rfl
theorem tw_149 : (.lays "java/lang/IllegalArgumentException" "java/lang/Throwable" "stackTrace" "[Ljava/lang/StackTraceElement;" : Cond) ∈ TT := tt_tab 149 (by decide +kernel) rfl
theorem tw_150 : (.lays "java/lang/Throwable" "java/lang/Throwable" "stackTrace" "[Ljava/lang/StackTraceElement;" : Cond) ∈ TT := tt_tab 150 (by decide +kernel) rfl
theorem tw_151 : (.lays "java/lang/IllegalArgumentException" "java/lang/Throwable" "suppressedExceptions" "Ljava/util/List;" : Cond) ∈ TT := tt_tab 151 (by decide +kernel) rfl
theorem tw_152 : (.lays "java/lang/Throwable" "java/lang/Throwable" "suppressedExceptions" "Ljava/util/List;" : Cond) ∈ TT := tt_tab 152 (by decide +kernel) rfl
theorem tw_153 : (.lays "java/lang/IllegalArgumentException" "java/lang/Throwable" "detailMessage" "Ljava/lang/String;" : Cond) ∈ TT := tt_tab 153 (by decide +kernel) rfl
theorem tw_154 : (.lays "java/lang/Throwable" "java/lang/Throwable" "detailMessage" "Ljava/lang/String;" : Cond) ∈ TT := tt_tab 154 (by decide +kernel) rfl
theorem tw_155 : (.lays "java/lang/IllegalArgumentException" "java/lang/Throwable" "backtrace" "Ljava/lang/Object;" : Cond) ∈ TT := tt_tab 155 (by decide +kernel) rfl
theorem tw_156 : (.lays "java/lang/Throwable" "java/lang/Throwable" "backtrace" "Ljava/lang/Object;" : Cond) ∈ TT := tt_tab 156 (by decide +kernel) rfl
theorem tw_157 : (.fieldLink "java/lang/Throwable" 198 "java/lang/Throwable" "backtrace" "Ljava/lang/Object;" : Cond) ∈ TT := tt_tab 157 (by decide +kernel) rfl
theorem tw_159 : (.instanceMethod ⟨"java/lang/Throwable", "<init>", "()V"⟩ : Cond) ∈ TT := tt_tab 159 (by decide +kernel) rfl
theorem tw_160 : (.code ⟨"java/lang/Throwable", "<init>", "()V"⟩ prog_11_method_1_code 1 none : Cond) ∈ TT := tt_tab 160 rfl rfl
theorem tw_161 : (.methodLink "java/lang/Throwable" 1 ⟨"java/lang/Object", "<init>", "()V"⟩ : Cond) ∈ TT := tt_tab 161 (by decide +kernel) rfl
theorem tw_162 : (.fieldLink "java/lang/Throwable" 13 "java/lang/Throwable" "UNASSIGNED_STACK" "[Ljava/lang/StackTraceElement;" : Cond) ∈ TT := tt_tab 162 (by decide +kernel) rfl
theorem tw_164 : (.fieldLink "java/lang/Throwable" 20 "java/lang/Throwable" "SUPPRESSED_SENTINEL" "Ljava/util/List;" : Cond) ∈ TT := tt_tab 164 (by decide +kernel) rfl
theorem tw_166 : (.methodLink "java/lang/Throwable" 27 ⟨"java/lang/Throwable", "fillInStackTrace", "()Ljava/lang/Throwable;"⟩ : Cond) ∈ TT := tt_tab 166 (by decide +kernel) rfl
theorem tw_167 : (.instanceMethod ⟨"java/lang/Throwable", "fillInStackTrace", "()Ljava/lang/Throwable;"⟩ : Cond) ∈ TT := tt_tab 167 (by decide +kernel) rfl
theorem tw_168 : (.sameMethod "java/lang/Throwable" "java/lang/Throwable" "fillInStackTrace" "()Ljava/lang/Throwable;" : Cond) ∈ TT := tt_tab 168 (by decide +kernel) rfl
theorem tw_169 : (.selects "java/lang/IllegalStateException" ⟨"java/lang/Throwable", "fillInStackTrace", "()Ljava/lang/Throwable;"⟩ ⟨"java/lang/Throwable", "fillInStackTrace", "()Ljava/lang/Throwable;"⟩ : Cond) ∈ TT := tt_tab 169 (by decide +kernel) rfl
theorem tw_170 : (.selects "java/util/NoSuchElementException" ⟨"java/lang/Throwable", "fillInStackTrace", "()Ljava/lang/Throwable;"⟩ ⟨"java/lang/Throwable", "fillInStackTrace", "()Ljava/lang/Throwable;"⟩ : Cond) ∈ TT := tt_tab 170 (by decide +kernel) rfl
theorem tw_171 : (.codeSync ⟨"java/lang/Throwable", "fillInStackTrace", "()Ljava/lang/Throwable;"⟩ prog_11_method_18_code 1 (some (.object "java/lang/Throwable")) : Cond) ∈ TT := tt_tab 171 rfl rfl
theorem tw_172 : (.methodLink "java/lang/Throwable" 202 ⟨"java/lang/Throwable", "fillInStackTrace", "(I)Ljava/lang/Throwable;"⟩ : Cond) ∈ TT := tt_tab 172 (by decide +kernel) rfl
theorem tw_174 : (.instanceMethod ⟨"java/lang/Throwable", "fillInStackTrace", "(I)Ljava/lang/Throwable;"⟩ : Cond) ∈ TT := tt_tab 174 (by decide +kernel) rfl
theorem tw_175 : (.instantiable "java/lang/Throwable" 6 : Cond) ∈ TT := tt_tab 175 (by decide +kernel) rfl
theorem tw_176 : (.native ⟨"java/lang/Throwable", "fillInStackTrace", "(I)Ljava/lang/Throwable;"⟩ : Cond) ∈ TT := tt_tab 176 (by decide +kernel) rfl
theorem tw_177 : (.methodLink "PatternTree" 22 ⟨"java/lang/IllegalArgumentException", "<init>", "()V"⟩ : Cond) ∈ TT := tt_tab 177 (by decide +kernel) rfl
theorem tw_178 : (.instanceMethod ⟨"java/lang/IllegalArgumentException", "<init>", "()V"⟩ : Cond) ∈ TT := tt_tab 178 (by decide +kernel) rfl
theorem tw_179 : (.code ⟨"java/lang/IllegalArgumentException", "<init>", "()V"⟩ prog_6_method_1_code 1 none : Cond) ∈ TT := tt_tab 179 rfl rfl
theorem tw_180 : (.methodLink "java/lang/IllegalArgumentException" 1 ⟨"java/lang/RuntimeException", "<init>", "()V"⟩ : Cond) ∈ TT := tt_tab 180 (by decide +kernel) rfl
theorem tw_181 : (.instanceMethod ⟨"java/lang/RuntimeException", "<init>", "()V"⟩ : Cond) ∈ TT := tt_tab 181 (by decide +kernel) rfl
theorem tw_182 : (.code ⟨"java/lang/RuntimeException", "<init>", "()V"⟩ prog_10_method_1_code 1 none : Cond) ∈ TT := tt_tab 182 rfl rfl
theorem tw_183 : (.methodLink "java/lang/RuntimeException" 1 ⟨"java/lang/Exception", "<init>", "()V"⟩ : Cond) ∈ TT := tt_tab 183 (by decide +kernel) rfl
theorem tw_184 : (.instanceMethod ⟨"java/lang/Exception", "<init>", "()V"⟩ : Cond) ∈ TT := tt_tab 184 (by decide +kernel) rfl
theorem tw_185 : (.code ⟨"java/lang/Exception", "<init>", "()V"⟩ prog_5_method_1_code 1 none : Cond) ∈ TT := tt_tab 185 rfl rfl
theorem tw_186 : (.methodLink "java/lang/Exception" 1 ⟨"java/lang/Throwable", "<init>", "()V"⟩ : Cond) ∈ TT := tt_tab 186 (by decide +kernel) rfl
theorem tw_187 : (.fieldLink "java/lang/Throwable" 198 "java/lang/Throwable" "backtrace" "Ljava/lang/Object;" : Cond) ∈ TT := tt_tab 187 (by decide +kernel) rfl
theorem tw_188 : (.fieldLink "java/lang/Throwable" 7 "java/lang/Throwable" "cause" "Ljava/lang/Throwable;" : Cond) ∈ TT := tt_tab 188 (by decide +kernel) rfl
theorem tw_189 : (.fieldLink "java/lang/Throwable" 17 "java/lang/Throwable" "stackTrace" "[Ljava/lang/StackTraceElement;" : Cond) ∈ TT := tt_tab 189 (by decide +kernel) rfl
theorem tw_190 : (.fieldLink "java/lang/Throwable" 24 "java/lang/Throwable" "suppressedExceptions" "Ljava/util/List;" : Cond) ∈ TT := tt_tab 190 (by decide +kernel) rfl
theorem tw_195 : (.lays "java/lang/IllegalArgumentException" "java/lang/Throwable" "depth" "I" : Cond) ∈ TT := tt_tab 195 (by decide +kernel) rfl
theorem tw_199 : (.methodLink "PatternTreeLaw" 61 ⟨"PatternTreeLaw", "add", "(LPatternTree;JJ[J)I"⟩ : Cond) ∈ TT := tt_tab 199 (by decide +kernel) rfl
theorem tw_200 : (.static ⟨"PatternTreeLaw", "add", "(LPatternTree;JJ[J)I"⟩ : Cond) ∈ TT := tt_tab 200 (by decide +kernel) rfl
theorem tw_201 : (.codeWith ⟨"PatternTreeLaw", "add", "(LPatternTree;JJ[J)I"⟩ method_4_code 7 (some .int) [(0, 11, 14, 13), (0, 11, 18, 19)] : Cond) ∈ TT := tt_tab 201 rfl rfl
theorem tw_202 : (.classLink "PatternTreeLaw" 19 "java/lang/IllegalStateException" : Cond) ∈ TT := tt_tab 202 (by decide +kernel) rfl
theorem tw_203 : (.methodLink "PatternTreeLaw" 15 ⟨"PatternTree", "add", "(JJ)I"⟩ : Cond) ∈ TT := tt_tab 203 (by decide +kernel) rfl
theorem tw_204 : (.instanceMethod ⟨"PatternTree", "add", "(JJ)I"⟩ : Cond) ∈ TT := tt_tab 204 (by decide +kernel) rfl
theorem tw_205 : (.selects "PatternTree" ⟨"PatternTree", "add", "(JJ)I"⟩ ⟨"PatternTree", "add", "(JJ)I"⟩ : Cond) ∈ TT := tt_tab 205 (by decide +kernel) rfl
theorem tw_206 : (.code ⟨"PatternTree", "add", "(JJ)I"⟩ prog_1_method_8_code 5 (some .int) : Cond) ∈ TT := tt_tab 206 rfl rfl
theorem tw_207 : (.methodLink "PatternTree" 64 ⟨"PatternTree", "isPattern", "(JJ)Z"⟩ : Cond) ∈ TT := tt_tab 207 (by decide +kernel) rfl
theorem tw_209 : (.instanceMethod ⟨"PatternTree", "isPattern", "(JJ)Z"⟩ : Cond) ∈ TT := tt_tab 209 (by decide +kernel) rfl
theorem tw_210 : (.code ⟨"PatternTree", "isPattern", "(JJ)Z"⟩ prog_1_method_7_code 5 (some .boolean) : Cond) ∈ TT := tt_tab 210 rfl rfl
theorem tw_211 : (.constantLong "PatternTree" 58 (-1) : Cond) ∈ TT := tt_tab 211 (by decide +kernel) rfl
theorem tw_212 : (.methodLink "PatternTree" 68 ⟨"PatternTree", "put", "(JJ)I"⟩ : Cond) ∈ TT := tt_tab 212 (by decide +kernel) rfl
theorem tw_214 : (.instanceMethod ⟨"PatternTree", "put", "(JJ)I"⟩ : Cond) ∈ TT := tt_tab 214 (by decide +kernel) rfl
theorem tw_215 : (.code ⟨"PatternTree", "put", "(JJ)I"⟩ prog_1_method_6_code 6 (some .int) : Cond) ∈ TT := tt_tab 215 rfl rfl
theorem tw_216 : (.classLink "PatternTree" 44 "java/lang/IllegalStateException" : Cond) ∈ TT := tt_tab 216 (by decide +kernel) rfl
theorem tw_217 : (.instantiable "java/lang/IllegalStateException" 6 : Cond) ∈ TT := tt_tab 217 (by decide +kernel) rfl
theorem tw_219 : (.selects "java/lang/IllegalStateException" ⟨"java/lang/Throwable", "fillInStackTrace", "(I)Ljava/lang/Throwable;"⟩ ⟨"java/lang/Throwable", "fillInStackTrace", "(I)Ljava/lang/Throwable;"⟩ : Cond) ∈ TT := tt_tab 219 (by decide +kernel) rfl
theorem tw_220 : (.lays "java/lang/IllegalStateException" "java/lang/Throwable" "cause" "Ljava/lang/Throwable;" : Cond) ∈ TT := tt_tab 220 (by decide +kernel) rfl
theorem tw_221 : (.lays "java/lang/IllegalStateException" "java/lang/Throwable" "stackTrace" "[Ljava/lang/StackTraceElement;" : Cond) ∈ TT := tt_tab 221 (by decide +kernel) rfl
theorem tw_222 : (.lays "java/lang/IllegalStateException" "java/lang/Throwable" "suppressedExceptions" "Ljava/util/List;" : Cond) ∈ TT := tt_tab 222 (by decide +kernel) rfl
theorem tw_223 : (.lays "java/lang/IllegalStateException" "java/lang/Throwable" "detailMessage" "Ljava/lang/String;" : Cond) ∈ TT := tt_tab 223 (by decide +kernel) rfl
theorem tw_224 : (.lays "java/lang/IllegalStateException" "java/lang/Throwable" "backtrace" "Ljava/lang/Object;" : Cond) ∈ TT := tt_tab 224 (by decide +kernel) rfl
theorem tw_225 : (.methodLink "PatternTree" 46 ⟨"java/lang/IllegalStateException", "<init>", "()V"⟩ : Cond) ∈ TT := tt_tab 225 (by decide +kernel) rfl
theorem tw_226 : (.instanceMethod ⟨"java/lang/IllegalStateException", "<init>", "()V"⟩ : Cond) ∈ TT := tt_tab 226 (by decide +kernel) rfl
theorem tw_227 : (.code ⟨"java/lang/IllegalStateException", "<init>", "()V"⟩ prog_7_method_1_code 1 none : Cond) ∈ TT := tt_tab 227 rfl rfl
theorem tw_228 : (.methodLink "java/lang/IllegalStateException" 1 ⟨"java/lang/RuntimeException", "<init>", "()V"⟩ : Cond) ∈ TT := tt_tab 228 (by decide +kernel) rfl
theorem tw_229 : (.lays "java/lang/IllegalStateException" "java/lang/Throwable" "depth" "I" : Cond) ∈ TT := tt_tab 229 (by decide +kernel) rfl
theorem tw_231 : (.methodLink "PatternTree" 47 ⟨"PatternTree", "find", "(JJ)I"⟩ : Cond) ∈ TT := tt_tab 231 (by decide +kernel) rfl
theorem tw_233 : (.instanceMethod ⟨"PatternTree", "find", "(JJ)I"⟩ : Cond) ∈ TT := tt_tab 233 (by decide +kernel) rfl
theorem tw_234 : (.code ⟨"PatternTree", "find", "(JJ)I"⟩ prog_1_method_5_code 6 (some .int) : Cond) ∈ TT := tt_tab 234 rfl rfl
theorem tw_235 : (.methodLink "PatternTree" 40 ⟨"PatternTree$Tree", "clashes", "(IJJ)Z"⟩ : Cond) ∈ TT := tt_tab 235 (by decide +kernel) rfl
theorem tw_236 : (.instanceMethod ⟨"PatternTree$Tree", "clashes", "(IJJ)Z"⟩ : Cond) ∈ TT := tt_tab 236 (by decide +kernel) rfl
theorem tw_237 : (.selects "PatternTree$Tree" ⟨"PatternTree$Tree", "clashes", "(IJJ)Z"⟩ ⟨"PatternTree$Tree", "clashes", "(IJJ)Z"⟩ : Cond) ∈ TT := tt_tab 237 (by decide +kernel) rfl
theorem tw_238 : (.code ⟨"PatternTree$Tree", "clashes", "(IJJ)Z"⟩ prog_2_method_4_code 6 (some .boolean) : Cond) ∈ TT := tt_tab 238 rfl rfl
theorem tw_239 : (.methodLink "PatternTreeLaw" 65 ⟨"PatternTreeLaw", "signs", "(LPatternTree;J[J)I"⟩ : Cond) ∈ TT := tt_tab 239 (by decide +kernel) rfl
theorem tw_240 : (.static ⟨"PatternTreeLaw", "signs", "(LPatternTree;J[J)I"⟩ : Cond) ∈ TT := tt_tab 240 (by decide +kernel) rfl
theorem tw_241 : (.codeWith ⟨"PatternTreeLaw", "signs", "(LPatternTree;J[J)I"⟩ method_5_code 5 (some .int) [(0, 9, 12, 13), (0, 9, 16, 19)] : Cond) ∈ TT := tt_tab 241 rfl rfl
theorem tw_242 : (.methodLink "PatternTreeLaw" 21 ⟨"PatternTree", "signs", "(J)I"⟩ : Cond) ∈ TT := tt_tab 242 (by decide +kernel) rfl
theorem tw_243 : (.instanceMethod ⟨"PatternTree", "signs", "(J)I"⟩ : Cond) ∈ TT := tt_tab 243 (by decide +kernel) rfl
theorem tw_244 : (.selects "PatternTree" ⟨"PatternTree", "signs", "(J)I"⟩ ⟨"PatternTree", "signs", "(J)I"⟩ : Cond) ∈ TT := tt_tab 244 (by decide +kernel) rfl
theorem tw_245 : (.code ⟨"PatternTree", "signs", "(J)I"⟩ prog_1_method_9_code 12 (some .int) : Cond) ∈ TT := tt_tab 245 rfl rfl
theorem tw_246 : (.constantLong "PatternTree" 71 3 : Cond) ∈ TT := tt_tab 246 (by decide +kernel) rfl
theorem tw_247 : (.constantLong "PatternTree" 73 2 : Cond) ∈ TT := tt_tab 247 (by decide +kernel) rfl
theorem tw_248 : (.methodLink "PatternTreeLaw" 69 ⟨"PatternTreeLaw", "drop", "(LPatternTree;I)I"⟩ : Cond) ∈ TT := tt_tab 248 (by decide +kernel) rfl
theorem tw_249 : (.static ⟨"PatternTreeLaw", "drop", "(LPatternTree;I)I"⟩ : Cond) ∈ TT := tt_tab 249 (by decide +kernel) rfl
theorem tw_250 : (.codeWith ⟨"PatternTreeLaw", "drop", "(LPatternTree;I)I"⟩ method_6_code 3 (some .int) [(0, 5, 8, 28)] : Cond) ∈ TT := tt_tab 250 rfl rfl
theorem tw_251 : (.classLink "PatternTreeLaw" 28 "java/util/NoSuchElementException" : Cond) ∈ TT := tt_tab 251 (by decide +kernel) rfl
theorem tw_252 : (.methodLink "PatternTreeLaw" 25 ⟨"PatternTree", "drop", "(I)V"⟩ : Cond) ∈ TT := tt_tab 252 (by decide +kernel) rfl
theorem tw_253 : (.instanceMethod ⟨"PatternTree", "drop", "(I)V"⟩ : Cond) ∈ TT := tt_tab 253 (by decide +kernel) rfl
theorem tw_254 : (.selects "PatternTree" ⟨"PatternTree", "drop", "(I)V"⟩ ⟨"PatternTree", "drop", "(I)V"⟩ : Cond) ∈ TT := tt_tab 254 (by decide +kernel) rfl
theorem tw_255 : (.code ⟨"PatternTree", "drop", "(I)V"⟩ prog_1_method_10_code 3 none : Cond) ∈ TT := tt_tab 255 rfl rfl
theorem tw_256 : (.methodLink "PatternTree" 75 ⟨"PatternTree", "there", "(Z)V"⟩ : Cond) ∈ TT := tt_tab 256 (by decide +kernel) rfl
theorem tw_257 : (.static ⟨"PatternTree", "there", "(Z)V"⟩ : Cond) ∈ TT := tt_tab 257 (by decide +kernel) rfl
theorem tw_258 : (.code ⟨"PatternTree", "there", "(Z)V"⟩ prog_1_method_3_code 1 none : Cond) ∈ TT := tt_tab 258 rfl rfl
theorem tw_259 : (.classLink "PatternTree" 23 "java/util/NoSuchElementException" : Cond) ∈ TT := tt_tab 259 (by decide +kernel) rfl
theorem tw_260 : (.instantiable "java/util/NoSuchElementException" 6 : Cond) ∈ TT := tt_tab 260 (by decide +kernel) rfl
theorem tw_262 : (.selects "java/util/NoSuchElementException" ⟨"java/lang/Throwable", "fillInStackTrace", "(I)Ljava/lang/Throwable;"⟩ ⟨"java/lang/Throwable", "fillInStackTrace", "(I)Ljava/lang/Throwable;"⟩ : Cond) ∈ TT := tt_tab 262 (by decide +kernel) rfl
theorem tw_263 : (.lays "java/util/NoSuchElementException" "java/lang/Throwable" "cause" "Ljava/lang/Throwable;" : Cond) ∈ TT := tt_tab 263 (by decide +kernel) rfl
theorem tw_264 : (.lays "java/util/NoSuchElementException" "java/lang/Throwable" "stackTrace" "[Ljava/lang/StackTraceElement;" : Cond) ∈ TT := tt_tab 264 (by decide +kernel) rfl
theorem tw_265 : (.lays "java/util/NoSuchElementException" "java/lang/Throwable" "suppressedExceptions" "Ljava/util/List;" : Cond) ∈ TT := tt_tab 265 (by decide +kernel) rfl
theorem tw_266 : (.lays "java/util/NoSuchElementException" "java/lang/Throwable" "detailMessage" "Ljava/lang/String;" : Cond) ∈ TT := tt_tab 266 (by decide +kernel) rfl
theorem tw_267 : (.lays "java/util/NoSuchElementException" "java/lang/Throwable" "backtrace" "Ljava/lang/Object;" : Cond) ∈ TT := tt_tab 267 (by decide +kernel) rfl
theorem tw_268 : (.methodLink "PatternTree" 25 ⟨"java/util/NoSuchElementException", "<init>", "()V"⟩ : Cond) ∈ TT := tt_tab 268 (by decide +kernel) rfl
theorem tw_269 : (.instanceMethod ⟨"java/util/NoSuchElementException", "<init>", "()V"⟩ : Cond) ∈ TT := tt_tab 269 (by decide +kernel) rfl
theorem tw_270 : (.code ⟨"java/util/NoSuchElementException", "<init>", "()V"⟩ prog_12_method_1_code 1 none : Cond) ∈ TT := tt_tab 270 rfl rfl
theorem tw_271 : (.methodLink "java/util/NoSuchElementException" 1 ⟨"java/lang/RuntimeException", "<init>", "()V"⟩ : Cond) ∈ TT := tt_tab 271 (by decide +kernel) rfl
theorem tw_272 : (.lays "java/util/NoSuchElementException" "java/lang/Throwable" "depth" "I" : Cond) ∈ TT := tt_tab 272 (by decide +kernel) rfl
theorem tw_274 : (.methodLink "PatternTreeLaw" 76 ⟨"PatternTreeLaw", "meets", "(LPatternTree;JJ[J)I"⟩ : Cond) ∈ TT := tt_tab 274 (by decide +kernel) rfl
theorem tw_275 : (.static ⟨"PatternTreeLaw", "meets", "(LPatternTree;JJ[J)I"⟩ : Cond) ∈ TT := tt_tab 275 (by decide +kernel) rfl
theorem tw_276 : (.codeWith ⟨"PatternTreeLaw", "meets", "(LPatternTree;JJ[J)I"⟩ method_7_code 7 (some .int) [(0, 11, 14, 13)] : Cond) ∈ TT := tt_tab 276 rfl rfl
theorem tw_277 : (.methodLink "PatternTreeLaw" 30 ⟨"PatternTree", "meets", "(JJ)I"⟩ : Cond) ∈ TT := tt_tab 277 (by decide +kernel) rfl
theorem tw_278 : (.instanceMethod ⟨"PatternTree", "meets", "(JJ)I"⟩ : Cond) ∈ TT := tt_tab 278 (by decide +kernel) rfl
theorem tw_279 : (.selects "PatternTree" ⟨"PatternTree", "meets", "(JJ)I"⟩ ⟨"PatternTree", "meets", "(JJ)I"⟩ : Cond) ∈ TT := tt_tab 279 (by decide +kernel) rfl
theorem tw_280 : (.code ⟨"PatternTree", "meets", "(JJ)I"⟩ prog_1_method_13_code 5 (some .int) : Cond) ∈ TT := tt_tab 280 rfl rfl
theorem tw_281 : (.methodLink "PatternTreeLaw" 79 ⟨"PatternTreeLaw", "free", "(LPatternTree;JJ[J)I"⟩ : Cond) ∈ TT := tt_tab 281 (by decide +kernel) rfl
theorem tw_282 : (.static ⟨"PatternTreeLaw", "free", "(LPatternTree;JJ[J)I"⟩ : Cond) ∈ TT := tt_tab 282 (by decide +kernel) rfl
theorem tw_283 : (.codeWith ⟨"PatternTreeLaw", "free", "(LPatternTree;JJ[J)I"⟩ method_8_code 7 (some .int) [(0, 10, 13, 13)] : Cond) ∈ TT := tt_tab 283 rfl rfl
theorem tw_284 : (.methodLink "PatternTreeLaw" 33 ⟨"PatternTree", "free", "(JJ)J"⟩ : Cond) ∈ TT := tt_tab 284 (by decide +kernel) rfl
theorem tw_285 : (.instanceMethod ⟨"PatternTree", "free", "(JJ)J"⟩ : Cond) ∈ TT := tt_tab 285 (by decide +kernel) rfl
theorem tw_286 : (.selects "PatternTree" ⟨"PatternTree", "free", "(JJ)J"⟩ ⟨"PatternTree", "free", "(JJ)J"⟩ : Cond) ∈ TT := tt_tab 286 (by decide +kernel) rfl
theorem tw_287 : (.code ⟨"PatternTree", "free", "(JJ)J"⟩ prog_1_method_16_code 5 (some .long) : Cond) ∈ TT := tt_tab 287 rfl rfl
theorem tw_288 : (.methodLink "PatternTree" 96 ⟨"PatternTree", "open", "(JJ)J"⟩ : Cond) ∈ TT := tt_tab 288 (by decide +kernel) rfl
theorem tw_290 : (.instanceMethod ⟨"PatternTree", "open", "(JJ)J"⟩ : Cond) ∈ TT := tt_tab 290 (by decide +kernel) rfl
theorem tw_291 : (.code ⟨"PatternTree", "open", "(JJ)J"⟩ prog_1_method_15_code 8 (some .long) : Cond) ∈ TT := tt_tab 291 rfl rfl
theorem tw_292 : (.methodLink "PatternTree" 92 ⟨"PatternTree", "size", "(J)J"⟩ : Cond) ∈ TT := tt_tab 292 (by decide +kernel) rfl
theorem tw_294 : (.instanceMethod ⟨"PatternTree", "size", "(J)J"⟩ : Cond) ∈ TT := tt_tab 294 (by decide +kernel) rfl
theorem tw_295 : (.code ⟨"PatternTree", "size", "(J)J"⟩ prog_1_method_14_code 4 (some .long) : Cond) ∈ TT := tt_tab 295 rfl rfl
theorem tw_296 : (.methodLink "PatternTree" 87 ⟨"java/lang/Long", "bitCount", "(J)I"⟩ : Cond) ∈ TT := tt_tab 296 (by decide +kernel) rfl
theorem tw_297 : (.static ⟨"java/lang/Long", "bitCount", "(J)I"⟩ : Cond) ∈ TT := tt_tab 297 (by decide +kernel) rfl
theorem tw_298 : (.code ⟨"java/lang/Long", "bitCount", "(J)I"⟩ prog_8_method_50_code 2 (some .int) : Cond) ∈ TT := tt_tab 298 rfl rfl
theorem tw_299 : (.constantLong "java/lang/Long" 314 6148914691236517205 : Cond) ∈ TT := tt_tab 299 (by decide +kernel) rfl
theorem tw_300 : (.constantLong "java/lang/Long" 316 3689348814741910323 : Cond) ∈ TT := tt_tab 300 (by decide +kernel) rfl
theorem tw_301 : (.constantLong "java/lang/Long" 318 1085102592571150095 : Cond) ∈ TT := tt_tab 301 (by decide +kernel) rfl
theorem tw_302 : (.methodLink "PatternTreeLaw" 82 ⟨"PatternTreeLaw", "next", "(LPatternTree;J[J)I"⟩ : Cond) ∈ TT := tt_tab 302 (by decide +kernel) rfl
theorem tw_303 : (.static ⟨"PatternTreeLaw", "next", "(LPatternTree;J[J)I"⟩ : Cond) ∈ TT := tt_tab 303 (by decide +kernel) rfl
theorem tw_304 : (.codeWith ⟨"PatternTreeLaw", "next", "(LPatternTree;J[J)I"⟩ method_9_code 5 (some .int) [(0, 8, 11, 28)] : Cond) ∈ TT := tt_tab 304 rfl rfl
theorem tw_305 : (.methodLink "PatternTreeLaw" 37 ⟨"PatternTree", "next", "(J)J"⟩ : Cond) ∈ TT := tt_tab 305 (by decide +kernel) rfl
theorem tw_306 : (.instanceMethod ⟨"PatternTree", "next", "(J)J"⟩ : Cond) ∈ TT := tt_tab 306 (by decide +kernel) rfl
theorem tw_307 : (.selects "PatternTree" ⟨"PatternTree", "next", "(J)J"⟩ ⟨"PatternTree", "next", "(J)J"⟩ : Cond) ∈ TT := tt_tab 307 (by decide +kernel) rfl
theorem tw_308 : (.code ⟨"PatternTree", "next", "(J)J"⟩ prog_1_method_19_code 10 (some .long) : Cond) ∈ TT := tt_tab 308 rfl rfl
theorem tw_309 : (.methodLink "PatternTree" 100 ⟨"PatternTree", "any", "(JJ)Z"⟩ : Cond) ∈ TT := tt_tab 309 (by decide +kernel) rfl
theorem tw_311 : (.instanceMethod ⟨"PatternTree", "any", "(JJ)Z"⟩ : Cond) ∈ TT := tt_tab 311 (by decide +kernel) rfl
theorem tw_312 : (.code ⟨"PatternTree", "any", "(JJ)Z"⟩ prog_1_method_17_code 5 (some .boolean) : Cond) ∈ TT := tt_tab 312 rfl rfl
theorem tw_313 : (.methodLink "PatternTree" 103 ⟨"PatternTree", "least", "(JJI)J"⟩ : Cond) ∈ TT := tt_tab 313 (by decide +kernel) rfl
theorem tw_315 : (.instanceMethod ⟨"PatternTree", "least", "(JJI)J"⟩ : Cond) ∈ TT := tt_tab 315 (by decide +kernel) rfl
theorem tw_316 : (.code ⟨"PatternTree", "least", "(JJI)J"⟩ prog_1_method_18_code 11 (some .long) : Cond) ∈ TT := tt_tab 316 rfl rfl
theorem tw_317 : (.methodLink "PatternTreeLaw" 85 ⟨"PatternTreeLaw", "told", "(LPatternTree;II[J)I"⟩ : Cond) ∈ TT := tt_tab 317 (by decide +kernel) rfl
theorem tw_318 : (.static ⟨"PatternTreeLaw", "told", "(LPatternTree;II[J)I"⟩ : Cond) ∈ TT := tt_tab 318 (by decide +kernel) rfl
theorem tw_319 : (.codeWith ⟨"PatternTreeLaw", "told", "(LPatternTree;II[J)I"⟩ method_10_code 5 (some .int) [(0, 9, 12, 13), (0, 9, 16, 28)] : Cond) ∈ TT := tt_tab 319 rfl rfl
theorem tw_320 : (.methodLink "PatternTreeLaw" 41 ⟨"PatternTree", "told", "(II)J"⟩ : Cond) ∈ TT := tt_tab 320 (by decide +kernel) rfl
theorem tw_321 : (.instanceMethod ⟨"PatternTree", "told", "(II)J"⟩ : Cond) ∈ TT := tt_tab 321 (by decide +kernel) rfl
theorem tw_322 : (.selects "PatternTree" ⟨"PatternTree", "told", "(II)J"⟩ ⟨"PatternTree", "told", "(II)J"⟩ : Cond) ∈ TT := tt_tab 322 (by decide +kernel) rfl
theorem tw_323 : (.code ⟨"PatternTree", "told", "(II)J"⟩ prog_1_method_20_code 3 (some .long) : Cond) ∈ TT := tt_tab 323 rfl rfl
theorem tw_324 : (.classLink "PatternTreeLaw" 46 "PatternTreeModel" : Cond) ∈ TT := tt_tab 324 (by decide +kernel) rfl
theorem tw_325 : (.instantiable "PatternTreeModel" 7 : Cond) ∈ TT := tt_tab 325 (by decide +kernel) rfl
theorem tw_326 : (.methodLink "PatternTreeLaw" 48 ⟨"PatternTreeModel", "<init>", "()V"⟩ : Cond) ∈ TT := tt_tab 326 (by decide +kernel) rfl
theorem tw_327 : (.instanceMethod ⟨"PatternTreeModel", "<init>", "()V"⟩ : Cond) ∈ TT := tt_tab 327 (by decide +kernel) rfl
theorem tw_328 : (.code ⟨"PatternTreeModel", "<init>", "()V"⟩ prog_4_method_1_code 1 none : Cond) ∈ TT := tt_tab 328 rfl rfl
theorem tw_329 : (.methodLink "PatternTreeModel" 1 ⟨"java/lang/Object", "<init>", "()V"⟩ : Cond) ∈ TT := tt_tab 329 (by decide +kernel) rfl
theorem tw_330 : (.fieldLink "PatternTreeModel" 7 "PatternTreeModel" "care" "[J" : Cond) ∈ TT := tt_tab 330 (by decide +kernel) rfl
theorem tw_331 : (.fieldLink "PatternTreeModel" 13 "PatternTreeModel" "want" "[J" : Cond) ∈ TT := tt_tab 331 (by decide +kernel) rfl
theorem tw_332 : (.fieldLink "PatternTreeModel" 32 "PatternTreeModel" "many" "I" : Cond) ∈ TT := tt_tab 332 (by decide +kernel) rfl
theorem tw_333 : (.fieldLink "PatternTreeModel" 16 "PatternTreeModel" "length" "I" : Cond) ∈ TT := tt_tab 333 (by decide +kernel) rfl
theorem tw_334 : (.fieldLink "PatternTreeModel" 20 "PatternTreeModel" "clash" "I" : Cond) ∈ TT := tt_tab 334 (by decide +kernel) rfl
theorem tw_335 : (.fieldLink "PatternTreeModel" 58 "PatternTreeModel" "beyond" "I" : Cond) ∈ TT := tt_tab 335 (by decide +kernel) rfl
theorem tw_336 : (.fieldLink "PatternTreeModel" 23 "PatternTreeModel" "thrown" "I" : Cond) ∈ TT := tt_tab 336 (by decide +kernel) rfl
theorem tw_337 : (.laysFinal "PatternTreeModel" "PatternTreeModel" "care" "[J" : Cond) ∈ TT := tt_tab 337 (by decide +kernel) rfl
theorem tw_339 : (.laysFinal "PatternTreeModel" "PatternTreeModel" "want" "[J" : Cond) ∈ TT := tt_tab 339 (by decide +kernel) rfl
theorem tw_341 : (.lays "PatternTreeModel" "PatternTreeModel" "many" "I" : Cond) ∈ TT := tt_tab 341 (by decide +kernel) rfl
theorem tw_343 : (.lays "PatternTreeModel" "PatternTreeModel" "length" "I" : Cond) ∈ TT := tt_tab 343 (by decide +kernel) rfl
theorem tw_345 : (.lays "PatternTreeModel" "PatternTreeModel" "clash" "I" : Cond) ∈ TT := tt_tab 345 (by decide +kernel) rfl
theorem tw_347 : (.lays "PatternTreeModel" "PatternTreeModel" "beyond" "I" : Cond) ∈ TT := tt_tab 347 (by decide +kernel) rfl
theorem tw_349 : (.lays "PatternTreeModel" "PatternTreeModel" "thrown" "I" : Cond) ∈ TT := tt_tab 349 (by decide +kernel) rfl
theorem tw_352 : (.methodLink "PatternTreeLaw" 55 ⟨"PatternTreeModel", "thrown", "()I"⟩ : Cond) ∈ TT := tt_tab 352 (by decide +kernel) rfl
theorem tw_353 : (.instanceMethod ⟨"PatternTreeModel", "thrown", "()I"⟩ : Cond) ∈ TT := tt_tab 353 (by decide +kernel) rfl
theorem tw_354 : (.selects "PatternTreeModel" ⟨"PatternTreeModel", "thrown", "()I"⟩ ⟨"PatternTreeModel", "thrown", "()I"⟩ : Cond) ∈ TT := tt_tab 354 (by decide +kernel) rfl
theorem tw_355 : (.code ⟨"PatternTreeModel", "thrown", "()I"⟩ prog_4_method_2_code 1 (some .int) : Cond) ∈ TT := tt_tab 355 rfl rfl
theorem tw_356 : (.methodLink "PatternTreeLaw" 54 ⟨"PatternTreeModel", "clear", "(I)V"⟩ : Cond) ∈ TT := tt_tab 356 (by decide +kernel) rfl
theorem tw_357 : (.instanceMethod ⟨"PatternTreeModel", "clear", "(I)V"⟩ : Cond) ∈ TT := tt_tab 357 (by decide +kernel) rfl
theorem tw_358 : (.selects "PatternTreeModel" ⟨"PatternTreeModel", "clear", "(I)V"⟩ ⟨"PatternTreeModel", "clear", "(I)V"⟩ : Cond) ∈ TT := tt_tab 358 (by decide +kernel) rfl
theorem tw_359 : (.code ⟨"PatternTreeModel", "clear", "(I)V"⟩ prog_4_method_10_code 2 none : Cond) ∈ TT := tt_tab 359 rfl rfl
theorem tw_360 : (.methodLink "PatternTreeModel" 39 ⟨"PatternTreeModel", "fail", "(I)I"⟩ : Cond) ∈ TT := tt_tab 360 (by decide +kernel) rfl
theorem tw_362 : (.instanceMethod ⟨"PatternTreeModel", "fail", "(I)I"⟩ : Cond) ∈ TT := tt_tab 362 (by decide +kernel) rfl
theorem tw_363 : (.code ⟨"PatternTreeModel", "fail", "(I)I"⟩ prog_4_method_3_code 2 (some .int) : Cond) ∈ TT := tt_tab 363 rfl rfl
theorem tw_364 : (.methodLink "PatternTreeLaw" 64 ⟨"PatternTreeModel", "add", "(JJ)I"⟩ : Cond) ∈ TT := tt_tab 364 (by decide +kernel) rfl
theorem tw_365 : (.instanceMethod ⟨"PatternTreeModel", "add", "(JJ)I"⟩ : Cond) ∈ TT := tt_tab 365 (by decide +kernel) rfl
theorem tw_366 : (.selects "PatternTreeModel" ⟨"PatternTreeModel", "add", "(JJ)I"⟩ ⟨"PatternTreeModel", "add", "(JJ)I"⟩ : Cond) ∈ TT := tt_tab 366 (by decide +kernel) rfl
theorem tw_367 : (.code ⟨"PatternTreeModel", "add", "(JJ)I"⟩ prog_4_method_11_code 6 (some .int) : Cond) ∈ TT := tt_tab 367 rfl rfl
theorem tw_368 : (.methodLink "PatternTreeModel" 43 ⟨"PatternTreeModel", "wrong", "(JJ)Z"⟩ : Cond) ∈ TT := tt_tab 368 (by decide +kernel) rfl
theorem tw_370 : (.instanceMethod ⟨"PatternTreeModel", "wrong", "(JJ)Z"⟩ : Cond) ∈ TT := tt_tab 370 (by decide +kernel) rfl
theorem tw_371 : (.code ⟨"PatternTreeModel", "wrong", "(JJ)Z"⟩ prog_4_method_7_code 5 (some .boolean) : Cond) ∈ TT := tt_tab 371 rfl rfl
theorem tw_372 : (.constantLong "PatternTreeModel" 26 (-1) : Cond) ∈ TT := tt_tab 372 (by decide +kernel) rfl
theorem tw_373 : (.methodLink "PatternTreeModel" 28 ⟨"PatternTreeModel", "mask", "()J"⟩ : Cond) ∈ TT := tt_tab 373 (by decide +kernel) rfl
theorem tw_375 : (.instanceMethod ⟨"PatternTreeModel", "mask", "()J"⟩ : Cond) ∈ TT := tt_tab 375 (by decide +kernel) rfl
theorem tw_376 : (.code ⟨"PatternTreeModel", "mask", "()J"⟩ prog_4_method_4_code 1 (some .long) : Cond) ∈ TT := tt_tab 376 rfl rfl
theorem tw_377 : (.methodLink "PatternTreeModel" 47 ⟨"PatternTreeModel", "first", "(JJ)I"⟩ : Cond) ∈ TT := tt_tab 377 (by decide +kernel) rfl
theorem tw_379 : (.instanceMethod ⟨"PatternTreeModel", "first", "(JJ)I"⟩ : Cond) ∈ TT := tt_tab 379 (by decide +kernel) rfl
theorem tw_380 : (.code ⟨"PatternTreeModel", "first", "(JJ)I"⟩ prog_4_method_9_code 6 (some .int) : Cond) ∈ TT := tt_tab 380 rfl rfl
theorem tw_381 : (.methodLink "PatternTreeModel" 35 ⟨"PatternTreeModel", "meet", "(IJJ)Z"⟩ : Cond) ∈ TT := tt_tab 381 (by decide +kernel) rfl
theorem tw_383 : (.instanceMethod ⟨"PatternTreeModel", "meet", "(IJJ)Z"⟩ : Cond) ∈ TT := tt_tab 383 (by decide +kernel) rfl
theorem tw_384 : (.code ⟨"PatternTreeModel", "meet", "(IJJ)Z"⟩ prog_4_method_8_code 6 (some .boolean) : Cond) ∈ TT := tt_tab 384 rfl rfl
theorem tw_385 : (.methodLink "PatternTreeLaw" 68 ⟨"PatternTreeModel", "signs", "(J)I"⟩ : Cond) ∈ TT := tt_tab 385 (by decide +kernel) rfl
theorem tw_386 : (.instanceMethod ⟨"PatternTreeModel", "signs", "(J)I"⟩ : Cond) ∈ TT := tt_tab 386 (by decide +kernel) rfl
theorem tw_387 : (.selects "PatternTreeModel" ⟨"PatternTreeModel", "signs", "(J)I"⟩ ⟨"PatternTreeModel", "signs", "(J)I"⟩ : Cond) ∈ TT := tt_tab 387 (by decide +kernel) rfl
theorem tw_388 : (.code ⟨"PatternTreeModel", "signs", "(J)I"⟩ prog_4_method_12_code 12 (some .int) : Cond) ∈ TT := tt_tab 388 rfl rfl
theorem tw_389 : (.constantLong "PatternTreeModel" 51 3 : Cond) ∈ TT := tt_tab 389 (by decide +kernel) rfl
theorem tw_390 : (.constantLong "PatternTreeModel" 53 2 : Cond) ∈ TT := tt_tab 390 (by decide +kernel) rfl
theorem tw_391 : (.methodLink "PatternTreeModel" 55 ⟨"PatternTreeModel", "add", "(JJ)I"⟩ : Cond) ∈ TT := tt_tab 391 (by decide +kernel) rfl
theorem tw_392 : (.methodLink "PatternTreeLaw" 71 ⟨"PatternTreeModel", "drop", "(I)V"⟩ : Cond) ∈ TT := tt_tab 392 (by decide +kernel) rfl
theorem tw_393 : (.instanceMethod ⟨"PatternTreeModel", "drop", "(I)V"⟩ : Cond) ∈ TT := tt_tab 393 (by decide +kernel) rfl
theorem tw_394 : (.selects "PatternTreeModel" ⟨"PatternTreeModel", "drop", "(I)V"⟩ ⟨"PatternTreeModel", "drop", "(I)V"⟩ : Cond) ∈ TT := tt_tab 394 (by decide +kernel) rfl
theorem tw_395 : (.code ⟨"PatternTreeModel", "drop", "(I)V"⟩ prog_4_method_13_code 3 none : Cond) ∈ TT := tt_tab 395 rfl rfl
theorem tw_396 : (.methodLink "PatternTreeLaw" 75 ⟨"PatternTreeModel", "decode", "(J)I"⟩ : Cond) ∈ TT := tt_tab 396 (by decide +kernel) rfl
theorem tw_397 : (.instanceMethod ⟨"PatternTreeModel", "decode", "(J)I"⟩ : Cond) ∈ TT := tt_tab 397 (by decide +kernel) rfl
theorem tw_398 : (.selects "PatternTreeModel" ⟨"PatternTreeModel", "decode", "(J)I"⟩ ⟨"PatternTreeModel", "decode", "(J)I"⟩ : Cond) ∈ TT := tt_tab 398 (by decide +kernel) rfl
theorem tw_399 : (.code ⟨"PatternTreeModel", "decode", "(J)I"⟩ prog_4_method_14_code 6 (some .int) : Cond) ∈ TT := tt_tab 399 rfl rfl
theorem tw_400 : (.methodLink "PatternTreeLaw" 78 ⟨"PatternTreeModel", "meets", "(JJ)I"⟩ : Cond) ∈ TT := tt_tab 400 (by decide +kernel) rfl
theorem tw_401 : (.instanceMethod ⟨"PatternTreeModel", "meets", "(JJ)I"⟩ : Cond) ∈ TT := tt_tab 401 (by decide +kernel) rfl
theorem tw_402 : (.selects "PatternTreeModel" ⟨"PatternTreeModel", "meets", "(JJ)I"⟩ ⟨"PatternTreeModel", "meets", "(JJ)I"⟩ : Cond) ∈ TT := tt_tab 402 (by decide +kernel) rfl
theorem tw_403 : (.code ⟨"PatternTreeModel", "meets", "(JJ)I"⟩ prog_4_method_15_code 5 (some .int) : Cond) ∈ TT := tt_tab 403 rfl rfl
theorem tw_404 : (.methodLink "PatternTreeLaw" 81 ⟨"PatternTreeModel", "free", "(JJ)J"⟩ : Cond) ∈ TT := tt_tab 404 (by decide +kernel) rfl
theorem tw_405 : (.instanceMethod ⟨"PatternTreeModel", "free", "(JJ)J"⟩ : Cond) ∈ TT := tt_tab 405 (by decide +kernel) rfl
theorem tw_406 : (.selects "PatternTreeModel" ⟨"PatternTreeModel", "free", "(JJ)J"⟩ ⟨"PatternTreeModel", "free", "(JJ)J"⟩ : Cond) ∈ TT := tt_tab 406 (by decide +kernel) rfl
theorem tw_407 : (.code ⟨"PatternTreeModel", "free", "(JJ)J"⟩ prog_4_method_17_code 5 (some .long) : Cond) ∈ TT := tt_tab 407 rfl rfl
theorem tw_408 : (.methodLink "PatternTreeModel" 69 ⟨"PatternTreeModel", "none", "(JJ)J"⟩ : Cond) ∈ TT := tt_tab 408 (by decide +kernel) rfl
theorem tw_410 : (.instanceMethod ⟨"PatternTreeModel", "none", "(JJ)J"⟩ : Cond) ∈ TT := tt_tab 410 (by decide +kernel) rfl
theorem tw_411 : (.code ⟨"PatternTreeModel", "none", "(JJ)J"⟩ prog_4_method_16_code 8 (some .long) : Cond) ∈ TT := tt_tab 411 rfl rfl
theorem tw_412 : (.methodLink "PatternTreeModel" 61 ⟨"PatternTreeModel", "bits", "(J)I"⟩ : Cond) ∈ TT := tt_tab 412 (by decide +kernel) rfl
theorem tw_413 : (.static ⟨"PatternTreeModel", "bits", "(J)I"⟩ : Cond) ∈ TT := tt_tab 413 (by decide +kernel) rfl
theorem tw_414 : (.code ⟨"PatternTreeModel", "bits", "(J)I"⟩ prog_4_method_5_code 4 (some .int) : Cond) ∈ TT := tt_tab 414 rfl rfl
theorem tw_415 : (.methodLink "PatternTreeModel" 65 ⟨"PatternTreeModel", "power", "(I)J"⟩ : Cond) ∈ TT := tt_tab 415 (by decide +kernel) rfl
theorem tw_416 : (.static ⟨"PatternTreeModel", "power", "(I)J"⟩ : Cond) ∈ TT := tt_tab 416 (by decide +kernel) rfl
theorem tw_417 : (.code ⟨"PatternTreeModel", "power", "(I)J"⟩ prog_4_method_6_code 1 (some .long) : Cond) ∈ TT := tt_tab 417 rfl rfl
theorem tw_418 : (.methodLink "PatternTreeLaw" 84 ⟨"PatternTreeModel", "next", "(J)J"⟩ : Cond) ∈ TT := tt_tab 418 (by decide +kernel) rfl
theorem tw_419 : (.instanceMethod ⟨"PatternTreeModel", "next", "(J)J"⟩ : Cond) ∈ TT := tt_tab 419 (by decide +kernel) rfl
theorem tw_420 : (.selects "PatternTreeModel" ⟨"PatternTreeModel", "next", "(J)J"⟩ ⟨"PatternTreeModel", "next", "(J)J"⟩ : Cond) ∈ TT := tt_tab 420 (by decide +kernel) rfl
theorem tw_421 : (.code ⟨"PatternTreeModel", "next", "(J)J"⟩ prog_4_method_19_code 13 (some .long) : Cond) ∈ TT := tt_tab 421 rfl rfl
theorem tw_422 : (.methodLink "PatternTreeModel" 73 ⟨"PatternTreeModel", "some", "(JJ)Z"⟩ : Cond) ∈ TT := tt_tab 422 (by decide +kernel) rfl
theorem tw_424 : (.instanceMethod ⟨"PatternTreeModel", "some", "(JJ)Z"⟩ : Cond) ∈ TT := tt_tab 424 (by decide +kernel) rfl
theorem tw_425 : (.code ⟨"PatternTreeModel", "some", "(JJ)Z"⟩ prog_4_method_18_code 5 (some .boolean) : Cond) ∈ TT := tt_tab 425 rfl rfl
theorem tw_426 : (.methodLink "PatternTreeLaw" 88 ⟨"PatternTreeModel", "told", "(II)J"⟩ : Cond) ∈ TT := tt_tab 426 (by decide +kernel) rfl
theorem tw_427 : (.instanceMethod ⟨"PatternTreeModel", "told", "(II)J"⟩ : Cond) ∈ TT := tt_tab 427 (by decide +kernel) rfl
theorem tw_428 : (.selects "PatternTreeModel" ⟨"PatternTreeModel", "told", "(II)J"⟩ ⟨"PatternTreeModel", "told", "(II)J"⟩ : Cond) ∈ TT := tt_tab 428 (by decide +kernel) rfl
theorem tw_429 : (.code ⟨"PatternTreeModel", "told", "(II)J"⟩ prog_4_method_20_code 3 (some .long) : Cond) ∈ TT := tt_tab 429 rfl rfl
theorem tw_430 : (.methodLink "PatternTreeLaw" 93 ⟨"PatternTreeModel", "count", "(I)I"⟩ : Cond) ∈ TT := tt_tab 430 (by decide +kernel) rfl
theorem tw_431 : (.instanceMethod ⟨"PatternTreeModel", "count", "(I)I"⟩ : Cond) ∈ TT := tt_tab 431 (by decide +kernel) rfl
theorem tw_432 : (.selects "PatternTreeModel" ⟨"PatternTreeModel", "count", "(I)I"⟩ ⟨"PatternTreeModel", "count", "(I)I"⟩ : Cond) ∈ TT := tt_tab 432 (by decide +kernel) rfl
theorem tw_433 : (.code ⟨"PatternTreeModel", "count", "(I)I"⟩ prog_4_method_21_code 2 (some .int) : Cond) ∈ TT := tt_tab 433 rfl rfl
theorem tw_434 : (.constantLong "PatternTreeLaw" 59 4294967295 : Cond) ∈ TT := tt_tab 434 (by decide +kernel) rfl
theorem tw_435 : (.sameMethod "java/lang/Throwable" "java/lang/Throwable" "fillInStackTrace" "(I)Ljava/lang/Throwable;" : Cond) ∈ TT := tt_tab 435 (by decide +kernel) rfl
end
section
theorem dd_TR_init_0 : decode bb_TR_init 0 = .ok (.aload_n 0, 1) := by decide +kernel
theorem dd_TR_init_1 : decode bb_TR_init 1 = .ok (.invokespecial 1, 3) := by decide +kernel
theorem dd_TR_init_4 : decode bb_TR_init 4 = .ok (.aload_n 0, 1) := by decide +kernel
theorem dd_TR_init_5 : decode bb_TR_init 5 = .ok (.bipush 32, 2) := by decide +kernel
theorem dd_TR_init_7 : decode bb_TR_init 7 = .ok (.putfield 7, 3) := by decide +kernel
theorem dd_TR_init_10 : decode bb_TR_init 10 = .ok (.aload_n 0, 1) := by decide +kernel
theorem dd_TR_init_11 : decode bb_TR_init 11 = .ok (.sipush 512, 3) := by decide +kernel
theorem dd_TR_init_14 : decode bb_TR_init 14 = .ok (.newarray .long, 2) := by decide +kernel
theorem dd_TR_init_16 : decode bb_TR_init 16 = .ok (.putfield 13, 3) := by decide +kernel
theorem dd_TR_init_19 : decode bb_TR_init 19 = .ok (.aload_n 0, 1) := by decide +kernel
theorem dd_TR_init_20 : decode bb_TR_init 20 = .ok (.sipush 512, 3) := by decide +kernel
theorem dd_TR_init_23 : decode bb_TR_init 23 = .ok (.newarray .long, 2) := by decide +kernel
theorem dd_TR_init_25 : decode bb_TR_init 25 = .ok (.putfield 17, 3) := by decide +kernel
theorem dd_TR_init_28 : decode bb_TR_init 28 = .ok (.aload_n 0, 1) := by decide +kernel
theorem dd_TR_init_29 : decode bb_TR_init 29 = .ok (.sipush 2048, 3) := by decide +kernel
theorem dd_TR_init_32 : decode bb_TR_init 32 = .ok (.newarray .int, 2) := by decide +kernel
theorem dd_TR_init_34 : decode bb_TR_init 34 = .ok (.putfield 20, 3) := by decide +kernel
theorem dd_TR_init_37 : decode bb_TR_init 37 = .ok (.aload_n 0, 1) := by decide +kernel
theorem dd_TR_init_38 : decode bb_TR_init 38 = .ok (.sipush 2048, 3) := by decide +kernel
theorem dd_TR_init_41 : decode bb_TR_init 41 = .ok (.newarray .int, 2) := by decide +kernel
theorem dd_TR_init_43 : decode bb_TR_init 43 = .ok (.putfield 24, 3) := by decide +kernel
theorem dd_TR_init_46 : decode bb_TR_init 46 = .ok (.aload_n 0, 1) := by decide +kernel
theorem dd_TR_init_47 : decode bb_TR_init 47 = .ok (.sipush 2048, 3) := by decide +kernel
theorem dd_TR_init_50 : decode bb_TR_init 50 = .ok (.newarray .int, 2) := by decide +kernel
theorem dd_TR_init_52 : decode bb_TR_init 52 = .ok (.putfield 27, 3) := by decide +kernel
theorem dd_TR_init_55 : decode bb_TR_init 55 = .ok (.aload_n 0, 1) := by decide +kernel
theorem dd_TR_init_56 : decode bb_TR_init 56 = .ok (.sipush 8192, 3) := by decide +kernel
theorem dd_TR_init_59 : decode bb_TR_init 59 = .ok (.newarray .int, 2) := by decide +kernel
theorem dd_TR_init_61 : decode bb_TR_init 61 = .ok (.putfield 30, 3) := by decide +kernel
theorem dd_TR_init_64 : decode bb_TR_init 64 = .ok (.aload_n 0, 1) := by decide +kernel
theorem dd_TR_init_65 : decode bb_TR_init 65 = .ok (.ldc 33, 2) := by decide +kernel
theorem dd_TR_init_67 : decode bb_TR_init 67 = .ok (.newarray .int, 2) := by decide +kernel
theorem dd_TR_init_69 : decode bb_TR_init 69 = .ok (.putfield 34, 3) := by decide +kernel
theorem dd_TR_init_72 : decode bb_TR_init 72 = .ok (.return_, 1) := by decide +kernel
theorem dd_TR_grow_0 : decode bb_TR_grow 0 = .ok (.aload_n 0, 1) := by decide +kernel
theorem dd_TR_grow_1 : decode bb_TR_grow 1 = .ok (.iconst 0, 1) := by decide +kernel
theorem dd_TR_grow_2 : decode bb_TR_grow 2 = .ok (.putfield 39, 3) := by decide +kernel
theorem dd_TR_grow_5 : decode bb_TR_grow 5 = .ok (.aload_n 0, 1) := by decide +kernel
theorem dd_TR_grow_6 : decode bb_TR_grow 6 = .ok (.iconst 0, 1) := by decide +kernel
theorem dd_TR_grow_7 : decode bb_TR_grow 7 = .ok (.putfield 42, 3) := by decide +kernel
theorem dd_TR_grow_10 : decode bb_TR_grow 10 = .ok (.iconst 0, 1) := by decide +kernel
theorem dd_TR_grow_11 : decode bb_TR_grow 11 = .ok (.istore_n 1, 1) := by decide +kernel
theorem dd_TR_grow_12 : decode bb_TR_grow 12 = .ok (.iload_n 1, 1) := by decide +kernel
theorem dd_TR_grow_13 : decode bb_TR_grow 13 = .ok (.aload_n 0, 1) := by decide +kernel
theorem dd_TR_grow_14 : decode bb_TR_grow 14 = .ok (.getfield 45, 3) := by decide +kernel
theorem dd_TR_grow_17 : decode bb_TR_grow 17 = .ok (.if_icmp .ge 16, 3) := by decide +kernel
theorem dd_TR_grow_20 : decode bb_TR_grow 20 = .ok (.aload_n 0, 1) := by decide +kernel
theorem dd_TR_grow_21 : decode bb_TR_grow 21 = .ok (.getfield 34, 3) := by decide +kernel
theorem dd_TR_grow_24 : decode bb_TR_grow 24 = .ok (.iload_n 1, 1) := by decide +kernel
theorem dd_TR_grow_25 : decode bb_TR_grow 25 = .ok (.iload_n 1, 1) := by decide +kernel
theorem dd_TR_grow_26 : decode bb_TR_grow 26 = .ok (.iastore, 1) := by decide +kernel
theorem dd_TR_grow_27 : decode bb_TR_grow 27 = .ok (.iinc 1 1, 3) := by decide +kernel
theorem dd_TR_grow_30 : decode bb_TR_grow 30 = .ok (.goto (-18), 3) := by decide +kernel
theorem dd_TR_grow_33 : decode bb_TR_grow 33 = .ok (.aload_n 0, 1) := by decide +kernel
theorem dd_TR_grow_34 : decode bb_TR_grow 34 = .ok (.iconst 0, 1) := by decide +kernel
theorem dd_TR_grow_35 : decode bb_TR_grow 35 = .ok (.aload_n 0, 1) := by decide +kernel
theorem dd_TR_grow_36 : decode bb_TR_grow 36 = .ok (.getfield 45, 3) := by decide +kernel
theorem dd_TR_grow_39 : decode bb_TR_grow 39 = .ok (.lconst 0, 1) := by decide +kernel
theorem dd_TR_grow_40 : decode bb_TR_grow 40 = .ok (.invokevirtual 48, 3) := by decide +kernel
theorem dd_TR_grow_43 : decode bb_TR_grow 43 = .ok (.istore_n 1, 1) := by decide +kernel
theorem dd_TR_grow_44 : decode bb_TR_grow 44 = .ok (.return_, 1) := by decide +kernel
theorem dd_TR_node_0 : decode bb_TR_node 0 = .ok (.aload_n 0, 1) := by decide +kernel
theorem dd_TR_node_1 : decode bb_TR_node 1 = .ok (.getfield 39, 3) := by decide +kernel
theorem dd_TR_node_4 : decode bb_TR_node 4 = .ok (.istore 5, 2) := by decide +kernel
theorem dd_TR_node_6 : decode bb_TR_node 6 = .ok (.aload_n 0, 1) := by decide +kernel
theorem dd_TR_node_7 : decode bb_TR_node 7 = .ok (.dup, 1) := by decide +kernel
theorem dd_TR_node_8 : decode bb_TR_node 8 = .ok (.getfield 39, 3) := by decide +kernel
theorem dd_TR_node_11 : decode bb_TR_node 11 = .ok (.iconst 1, 1) := by decide +kernel
theorem dd_TR_node_12 : decode bb_TR_node 12 = .ok (.iadd, 1) := by decide +kernel
theorem dd_TR_node_13 : decode bb_TR_node 13 = .ok (.putfield 39, 3) := by decide +kernel
theorem dd_TR_node_16 : decode bb_TR_node 16 = .ok (.iload_n 2, 1) := by decide +kernel
theorem dd_TR_node_17 : decode bb_TR_node 17 = .ok (.iload_n 1, 1) := by decide +kernel
theorem dd_TR_node_18 : decode bb_TR_node 18 = .ok (.isub, 1) := by decide +kernel
theorem dd_TR_node_19 : decode bb_TR_node 19 = .ok (.iconst 2, 1) := by decide +kernel
theorem dd_TR_node_20 : decode bb_TR_node 20 = .ok (.if_icmp .lt 13, 3) := by decide +kernel
theorem dd_TR_node_23 : decode bb_TR_node 23 = .ok (.aload_n 0, 1) := by decide +kernel
theorem dd_TR_node_24 : decode bb_TR_node 24 = .ok (.getfield 39, 3) := by decide +kernel
theorem dd_TR_node_27 : decode bb_TR_node 27 = .ok (.sipush 1918, 3) := by decide +kernel
theorem dd_TR_node_30 : decode bb_TR_node 30 = .ok (.if_icmp .le 7, 3) := by decide +kernel
theorem dd_TR_node_33 : decode bb_TR_node 33 = .ok (.iconst (-1), 1) := by decide +kernel
theorem dd_TR_node_34 : decode bb_TR_node 34 = .ok (.goto 10, 3) := by decide +kernel
theorem dd_TR_node_37 : decode bb_TR_node 37 = .ok (.aload_n 0, 1) := by decide +kernel
theorem dd_TR_node_38 : decode bb_TR_node 38 = .ok (.iload_n 1, 1) := by decide +kernel
theorem dd_TR_node_39 : decode bb_TR_node 39 = .ok (.iload_n 2, 1) := by decide +kernel
theorem dd_TR_node_40 : decode bb_TR_node 40 = .ok (.lload_n 3, 1) := by decide +kernel
theorem dd_TR_node_41 : decode bb_TR_node 41 = .ok (.invokevirtual 58, 3) := by decide +kernel
theorem dd_TR_node_44 : decode bb_TR_node 44 = .ok (.istore 6, 2) := by decide +kernel
theorem dd_TR_node_46 : decode bb_TR_node 46 = .ok (.iload 6, 2) := by decide +kernel
theorem dd_TR_node_48 : decode bb_TR_node 48 = .ok (.ifCond .ge 12, 3) := by decide +kernel
theorem dd_TR_node_51 : decode bb_TR_node 51 = .ok (.aload_n 0, 1) := by decide +kernel
theorem dd_TR_node_52 : decode bb_TR_node 52 = .ok (.iload 5, 2) := by decide +kernel
theorem dd_TR_node_54 : decode bb_TR_node 54 = .ok (.iload_n 1, 1) := by decide +kernel
theorem dd_TR_node_55 : decode bb_TR_node 55 = .ok (.iload_n 2, 1) := by decide +kernel
theorem dd_TR_node_56 : decode bb_TR_node 56 = .ok (.invokevirtual 61, 3) := by decide +kernel
theorem dd_TR_node_59 : decode bb_TR_node 59 = .ok (.ireturn, 1) := by decide +kernel
theorem dd_TR_node_60 : decode bb_TR_node 60 = .ok (.aload_n 0, 1) := by decide +kernel
theorem dd_TR_node_61 : decode bb_TR_node 61 = .ok (.getfield 20, 3) := by decide +kernel
theorem dd_TR_node_64 : decode bb_TR_node 64 = .ok (.iload 5, 2) := by decide +kernel
theorem dd_TR_node_66 : decode bb_TR_node 66 = .ok (.iload 6, 2) := by decide +kernel
theorem dd_TR_node_68 : decode bb_TR_node 68 = .ok (.iastore, 1) := by decide +kernel
theorem dd_TR_node_69 : decode bb_TR_node 69 = .ok (.aload_n 0, 1) := by decide +kernel
theorem dd_TR_node_70 : decode bb_TR_node 70 = .ok (.getfield 24, 3) := by decide +kernel
theorem dd_TR_node_73 : decode bb_TR_node 73 = .ok (.iload 5, 2) := by decide +kernel
theorem dd_TR_node_75 : decode bb_TR_node 75 = .ok (.aload_n 0, 1) := by decide +kernel
theorem dd_TR_node_76 : decode bb_TR_node 76 = .ok (.iload_n 2, 1) := by decide +kernel
theorem dd_TR_node_77 : decode bb_TR_node 77 = .ok (.aload_n 0, 1) := by decide +kernel
theorem dd_TR_node_78 : decode bb_TR_node 78 = .ok (.iload_n 1, 1) := by decide +kernel
theorem dd_TR_node_79 : decode bb_TR_node 79 = .ok (.iload_n 2, 1) := by decide +kernel
theorem dd_TR_node_80 : decode bb_TR_node 80 = .ok (.iload 6, 2) := by decide +kernel
theorem dd_TR_node_82 : decode bb_TR_node 82 = .ok (.iconst 0, 1) := by decide +kernel
theorem dd_TR_node_83 : decode bb_TR_node 83 = .ok (.invokevirtual 65, 3) := by decide +kernel
theorem dd_TR_node_86 : decode bb_TR_node 86 = .ok (.lload_n 3, 1) := by decide +kernel
theorem dd_TR_node_87 : decode bb_TR_node 87 = .ok (.lconst 1, 1) := by decide +kernel
theorem dd_TR_node_88 : decode bb_TR_node 88 = .ok (.iload 6, 2) := by decide +kernel
theorem dd_TR_node_90 : decode bb_TR_node 90 = .ok (.lshl, 1) := by decide +kernel
theorem dd_TR_node_91 : decode bb_TR_node 91 = .ok (.lor, 1) := by decide +kernel
theorem dd_TR_node_92 : decode bb_TR_node 92 = .ok (.invokevirtual 48, 3) := by decide +kernel
theorem dd_TR_node_95 : decode bb_TR_node 95 = .ok (.iastore, 1) := by decide +kernel
theorem dd_TR_node_96 : decode bb_TR_node 96 = .ok (.aload_n 0, 1) := by decide +kernel
theorem dd_TR_node_97 : decode bb_TR_node 97 = .ok (.getfield 27, 3) := by decide +kernel
theorem dd_TR_node_100 : decode bb_TR_node 100 = .ok (.iload 5, 2) := by decide +kernel
theorem dd_TR_node_102 : decode bb_TR_node 102 = .ok (.aload_n 0, 1) := by decide +kernel
theorem dd_TR_node_103 : decode bb_TR_node 103 = .ok (.iload_n 2, 1) := by decide +kernel
theorem dd_TR_node_104 : decode bb_TR_node 104 = .ok (.aload_n 0, 1) := by decide +kernel
theorem dd_TR_node_105 : decode bb_TR_node 105 = .ok (.iload_n 1, 1) := by decide +kernel
theorem dd_TR_node_106 : decode bb_TR_node 106 = .ok (.iload_n 2, 1) := by decide +kernel
theorem dd_TR_node_107 : decode bb_TR_node 107 = .ok (.iload 6, 2) := by decide +kernel
theorem dd_TR_node_109 : decode bb_TR_node 109 = .ok (.iconst 1, 1) := by decide +kernel
theorem dd_TR_node_110 : decode bb_TR_node 110 = .ok (.invokevirtual 65, 3) := by decide +kernel
theorem dd_TR_node_113 : decode bb_TR_node 113 = .ok (.lload_n 3, 1) := by decide +kernel
theorem dd_TR_node_114 : decode bb_TR_node 114 = .ok (.lconst 1, 1) := by decide +kernel
theorem dd_TR_node_115 : decode bb_TR_node 115 = .ok (.iload 6, 2) := by decide +kernel
theorem dd_TR_node_117 : decode bb_TR_node 117 = .ok (.lshl, 1) := by decide +kernel
theorem dd_TR_node_118 : decode bb_TR_node 118 = .ok (.lor, 1) := by decide +kernel
theorem dd_TR_node_119 : decode bb_TR_node 119 = .ok (.invokevirtual 48, 3) := by decide +kernel
theorem dd_TR_node_122 : decode bb_TR_node 122 = .ok (.iastore, 1) := by decide +kernel
theorem dd_TR_node_123 : decode bb_TR_node 123 = .ok (.iload 5, 2) := by decide +kernel
theorem dd_TR_node_125 : decode bb_TR_node 125 = .ok (.ireturn, 1) := by decide +kernel
theorem dd_TR_best_0 : decode bb_TR_best 0 = .ok (.iconst (-1), 1) := by decide +kernel
theorem dd_TR_best_1 : decode bb_TR_best 1 = .ok (.istore 5, 2) := by decide +kernel
theorem dd_TR_best_3 : decode bb_TR_best 3 = .ok (.iconst 0, 1) := by decide +kernel
theorem dd_TR_best_4 : decode bb_TR_best 4 = .ok (.istore 6, 2) := by decide +kernel
theorem dd_TR_best_6 : decode bb_TR_best 6 = .ok (.iconst 0, 1) := by decide +kernel
theorem dd_TR_best_7 : decode bb_TR_best 7 = .ok (.istore 7, 2) := by decide +kernel
theorem dd_TR_best_9 : decode bb_TR_best 9 = .ok (.iload 7, 2) := by decide +kernel
theorem dd_TR_best_11 : decode bb_TR_best 11 = .ok (.aload_n 0, 1) := by decide +kernel
theorem dd_TR_best_12 : decode bb_TR_best 12 = .ok (.getfield 7, 3) := by decide +kernel
theorem dd_TR_best_15 : decode bb_TR_best 15 = .ok (.if_icmp .ge 151, 3) := by decide +kernel
theorem dd_TR_best_18 : decode bb_TR_best 18 = .ok (.lload_n 3, 1) := by decide +kernel
theorem dd_TR_best_19 : decode bb_TR_best 19 = .ok (.iload 7, 2) := by decide +kernel
theorem dd_TR_best_21 : decode bb_TR_best 21 = .ok (.lushr, 1) := by decide +kernel
theorem dd_TR_best_22 : decode bb_TR_best 22 = .ok (.lconst 1, 1) := by decide +kernel
theorem dd_TR_best_23 : decode bb_TR_best 23 = .ok (.land, 1) := by decide +kernel
theorem dd_TR_best_24 : decode bb_TR_best 24 = .ok (.lconst 0, 1) := by decide +kernel
theorem dd_TR_best_25 : decode bb_TR_best 25 = .ok (.lcmp, 1) := by decide +kernel
theorem dd_TR_best_26 : decode bb_TR_best 26 = .ok (.ifCond .eq 6, 3) := by decide +kernel
theorem dd_TR_best_29 : decode bb_TR_best 29 = .ok (.goto 131, 3) := by decide +kernel
theorem dd_TR_best_32 : decode bb_TR_best 32 = .ok (.iconst 0, 1) := by decide +kernel
theorem dd_TR_best_33 : decode bb_TR_best 33 = .ok (.istore 8, 2) := by decide +kernel
theorem dd_TR_best_35 : decode bb_TR_best 35 = .ok (.iconst 0, 1) := by decide +kernel
theorem dd_TR_best_36 : decode bb_TR_best 36 = .ok (.istore 9, 2) := by decide +kernel
theorem dd_TR_best_38 : decode bb_TR_best 38 = .ok (.iload_n 1, 1) := by decide +kernel
theorem dd_TR_best_39 : decode bb_TR_best 39 = .ok (.istore 10, 2) := by decide +kernel
theorem dd_TR_best_41 : decode bb_TR_best 41 = .ok (.iload 10, 2) := by decide +kernel
theorem dd_TR_best_43 : decode bb_TR_best 43 = .ok (.iload_n 2, 1) := by decide +kernel
theorem dd_TR_best_44 : decode bb_TR_best 44 = .ok (.if_icmp .ge 65, 3) := by decide +kernel
theorem dd_TR_best_47 : decode bb_TR_best 47 = .ok (.aload_n 0, 1) := by decide +kernel
theorem dd_TR_best_48 : decode bb_TR_best 48 = .ok (.getfield 13, 3) := by decide +kernel
theorem dd_TR_best_51 : decode bb_TR_best 51 = .ok (.aload_n 0, 1) := by decide +kernel
theorem dd_TR_best_52 : decode bb_TR_best 52 = .ok (.getfield 34, 3) := by decide +kernel
theorem dd_TR_best_55 : decode bb_TR_best 55 = .ok (.iload 10, 2) := by decide +kernel
theorem dd_TR_best_57 : decode bb_TR_best 57 = .ok (.iaload, 1) := by decide +kernel
theorem dd_TR_best_58 : decode bb_TR_best 58 = .ok (.laload, 1) := by decide +kernel
theorem dd_TR_best_59 : decode bb_TR_best 59 = .ok (.iload 7, 2) := by decide +kernel
theorem dd_TR_best_61 : decode bb_TR_best 61 = .ok (.lushr, 1) := by decide +kernel
theorem dd_TR_best_62 : decode bb_TR_best 62 = .ok (.lconst 1, 1) := by decide +kernel
theorem dd_TR_best_63 : decode bb_TR_best 63 = .ok (.land, 1) := by decide +kernel
theorem dd_TR_best_64 : decode bb_TR_best 64 = .ok (.lconst 0, 1) := by decide +kernel
theorem dd_TR_best_65 : decode bb_TR_best 65 = .ok (.lcmp, 1) := by decide +kernel
theorem dd_TR_best_66 : decode bb_TR_best 66 = .ok (.ifCond .ne 6, 3) := by decide +kernel
theorem dd_TR_best_69 : decode bb_TR_best 69 = .ok (.goto 34, 3) := by decide +kernel
theorem dd_TR_best_72 : decode bb_TR_best 72 = .ok (.aload_n 0, 1) := by decide +kernel
theorem dd_TR_best_73 : decode bb_TR_best 73 = .ok (.getfield 17, 3) := by decide +kernel
theorem dd_TR_best_76 : decode bb_TR_best 76 = .ok (.aload_n 0, 1) := by decide +kernel
theorem dd_TR_best_77 : decode bb_TR_best 77 = .ok (.getfield 34, 3) := by decide +kernel
theorem dd_TR_best_80 : decode bb_TR_best 80 = .ok (.iload 10, 2) := by decide +kernel
theorem dd_TR_best_82 : decode bb_TR_best 82 = .ok (.iaload, 1) := by decide +kernel
theorem dd_TR_best_83 : decode bb_TR_best 83 = .ok (.laload, 1) := by decide +kernel
theorem dd_TR_best_84 : decode bb_TR_best 84 = .ok (.iload 7, 2) := by decide +kernel
theorem dd_TR_best_86 : decode bb_TR_best 86 = .ok (.lushr, 1) := by decide +kernel
theorem dd_TR_best_87 : decode bb_TR_best 87 = .ok (.lconst 1, 1) := by decide +kernel
theorem dd_TR_best_88 : decode bb_TR_best 88 = .ok (.land, 1) := by decide +kernel
theorem dd_TR_best_89 : decode bb_TR_best 89 = .ok (.lconst 0, 1) := by decide +kernel
theorem dd_TR_best_90 : decode bb_TR_best 90 = .ok (.lcmp, 1) := by decide +kernel
theorem dd_TR_best_91 : decode bb_TR_best 91 = .ok (.ifCond .ne 9, 3) := by decide +kernel
theorem dd_TR_best_94 : decode bb_TR_best 94 = .ok (.iinc 8 1, 3) := by decide +kernel
theorem dd_TR_best_97 : decode bb_TR_best 97 = .ok (.goto 6, 3) := by decide +kernel
theorem dd_TR_best_100 : decode bb_TR_best 100 = .ok (.iinc 9 1, 3) := by decide +kernel
theorem dd_TR_best_103 : decode bb_TR_best 103 = .ok (.iinc 10 1, 3) := by decide +kernel
theorem dd_TR_best_106 : decode bb_TR_best 106 = .ok (.goto (-65), 3) := by decide +kernel
theorem dd_TR_best_109 : decode bb_TR_best 109 = .ok (.iconst 2, 1) := by decide +kernel
theorem dd_TR_best_110 : decode bb_TR_best 110 = .ok (.iload 8, 2) := by decide +kernel
theorem dd_TR_best_112 : decode bb_TR_best 112 = .ok (.iload 9, 2) := by decide +kernel
theorem dd_TR_best_114 : decode bb_TR_best 114 = .ok (.invokestatic 52, 3) := by decide +kernel
theorem dd_TR_best_117 : decode bb_TR_best 117 = .ok (.imul, 1) := by decide +kernel
theorem dd_TR_best_118 : decode bb_TR_best 118 = .ok (.iload_n 2, 1) := by decide +kernel
theorem dd_TR_best_119 : decode bb_TR_best 119 = .ok (.iload_n 1, 1) := by decide +kernel
theorem dd_TR_best_120 : decode bb_TR_best 120 = .ok (.isub, 1) := by decide +kernel
theorem dd_TR_best_121 : decode bb_TR_best 121 = .ok (.iload 8, 2) := by decide +kernel
theorem dd_TR_best_123 : decode bb_TR_best 123 = .ok (.isub, 1) := by decide +kernel
theorem dd_TR_best_124 : decode bb_TR_best 124 = .ok (.iload 9, 2) := by decide +kernel
theorem dd_TR_best_126 : decode bb_TR_best 126 = .ok (.isub, 1) := by decide +kernel
theorem dd_TR_best_127 : decode bb_TR_best 127 = .ok (.isub, 1) := by decide +kernel
theorem dd_TR_best_128 : decode bb_TR_best 128 = .ok (.istore 10, 2) := by decide +kernel
theorem dd_TR_best_130 : decode bb_TR_best 130 = .ok (.iload 8, 2) := by decide +kernel
theorem dd_TR_best_132 : decode bb_TR_best 132 = .ok (.ifCond .le 28, 3) := by decide +kernel
theorem dd_TR_best_135 : decode bb_TR_best 135 = .ok (.iload 9, 2) := by decide +kernel
theorem dd_TR_best_137 : decode bb_TR_best 137 = .ok (.ifCond .le 23, 3) := by decide +kernel
theorem dd_TR_best_140 : decode bb_TR_best 140 = .ok (.iload 5, 2) := by decide +kernel
theorem dd_TR_best_142 : decode bb_TR_best 142 = .ok (.ifCond .lt 10, 3) := by decide +kernel
theorem dd_TR_best_145 : decode bb_TR_best 145 = .ok (.iload 10, 2) := by decide +kernel
theorem dd_TR_best_147 : decode bb_TR_best 147 = .ok (.iload 6, 2) := by decide +kernel
theorem dd_TR_best_149 : decode bb_TR_best 149 = .ok (.if_icmp .le 11, 3) := by decide +kernel
theorem dd_TR_best_152 : decode bb_TR_best 152 = .ok (.iload 7, 2) := by decide +kernel
theorem dd_TR_best_154 : decode bb_TR_best 154 = .ok (.istore 5, 2) := by decide +kernel
theorem dd_TR_best_156 : decode bb_TR_best 156 = .ok (.iload 10, 2) := by decide +kernel
theorem dd_TR_best_158 : decode bb_TR_best 158 = .ok (.istore 6, 2) := by decide +kernel
theorem dd_TR_best_160 : decode bb_TR_best 160 = .ok (.iinc 7 1, 3) := by decide +kernel
theorem dd_TR_best_163 : decode bb_TR_best 163 = .ok (.goto (-154), 3) := by decide +kernel
theorem dd_TR_best_166 : decode bb_TR_best 166 = .ok (.iload 5, 2) := by decide +kernel
theorem dd_TR_best_168 : decode bb_TR_best 168 = .ok (.ireturn, 1) := by decide +kernel
theorem dd_TR_leaf_0 : decode bb_TR_leaf 0 = .ok (.aload_n 0, 1) := by decide +kernel
theorem dd_TR_leaf_1 : decode bb_TR_leaf 1 = .ok (.getfield 20, 3) := by decide +kernel
theorem dd_TR_leaf_4 : decode bb_TR_leaf 4 = .ok (.iload_n 1, 1) := by decide +kernel
theorem dd_TR_leaf_5 : decode bb_TR_leaf 5 = .ok (.iconst (-1), 1) := by decide +kernel
theorem dd_TR_leaf_6 : decode bb_TR_leaf 6 = .ok (.iastore, 1) := by decide +kernel
theorem dd_TR_leaf_7 : decode bb_TR_leaf 7 = .ok (.aload_n 0, 1) := by decide +kernel
theorem dd_TR_leaf_8 : decode bb_TR_leaf 8 = .ok (.getfield 24, 3) := by decide +kernel
theorem dd_TR_leaf_11 : decode bb_TR_leaf 11 = .ok (.iload_n 1, 1) := by decide +kernel
theorem dd_TR_leaf_12 : decode bb_TR_leaf 12 = .ok (.aload_n 0, 1) := by decide +kernel
theorem dd_TR_leaf_13 : decode bb_TR_leaf 13 = .ok (.getfield 42, 3) := by decide +kernel
theorem dd_TR_leaf_16 : decode bb_TR_leaf 16 = .ok (.iastore, 1) := by decide +kernel
theorem dd_TR_leaf_17 : decode bb_TR_leaf 17 = .ok (.aload_n 0, 1) := by decide +kernel
theorem dd_TR_leaf_18 : decode bb_TR_leaf 18 = .ok (.getfield 27, 3) := by decide +kernel
theorem dd_TR_leaf_21 : decode bb_TR_leaf 21 = .ok (.iload_n 1, 1) := by decide +kernel
theorem dd_TR_leaf_22 : decode bb_TR_leaf 22 = .ok (.iload_n 3, 1) := by decide +kernel
theorem dd_TR_leaf_23 : decode bb_TR_leaf 23 = .ok (.iload_n 2, 1) := by decide +kernel
theorem dd_TR_leaf_24 : decode bb_TR_leaf 24 = .ok (.isub, 1) := by decide +kernel
theorem dd_TR_leaf_25 : decode bb_TR_leaf 25 = .ok (.iastore, 1) := by decide +kernel
theorem dd_TR_leaf_26 : decode bb_TR_leaf 26 = .ok (.aload_n 0, 1) := by decide +kernel
theorem dd_TR_leaf_27 : decode bb_TR_leaf 27 = .ok (.getfield 42, 3) := by decide +kernel
theorem dd_TR_leaf_30 : decode bb_TR_leaf 30 = .ok (.iload_n 3, 1) := by decide +kernel
theorem dd_TR_leaf_31 : decode bb_TR_leaf 31 = .ok (.iadd, 1) := by decide +kernel
theorem dd_TR_leaf_32 : decode bb_TR_leaf 32 = .ok (.iload_n 2, 1) := by decide +kernel
theorem dd_TR_leaf_33 : decode bb_TR_leaf 33 = .ok (.isub, 1) := by decide +kernel
theorem dd_TR_leaf_34 : decode bb_TR_leaf 34 = .ok (.sipush 8192, 3) := by decide +kernel
theorem dd_TR_leaf_37 : decode bb_TR_leaf 37 = .ok (.if_icmp .le 12, 3) := by decide +kernel
theorem dd_TR_leaf_40 : decode bb_TR_leaf 40 = .ok (.aload_n 0, 1) := by decide +kernel
theorem dd_TR_leaf_41 : decode bb_TR_leaf 41 = .ok (.getfield 27, 3) := by decide +kernel
theorem dd_TR_leaf_44 : decode bb_TR_leaf 44 = .ok (.iload_n 1, 1) := by decide +kernel
theorem dd_TR_leaf_45 : decode bb_TR_leaf 45 = .ok (.iconst (-1), 1) := by decide +kernel
theorem dd_TR_leaf_46 : decode bb_TR_leaf 46 = .ok (.iastore, 1) := by decide +kernel
theorem dd_TR_leaf_47 : decode bb_TR_leaf 47 = .ok (.iload_n 1, 1) := by decide +kernel
theorem dd_TR_leaf_48 : decode bb_TR_leaf 48 = .ok (.ireturn, 1) := by decide +kernel
theorem dd_TR_leaf_49 : decode bb_TR_leaf 49 = .ok (.iload_n 2, 1) := by decide +kernel
theorem dd_TR_leaf_50 : decode bb_TR_leaf 50 = .ok (.istore 4, 2) := by decide +kernel
theorem dd_TR_leaf_52 : decode bb_TR_leaf 52 = .ok (.iload 4, 2) := by decide +kernel
theorem dd_TR_leaf_54 : decode bb_TR_leaf 54 = .ok (.iload_n 3, 1) := by decide +kernel
theorem dd_TR_leaf_55 : decode bb_TR_leaf 55 = .ok (.if_icmp .ge 35, 3) := by decide +kernel
theorem dd_TR_leaf_58 : decode bb_TR_leaf 58 = .ok (.aload_n 0, 1) := by decide +kernel
theorem dd_TR_leaf_59 : decode bb_TR_leaf 59 = .ok (.getfield 30, 3) := by decide +kernel
theorem dd_TR_leaf_62 : decode bb_TR_leaf 62 = .ok (.aload_n 0, 1) := by decide +kernel
theorem dd_TR_leaf_63 : decode bb_TR_leaf 63 = .ok (.getfield 42, 3) := by decide +kernel
theorem dd_TR_leaf_66 : decode bb_TR_leaf 66 = .ok (.aload_n 0, 1) := by decide +kernel
theorem dd_TR_leaf_67 : decode bb_TR_leaf 67 = .ok (.getfield 34, 3) := by decide +kernel
theorem dd_TR_leaf_70 : decode bb_TR_leaf 70 = .ok (.iload 4, 2) := by decide +kernel
theorem dd_TR_leaf_72 : decode bb_TR_leaf 72 = .ok (.iaload, 1) := by decide +kernel
theorem dd_TR_leaf_73 : decode bb_TR_leaf 73 = .ok (.iastore, 1) := by decide +kernel
theorem dd_TR_leaf_74 : decode bb_TR_leaf 74 = .ok (.aload_n 0, 1) := by decide +kernel
theorem dd_TR_leaf_75 : decode bb_TR_leaf 75 = .ok (.dup, 1) := by decide +kernel
theorem dd_TR_leaf_76 : decode bb_TR_leaf 76 = .ok (.getfield 42, 3) := by decide +kernel
theorem dd_TR_leaf_79 : decode bb_TR_leaf 79 = .ok (.iconst 1, 1) := by decide +kernel
theorem dd_TR_leaf_80 : decode bb_TR_leaf 80 = .ok (.iadd, 1) := by decide +kernel
theorem dd_TR_leaf_81 : decode bb_TR_leaf 81 = .ok (.putfield 42, 3) := by decide +kernel
theorem dd_TR_leaf_84 : decode bb_TR_leaf 84 = .ok (.iinc 4 1, 3) := by decide +kernel
theorem dd_TR_leaf_87 : decode bb_TR_leaf 87 = .ok (.goto (-35), 3) := by decide +kernel
theorem dd_TR_leaf_90 : decode bb_TR_leaf 90 = .ok (.iload_n 1, 1) := by decide +kernel
theorem dd_TR_leaf_91 : decode bb_TR_leaf 91 = .ok (.ireturn, 1) := by decide +kernel
theorem dd_TR_with_0 : decode bb_TR_with 0 = .ok (.iload_n 2, 1) := by decide +kernel
theorem dd_TR_with_1 : decode bb_TR_with 1 = .ok (.istore 5, 2) := by decide +kernel
theorem dd_TR_with_3 : decode bb_TR_with 3 = .ok (.iload_n 1, 1) := by decide +kernel
theorem dd_TR_with_4 : decode bb_TR_with 4 = .ok (.istore 6, 2) := by decide +kernel
theorem dd_TR_with_6 : decode bb_TR_with 6 = .ok (.iload 6, 2) := by decide +kernel
theorem dd_TR_with_8 : decode bb_TR_with 8 = .ok (.iload_n 2, 1) := by decide +kernel
theorem dd_TR_with_9 : decode bb_TR_with 9 = .ok (.if_icmp .ge 67, 3) := by decide +kernel
theorem dd_TR_with_12 : decode bb_TR_with 12 = .ok (.aload_n 0, 1) := by decide +kernel
theorem dd_TR_with_13 : decode bb_TR_with 13 = .ok (.getfield 34, 3) := by decide +kernel
theorem dd_TR_with_16 : decode bb_TR_with 16 = .ok (.iload 6, 2) := by decide +kernel
theorem dd_TR_with_18 : decode bb_TR_with 18 = .ok (.iaload, 1) := by decide +kernel
theorem dd_TR_with_19 : decode bb_TR_with 19 = .ok (.istore 7, 2) := by decide +kernel
theorem dd_TR_with_21 : decode bb_TR_with 21 = .ok (.aload_n 0, 1) := by decide +kernel
theorem dd_TR_with_22 : decode bb_TR_with 22 = .ok (.getfield 13, 3) := by decide +kernel
theorem dd_TR_with_25 : decode bb_TR_with 25 = .ok (.iload 7, 2) := by decide +kernel
theorem dd_TR_with_27 : decode bb_TR_with 27 = .ok (.laload, 1) := by decide +kernel
theorem dd_TR_with_28 : decode bb_TR_with 28 = .ok (.iload_n 3, 1) := by decide +kernel
theorem dd_TR_with_29 : decode bb_TR_with 29 = .ok (.lushr, 1) := by decide +kernel
theorem dd_TR_with_30 : decode bb_TR_with 30 = .ok (.lconst 1, 1) := by decide +kernel
theorem dd_TR_with_31 : decode bb_TR_with 31 = .ok (.land, 1) := by decide +kernel
theorem dd_TR_with_32 : decode bb_TR_with 32 = .ok (.lconst 0, 1) := by decide +kernel
theorem dd_TR_with_33 : decode bb_TR_with 33 = .ok (.lcmp, 1) := by decide +kernel
theorem dd_TR_with_34 : decode bb_TR_with 34 = .ok (.ifCond .eq 24, 3) := by decide +kernel
theorem dd_TR_with_37 : decode bb_TR_with 37 = .ok (.aload_n 0, 1) := by decide +kernel
theorem dd_TR_with_38 : decode bb_TR_with 38 = .ok (.getfield 17, 3) := by decide +kernel
theorem dd_TR_with_41 : decode bb_TR_with 41 = .ok (.iload 7, 2) := by decide +kernel
theorem dd_TR_with_43 : decode bb_TR_with 43 = .ok (.laload, 1) := by decide +kernel
theorem dd_TR_with_44 : decode bb_TR_with 44 = .ok (.iload_n 3, 1) := by decide +kernel
theorem dd_TR_with_45 : decode bb_TR_with 45 = .ok (.lushr, 1) := by decide +kernel
theorem dd_TR_with_46 : decode bb_TR_with 46 = .ok (.lconst 1, 1) := by decide +kernel
theorem dd_TR_with_47 : decode bb_TR_with 47 = .ok (.land, 1) := by decide +kernel
theorem dd_TR_with_48 : decode bb_TR_with 48 = .ok (.iload 4, 2) := by decide +kernel
theorem dd_TR_with_50 : decode bb_TR_with 50 = .ok (.i2l, 1) := by decide +kernel
theorem dd_TR_with_51 : decode bb_TR_with 51 = .ok (.lcmp, 1) := by decide +kernel
theorem dd_TR_with_52 : decode bb_TR_with 52 = .ok (.ifCond .eq 6, 3) := by decide +kernel
theorem dd_TR_with_55 : decode bb_TR_with 55 = .ok (.goto 15, 3) := by decide +kernel
theorem dd_TR_with_58 : decode bb_TR_with 58 = .ok (.aload_n 0, 1) := by decide +kernel
theorem dd_TR_with_59 : decode bb_TR_with 59 = .ok (.getfield 34, 3) := by decide +kernel
theorem dd_TR_with_62 : decode bb_TR_with 62 = .ok (.iload 5, 2) := by decide +kernel
theorem dd_TR_with_64 : decode bb_TR_with 64 = .ok (.iload 7, 2) := by decide +kernel
theorem dd_TR_with_66 : decode bb_TR_with 66 = .ok (.iastore, 1) := by decide +kernel
theorem dd_TR_with_67 : decode bb_TR_with 67 = .ok (.iinc 5 1, 3) := by decide +kernel
theorem dd_TR_with_70 : decode bb_TR_with 70 = .ok (.iinc 6 1, 3) := by decide +kernel
theorem dd_TR_with_73 : decode bb_TR_with 73 = .ok (.goto (-67), 3) := by decide +kernel
theorem dd_TR_with_76 : decode bb_TR_with 76 = .ok (.iload 5, 2) := by decide +kernel
theorem dd_TR_with_78 : decode bb_TR_with 78 = .ok (.ireturn, 1) := by decide +kernel
theorem dd_TR_mask_0 : decode bb_TR_mask 0 = .ok (.aload_n 0, 1) := by decide +kernel
theorem dd_TR_mask_1 : decode bb_TR_mask 1 = .ok (.getfield 7, 3) := by decide +kernel
theorem dd_TR_mask_4 : decode bb_TR_mask 4 = .ok (.bipush 64, 2) := by decide +kernel
theorem dd_TR_mask_6 : decode bb_TR_mask 6 = .ok (.if_icmp .ne 9, 3) := by decide +kernel
theorem dd_TR_mask_9 : decode bb_TR_mask 9 = .ok (.ldc2_w 37, 3) := by decide +kernel
theorem dd_TR_mask_12 : decode bb_TR_mask 12 = .ok (.goto 11, 3) := by decide +kernel
theorem dd_TR_mask_15 : decode bb_TR_mask 15 = .ok (.lconst 1, 1) := by decide +kernel
theorem dd_TR_mask_16 : decode bb_TR_mask 16 = .ok (.aload_n 0, 1) := by decide +kernel
theorem dd_TR_mask_17 : decode bb_TR_mask 17 = .ok (.getfield 7, 3) := by decide +kernel
theorem dd_TR_mask_20 : decode bb_TR_mask 20 = .ok (.lshl, 1) := by decide +kernel
theorem dd_TR_mask_21 : decode bb_TR_mask 21 = .ok (.lconst 1, 1) := by decide +kernel
theorem dd_TR_mask_22 : decode bb_TR_mask 22 = .ok (.lsub, 1) := by decide +kernel
theorem dd_TR_mask_23 : decode bb_TR_mask 23 = .ok (.lreturn, 1) := by decide +kernel
theorem dd_TR_decode_0 : decode bb_TR_decode 0 = .ok (.iconst 0, 1) := by decide +kernel
theorem dd_TR_decode_1 : decode bb_TR_decode 1 = .ok (.istore_n 3, 1) := by decide +kernel
theorem dd_TR_decode_2 : decode bb_TR_decode 2 = .ok (.aload_n 0, 1) := by decide +kernel
theorem dd_TR_decode_3 : decode bb_TR_decode 3 = .ok (.getfield 20, 3) := by decide +kernel
theorem dd_TR_decode_6 : decode bb_TR_decode 6 = .ok (.iload_n 3, 1) := by decide +kernel
theorem dd_TR_decode_7 : decode bb_TR_decode 7 = .ok (.iaload, 1) := by decide +kernel
theorem dd_TR_decode_8 : decode bb_TR_decode 8 = .ok (.ifCond .lt 37, 3) := by decide +kernel
theorem dd_TR_decode_11 : decode bb_TR_decode 11 = .ok (.lload_n 1, 1) := by decide +kernel
theorem dd_TR_decode_12 : decode bb_TR_decode 12 = .ok (.aload_n 0, 1) := by decide +kernel
theorem dd_TR_decode_13 : decode bb_TR_decode 13 = .ok (.getfield 20, 3) := by decide +kernel
theorem dd_TR_decode_16 : decode bb_TR_decode 16 = .ok (.iload_n 3, 1) := by decide +kernel
theorem dd_TR_decode_17 : decode bb_TR_decode 17 = .ok (.iaload, 1) := by decide +kernel
theorem dd_TR_decode_18 : decode bb_TR_decode 18 = .ok (.lushr, 1) := by decide +kernel
theorem dd_TR_decode_19 : decode bb_TR_decode 19 = .ok (.lconst 1, 1) := by decide +kernel
theorem dd_TR_decode_20 : decode bb_TR_decode 20 = .ok (.land, 1) := by decide +kernel
theorem dd_TR_decode_21 : decode bb_TR_decode 21 = .ok (.lconst 0, 1) := by decide +kernel
theorem dd_TR_decode_22 : decode bb_TR_decode 22 = .ok (.lcmp, 1) := by decide +kernel
theorem dd_TR_decode_23 : decode bb_TR_decode 23 = .ok (.ifCond .ne 12, 3) := by decide +kernel
theorem dd_TR_decode_26 : decode bb_TR_decode 26 = .ok (.aload_n 0, 1) := by decide +kernel
theorem dd_TR_decode_27 : decode bb_TR_decode 27 = .ok (.getfield 24, 3) := by decide +kernel
theorem dd_TR_decode_30 : decode bb_TR_decode 30 = .ok (.iload_n 3, 1) := by decide +kernel
theorem dd_TR_decode_31 : decode bb_TR_decode 31 = .ok (.iaload, 1) := by decide +kernel
theorem dd_TR_decode_32 : decode bb_TR_decode 32 = .ok (.goto 9, 3) := by decide +kernel
theorem dd_TR_decode_35 : decode bb_TR_decode 35 = .ok (.aload_n 0, 1) := by decide +kernel
theorem dd_TR_decode_36 : decode bb_TR_decode 36 = .ok (.getfield 27, 3) := by decide +kernel
theorem dd_TR_decode_39 : decode bb_TR_decode 39 = .ok (.iload_n 3, 1) := by decide +kernel
theorem dd_TR_decode_40 : decode bb_TR_decode 40 = .ok (.iaload, 1) := by decide +kernel
theorem dd_TR_decode_41 : decode bb_TR_decode 41 = .ok (.istore_n 3, 1) := by decide +kernel
theorem dd_TR_decode_42 : decode bb_TR_decode 42 = .ok (.goto (-40), 3) := by decide +kernel
theorem dd_TR_decode_45 : decode bb_TR_decode 45 = .ok (.aload_n 0, 1) := by decide +kernel
theorem dd_TR_decode_46 : decode bb_TR_decode 46 = .ok (.getfield 27, 3) := by decide +kernel
theorem dd_TR_decode_49 : decode bb_TR_decode 49 = .ok (.iload_n 3, 1) := by decide +kernel
theorem dd_TR_decode_50 : decode bb_TR_decode 50 = .ok (.iaload, 1) := by decide +kernel
theorem dd_TR_decode_51 : decode bb_TR_decode 51 = .ok (.ifCond .ge 10, 3) := by decide +kernel
theorem dd_TR_decode_54 : decode bb_TR_decode 54 = .ok (.aload_n 0, 1) := by decide +kernel
theorem dd_TR_decode_55 : decode bb_TR_decode 55 = .ok (.getfield 45, 3) := by decide +kernel
theorem dd_TR_decode_58 : decode bb_TR_decode 58 = .ok (.goto 9, 3) := by decide +kernel
theorem dd_TR_decode_61 : decode bb_TR_decode 61 = .ok (.aload_n 0, 1) := by decide +kernel
theorem dd_TR_decode_62 : decode bb_TR_decode 62 = .ok (.getfield 27, 3) := by decide +kernel
theorem dd_TR_decode_65 : decode bb_TR_decode 65 = .ok (.iload_n 3, 1) := by decide +kernel
theorem dd_TR_decode_66 : decode bb_TR_decode 66 = .ok (.iaload, 1) := by decide +kernel
theorem dd_TR_decode_67 : decode bb_TR_decode 67 = .ok (.istore 4, 2) := by decide +kernel
theorem dd_TR_decode_69 : decode bb_TR_decode 69 = .ok (.iconst 0, 1) := by decide +kernel
theorem dd_TR_decode_70 : decode bb_TR_decode 70 = .ok (.istore 5, 2) := by decide +kernel
theorem dd_TR_decode_72 : decode bb_TR_decode 72 = .ok (.iload 5, 2) := by decide +kernel
theorem dd_TR_decode_74 : decode bb_TR_decode 74 = .ok (.iload 4, 2) := by decide +kernel
theorem dd_TR_decode_76 : decode bb_TR_decode 76 = .ok (.if_icmp .ge 52, 3) := by decide +kernel
theorem dd_TR_decode_79 : decode bb_TR_decode 79 = .ok (.aload_n 0, 1) := by decide +kernel
theorem dd_TR_decode_80 : decode bb_TR_decode 80 = .ok (.getfield 27, 3) := by decide +kernel
theorem dd_TR_decode_83 : decode bb_TR_decode 83 = .ok (.iload_n 3, 1) := by decide +kernel
theorem dd_TR_decode_84 : decode bb_TR_decode 84 = .ok (.iaload, 1) := by decide +kernel
theorem dd_TR_decode_85 : decode bb_TR_decode 85 = .ok (.ifCond .ge 8, 3) := by decide +kernel
theorem dd_TR_decode_88 : decode bb_TR_decode 88 = .ok (.iload 5, 2) := by decide +kernel
theorem dd_TR_decode_90 : decode bb_TR_decode 90 = .ok (.goto 17, 3) := by decide +kernel
theorem dd_TR_decode_93 : decode bb_TR_decode 93 = .ok (.aload_n 0, 1) := by decide +kernel
theorem dd_TR_decode_94 : decode bb_TR_decode 94 = .ok (.getfield 30, 3) := by decide +kernel
theorem dd_TR_decode_97 : decode bb_TR_decode 97 = .ok (.aload_n 0, 1) := by decide +kernel
theorem dd_TR_decode_98 : decode bb_TR_decode 98 = .ok (.getfield 24, 3) := by decide +kernel
theorem dd_TR_decode_101 : decode bb_TR_decode 101 = .ok (.iload_n 3, 1) := by decide +kernel
theorem dd_TR_decode_102 : decode bb_TR_decode 102 = .ok (.iaload, 1) := by decide +kernel
theorem dd_TR_decode_103 : decode bb_TR_decode 103 = .ok (.iload 5, 2) := by decide +kernel
theorem dd_TR_decode_105 : decode bb_TR_decode 105 = .ok (.iadd, 1) := by decide +kernel
theorem dd_TR_decode_106 : decode bb_TR_decode 106 = .ok (.iaload, 1) := by decide +kernel
theorem dd_TR_decode_107 : decode bb_TR_decode 107 = .ok (.istore 6, 2) := by decide +kernel
theorem dd_TR_decode_109 : decode bb_TR_decode 109 = .ok (.aload_n 0, 1) := by decide +kernel
theorem dd_TR_decode_110 : decode bb_TR_decode 110 = .ok (.iload 6, 2) := by decide +kernel
theorem dd_TR_decode_112 : decode bb_TR_decode 112 = .ok (.lload_n 1, 1) := by decide +kernel
theorem dd_TR_decode_113 : decode bb_TR_decode 113 = .ok (.invokevirtual 69, 3) := by decide +kernel
theorem dd_TR_decode_116 : decode bb_TR_decode 116 = .ok (.ifCond .eq 6, 3) := by decide +kernel
theorem dd_TR_decode_119 : decode bb_TR_decode 119 = .ok (.iload 6, 2) := by decide +kernel
theorem dd_TR_decode_121 : decode bb_TR_decode 121 = .ok (.ireturn, 1) := by decide +kernel
theorem dd_TR_decode_122 : decode bb_TR_decode 122 = .ok (.iinc 5 1, 3) := by decide +kernel
theorem dd_TR_decode_125 : decode bb_TR_decode 125 = .ok (.goto (-53), 3) := by decide +kernel
theorem dd_TR_decode_128 : decode bb_TR_decode 128 = .ok (.iconst (-1), 1) := by decide +kernel
theorem dd_TR_decode_129 : decode bb_TR_decode 129 = .ok (.ireturn, 1) := by decide +kernel
theorem dd_TR_takes_0 : decode bb_TR_takes 0 = .ok (.lload_n 2, 1) := by decide +kernel
theorem dd_TR_takes_1 : decode bb_TR_takes 1 = .ok (.aload_n 0, 1) := by decide +kernel
theorem dd_TR_takes_2 : decode bb_TR_takes 2 = .ok (.getfield 13, 3) := by decide +kernel
theorem dd_TR_takes_5 : decode bb_TR_takes 5 = .ok (.iload_n 1, 1) := by decide +kernel
theorem dd_TR_takes_6 : decode bb_TR_takes 6 = .ok (.laload, 1) := by decide +kernel
theorem dd_TR_takes_7 : decode bb_TR_takes 7 = .ok (.land, 1) := by decide +kernel
theorem dd_TR_takes_8 : decode bb_TR_takes 8 = .ok (.aload_n 0, 1) := by decide +kernel
theorem dd_TR_takes_9 : decode bb_TR_takes 9 = .ok (.getfield 17, 3) := by decide +kernel
theorem dd_TR_takes_12 : decode bb_TR_takes 12 = .ok (.iload_n 1, 1) := by decide +kernel
theorem dd_TR_takes_13 : decode bb_TR_takes 13 = .ok (.laload, 1) := by decide +kernel
theorem dd_TR_takes_14 : decode bb_TR_takes 14 = .ok (.lcmp, 1) := by decide +kernel
theorem dd_TR_takes_15 : decode bb_TR_takes 15 = .ok (.ifCond .ne 7, 3) := by decide +kernel
theorem dd_TR_takes_18 : decode bb_TR_takes 18 = .ok (.iconst 1, 1) := by decide +kernel
theorem dd_TR_takes_19 : decode bb_TR_takes 19 = .ok (.goto 4, 3) := by decide +kernel
theorem dd_TR_takes_22 : decode bb_TR_takes 22 = .ok (.iconst 0, 1) := by decide +kernel
theorem dd_TR_takes_23 : decode bb_TR_takes 23 = .ok (.ireturn, 1) := by decide +kernel
theorem dd_TR_clashes_0 : decode bb_TR_clashes 0 = .ok (.aload_n 0, 1) := by decide +kernel
theorem dd_TR_clashes_1 : decode bb_TR_clashes 1 = .ok (.getfield 13, 3) := by decide +kernel
theorem dd_TR_clashes_4 : decode bb_TR_clashes 4 = .ok (.iload_n 1, 1) := by decide +kernel
theorem dd_TR_clashes_5 : decode bb_TR_clashes 5 = .ok (.laload, 1) := by decide +kernel
theorem dd_TR_clashes_6 : decode bb_TR_clashes 6 = .ok (.lload_n 2, 1) := by decide +kernel
theorem dd_TR_clashes_7 : decode bb_TR_clashes 7 = .ok (.land, 1) := by decide +kernel
theorem dd_TR_clashes_8 : decode bb_TR_clashes 8 = .ok (.aload_n 0, 1) := by decide +kernel
theorem dd_TR_clashes_9 : decode bb_TR_clashes 9 = .ok (.getfield 17, 3) := by decide +kernel
theorem dd_TR_clashes_12 : decode bb_TR_clashes 12 = .ok (.iload_n 1, 1) := by decide +kernel
theorem dd_TR_clashes_13 : decode bb_TR_clashes 13 = .ok (.laload, 1) := by decide +kernel
theorem dd_TR_clashes_14 : decode bb_TR_clashes 14 = .ok (.lload 4, 2) := by decide +kernel
theorem dd_TR_clashes_16 : decode bb_TR_clashes 16 = .ok (.lxor, 1) := by decide +kernel
theorem dd_TR_clashes_17 : decode bb_TR_clashes 17 = .ok (.land, 1) := by decide +kernel
theorem dd_TR_clashes_18 : decode bb_TR_clashes 18 = .ok (.lconst 0, 1) := by decide +kernel
theorem dd_TR_clashes_19 : decode bb_TR_clashes 19 = .ok (.lcmp, 1) := by decide +kernel
theorem dd_TR_clashes_20 : decode bb_TR_clashes 20 = .ok (.ifCond .ne 7, 3) := by decide +kernel
theorem dd_TR_clashes_23 : decode bb_TR_clashes 23 = .ok (.iconst 1, 1) := by decide +kernel
theorem dd_TR_clashes_24 : decode bb_TR_clashes 24 = .ok (.goto 4, 3) := by decide +kernel
theorem dd_TR_clashes_27 : decode bb_TR_clashes 27 = .ok (.iconst 0, 1) := by decide +kernel
theorem dd_TR_clashes_28 : decode bb_TR_clashes 28 = .ok (.ireturn, 1) := by decide +kernel
end
section
theorem dd_PT_init_0 : decode bb_PT_init 0 = .ok (.aload_n 0, 1) := by decide +kernel
theorem dd_PT_init_1 : decode bb_PT_init 1 = .ok (.invokespecial 1, 3) := by decide +kernel
theorem dd_PT_init_4 : decode bb_PT_init 4 = .ok (.aload_n 0, 1) := by decide +kernel
theorem dd_PT_init_5 : decode bb_PT_init 5 = .ok (.new 7, 3) := by decide +kernel
theorem dd_PT_init_8 : decode bb_PT_init 8 = .ok (.dup, 1) := by decide +kernel
theorem dd_PT_init_9 : decode bb_PT_init 9 = .ok (.invokespecial 9, 3) := by decide +kernel
theorem dd_PT_init_12 : decode bb_PT_init 12 = .ok (.putfield 10, 3) := by decide +kernel
theorem dd_PT_init_15 : decode bb_PT_init 15 = .ok (.aload_n 0, 1) := by decide +kernel
theorem dd_PT_init_16 : decode bb_PT_init 16 = .ok (.iconst (-1), 1) := by decide +kernel
theorem dd_PT_init_17 : decode bb_PT_init 17 = .ok (.putfield 16, 3) := by decide +kernel
theorem dd_PT_init_20 : decode bb_PT_init 20 = .ok (.return_, 1) := by decide +kernel
theorem dd_PT_decode_0 : decode bb_PT_decode 0 = .ok (.aload_n 0, 1) := by decide +kernel
theorem dd_PT_decode_1 : decode bb_PT_decode 1 = .ok (.lload_n 1, 1) := by decide +kernel
theorem dd_PT_decode_2 : decode bb_PT_decode 2 = .ok (.invokevirtual 85, 3) := by decide +kernel
theorem dd_PT_decode_5 : decode bb_PT_decode 5 = .ok (.ireturn, 1) := by decide +kernel
theorem dd_PT_find1_0 : decode bb_PT_find1 0 = .ok (.aload_n 0, 1) := by decide +kernel
theorem dd_PT_find1_1 : decode bb_PT_find1 1 = .ok (.getfield 36, 3) := by decide +kernel
theorem dd_PT_find1_4 : decode bb_PT_find1 4 = .ok (.ifCond .ne 10, 3) := by decide +kernel
theorem dd_PT_find1_7 : decode bb_PT_find1 7 = .ok (.aload_n 0, 1) := by decide +kernel
theorem dd_PT_find1_8 : decode bb_PT_find1 8 = .ok (.getfield 10, 3) := by decide +kernel
theorem dd_PT_find1_11 : decode bb_PT_find1 11 = .ok (.invokevirtual 78, 3) := by decide +kernel
theorem dd_PT_find1_14 : decode bb_PT_find1 14 = .ok (.aload_n 0, 1) := by decide +kernel
theorem dd_PT_find1_15 : decode bb_PT_find1 15 = .ok (.iconst 1, 1) := by decide +kernel
theorem dd_PT_find1_16 : decode bb_PT_find1 16 = .ok (.putfield 36, 3) := by decide +kernel
theorem dd_PT_find1_19 : decode bb_PT_find1 19 = .ok (.aload_n 0, 1) := by decide +kernel
theorem dd_PT_find1_20 : decode bb_PT_find1 20 = .ok (.getfield 10, 3) := by decide +kernel
theorem dd_PT_find1_23 : decode bb_PT_find1 23 = .ok (.lload_n 1, 1) := by decide +kernel
theorem dd_PT_find1_24 : decode bb_PT_find1 24 = .ok (.aload_n 0, 1) := by decide +kernel
theorem dd_PT_find1_25 : decode bb_PT_find1 25 = .ok (.getfield 10, 3) := by decide +kernel
theorem dd_PT_find1_28 : decode bb_PT_find1 28 = .ok (.invokevirtual 60, 3) := by decide +kernel
theorem dd_PT_find1_31 : decode bb_PT_find1 31 = .ok (.land, 1) := by decide +kernel
theorem dd_PT_find1_32 : decode bb_PT_find1 32 = .ok (.invokevirtual 81, 3) := by decide +kernel
theorem dd_PT_find1_35 : decode bb_PT_find1 35 = .ok (.ireturn, 1) := by decide +kernel
theorem dd_JM_min_0 : decode bb_JM_min 0 = .ok (.iload_n 0, 1) := by decide +kernel
theorem dd_JM_min_1 : decode bb_JM_min 1 = .ok (.iload_n 1, 1) := by decide +kernel
theorem dd_JM_min_2 : decode bb_JM_min 2 = .ok (.if_icmp .gt 7, 3) := by decide +kernel
theorem dd_JM_min_5 : decode bb_JM_min 5 = .ok (.iload_n 0, 1) := by decide +kernel
theorem dd_JM_min_6 : decode bb_JM_min 6 = .ok (.goto 4, 3) := by decide +kernel
theorem dd_JM_min_9 : decode bb_JM_min 9 = .ok (.iload_n 1, 1) := by decide +kernel
theorem dd_JM_min_10 : decode bb_JM_min 10 = .ok (.ireturn, 1) := by decide +kernel
theorem dd_PT_count_0 : decode bb_PT_count 0 = .ok (.iload_n 1, 1) := by decide +kernel
theorem dd_PT_count_1 : decode bb_PT_count 1 = .ok (.tableswitch 54 0 3 #[31, 39, 47, 52], 31) := by decide +kernel
theorem dd_PT_count_32 : decode bb_PT_count 32 = .ok (.aload_n 0, 1) := by decide +kernel
theorem dd_PT_count_33 : decode bb_PT_count 33 = .ok (.getfield 10, 3) := by decide +kernel
theorem dd_PT_count_36 : decode bb_PT_count 36 = .ok (.getfield 33, 3) := by decide +kernel
theorem dd_PT_count_39 : decode bb_PT_count 39 = .ok (.ireturn, 1) := by decide +kernel
theorem dd_PT_count_40 : decode bb_PT_count 40 = .ok (.aload_n 0, 1) := by decide +kernel
theorem dd_PT_count_41 : decode bb_PT_count 41 = .ok (.getfield 10, 3) := by decide +kernel
theorem dd_PT_count_44 : decode bb_PT_count 44 = .ok (.getfield 30, 3) := by decide +kernel
theorem dd_PT_count_47 : decode bb_PT_count 47 = .ok (.ireturn, 1) := by decide +kernel
theorem dd_PT_count_48 : decode bb_PT_count 48 = .ok (.aload_n 0, 1) := by decide +kernel
theorem dd_PT_count_49 : decode bb_PT_count 49 = .ok (.getfield 16, 3) := by decide +kernel
theorem dd_PT_count_52 : decode bb_PT_count 52 = .ok (.ireturn, 1) := by decide +kernel
theorem dd_PT_count_53 : decode bb_PT_count 53 = .ok (.iconst 0, 1) := by decide +kernel
theorem dd_PT_count_54 : decode bb_PT_count 54 = .ok (.ireturn, 1) := by decide +kernel
theorem dd_PT_count_55 : decode bb_PT_count 55 = .ok (.iconst (-1), 1) := by decide +kernel
theorem dd_PT_count_56 : decode bb_PT_count 56 = .ok (.ireturn, 1) := by decide +kernel
theorem dd_PT_clear_0 : decode bb_PT_clear 0 = .ok (.iload_n 1, 1) := by decide +kernel
theorem dd_PT_clear_1 : decode bb_PT_clear 1 = .ok (.iconst 1, 1) := by decide +kernel
theorem dd_PT_clear_2 : decode bb_PT_clear 2 = .ok (.if_icmp .lt 13, 3) := by decide +kernel
theorem dd_PT_clear_5 : decode bb_PT_clear 5 = .ok (.iload_n 1, 1) := by decide +kernel
theorem dd_PT_clear_6 : decode bb_PT_clear 6 = .ok (.bipush 64, 2) := by decide +kernel
theorem dd_PT_clear_8 : decode bb_PT_clear 8 = .ok (.if_icmp .gt 7, 3) := by decide +kernel
theorem dd_PT_clear_11 : decode bb_PT_clear 11 = .ok (.iconst 1, 1) := by decide +kernel
theorem dd_PT_clear_12 : decode bb_PT_clear 12 = .ok (.goto 4, 3) := by decide +kernel
theorem dd_PT_clear_15 : decode bb_PT_clear 15 = .ok (.iconst 0, 1) := by decide +kernel
theorem dd_PT_clear_16 : decode bb_PT_clear 16 = .ok (.invokestatic 26, 3) := by decide +kernel
theorem dd_PT_clear_19 : decode bb_PT_clear 19 = .ok (.aload_n 0, 1) := by decide +kernel
theorem dd_PT_clear_20 : decode bb_PT_clear 20 = .ok (.getfield 10, 3) := by decide +kernel
theorem dd_PT_clear_23 : decode bb_PT_clear 23 = .ok (.iload_n 1, 1) := by decide +kernel
theorem dd_PT_clear_24 : decode bb_PT_clear 24 = .ok (.putfield 30, 3) := by decide +kernel
theorem dd_PT_clear_27 : decode bb_PT_clear 27 = .ok (.aload_n 0, 1) := by decide +kernel
theorem dd_PT_clear_28 : decode bb_PT_clear 28 = .ok (.getfield 10, 3) := by decide +kernel
theorem dd_PT_clear_31 : decode bb_PT_clear 31 = .ok (.iconst 0, 1) := by decide +kernel
theorem dd_PT_clear_32 : decode bb_PT_clear 32 = .ok (.putfield 33, 3) := by decide +kernel
theorem dd_PT_clear_35 : decode bb_PT_clear 35 = .ok (.aload_n 0, 1) := by decide +kernel
theorem dd_PT_clear_36 : decode bb_PT_clear 36 = .ok (.iconst 0, 1) := by decide +kernel
theorem dd_PT_clear_37 : decode bb_PT_clear 37 = .ok (.putfield 36, 3) := by decide +kernel
theorem dd_PT_clear_40 : decode bb_PT_clear 40 = .ok (.return_, 1) := by decide +kernel
theorem dd_PT_check_0 : decode bb_PT_check 0 = .ok (.iload_n 0, 1) := by decide +kernel
theorem dd_PT_check_1 : decode bb_PT_check 1 = .ok (.ifCond .ne 11, 3) := by decide +kernel
theorem dd_PT_check_4 : decode bb_PT_check 4 = .ok (.new 20, 3) := by decide +kernel
theorem dd_PT_check_7 : decode bb_PT_check 7 = .ok (.dup, 1) := by decide +kernel
theorem dd_PT_check_8 : decode bb_PT_check 8 = .ok (.invokespecial 22, 3) := by decide +kernel
theorem dd_PT_check_11 : decode bb_PT_check 11 = .ok (.athrow, 1) := by decide +kernel
theorem dd_PT_check_12 : decode bb_PT_check 12 = .ok (.return_, 1) := by decide +kernel
theorem dd_PT_add_0 : decode bb_PT_add 0 = .ok (.aload_n 0, 1) := by decide +kernel
theorem dd_PT_add_1 : decode bb_PT_add 1 = .ok (.lload_n 1, 1) := by decide +kernel
theorem dd_PT_add_2 : decode bb_PT_add 2 = .ok (.lload_n 3, 1) := by decide +kernel
theorem dd_PT_add_3 : decode bb_PT_add 3 = .ok (.invokevirtual 64, 3) := by decide +kernel
theorem dd_PT_add_6 : decode bb_PT_add 6 = .ok (.invokestatic 26, 3) := by decide +kernel
theorem dd_PT_add_9 : decode bb_PT_add 9 = .ok (.aload_n 0, 1) := by decide +kernel
theorem dd_PT_add_10 : decode bb_PT_add 10 = .ok (.lload_n 1, 1) := by decide +kernel
theorem dd_PT_add_11 : decode bb_PT_add 11 = .ok (.aload_n 0, 1) := by decide +kernel
theorem dd_PT_add_12 : decode bb_PT_add 12 = .ok (.getfield 10, 3) := by decide +kernel
theorem dd_PT_add_15 : decode bb_PT_add 15 = .ok (.invokevirtual 60, 3) := by decide +kernel
theorem dd_PT_add_18 : decode bb_PT_add 18 = .ok (.land, 1) := by decide +kernel
theorem dd_PT_add_19 : decode bb_PT_add 19 = .ok (.lload_n 3, 1) := by decide +kernel
theorem dd_PT_add_20 : decode bb_PT_add 20 = .ok (.aload_n 0, 1) := by decide +kernel
theorem dd_PT_add_21 : decode bb_PT_add 21 = .ok (.getfield 10, 3) := by decide +kernel
theorem dd_PT_add_24 : decode bb_PT_add 24 = .ok (.invokevirtual 60, 3) := by decide +kernel
theorem dd_PT_add_27 : decode bb_PT_add 27 = .ok (.land, 1) := by decide +kernel
theorem dd_PT_add_28 : decode bb_PT_add 28 = .ok (.invokevirtual 68, 3) := by decide +kernel
theorem dd_PT_add_31 : decode bb_PT_add 31 = .ok (.ireturn, 1) := by decide +kernel
theorem dd_PT_isPattern_0 : decode bb_PT_isPattern 0 = .ok (.lload_n 3, 1) := by decide +kernel
theorem dd_PT_isPattern_1 : decode bb_PT_isPattern 1 = .ok (.lload_n 1, 1) := by decide +kernel
theorem dd_PT_isPattern_2 : decode bb_PT_isPattern 2 = .ok (.ldc2_w 58, 3) := by decide +kernel
theorem dd_PT_isPattern_5 : decode bb_PT_isPattern 5 = .ok (.lxor, 1) := by decide +kernel
theorem dd_PT_isPattern_6 : decode bb_PT_isPattern 6 = .ok (.land, 1) := by decide +kernel
theorem dd_PT_isPattern_7 : decode bb_PT_isPattern 7 = .ok (.aload_n 0, 1) := by decide +kernel
theorem dd_PT_isPattern_8 : decode bb_PT_isPattern 8 = .ok (.getfield 10, 3) := by decide +kernel
theorem dd_PT_isPattern_11 : decode bb_PT_isPattern 11 = .ok (.invokevirtual 60, 3) := by decide +kernel
theorem dd_PT_isPattern_14 : decode bb_PT_isPattern 14 = .ok (.land, 1) := by decide +kernel
theorem dd_PT_isPattern_15 : decode bb_PT_isPattern 15 = .ok (.lconst 0, 1) := by decide +kernel
theorem dd_PT_isPattern_16 : decode bb_PT_isPattern 16 = .ok (.lcmp, 1) := by decide +kernel
theorem dd_PT_isPattern_17 : decode bb_PT_isPattern 17 = .ok (.ifCond .ne 7, 3) := by decide +kernel
theorem dd_PT_isPattern_20 : decode bb_PT_isPattern 20 = .ok (.iconst 1, 1) := by decide +kernel
theorem dd_PT_isPattern_21 : decode bb_PT_isPattern 21 = .ok (.goto 4, 3) := by decide +kernel
theorem dd_PT_isPattern_24 : decode bb_PT_isPattern 24 = .ok (.iconst 0, 1) := by decide +kernel
theorem dd_PT_isPattern_25 : decode bb_PT_isPattern 25 = .ok (.ireturn, 1) := by decide +kernel
theorem dd_PT_put_0 : decode bb_PT_put 0 = .ok (.aload_n 0, 1) := by decide +kernel
theorem dd_PT_put_1 : decode bb_PT_put 1 = .ok (.getfield 10, 3) := by decide +kernel
theorem dd_PT_put_4 : decode bb_PT_put 4 = .ok (.getfield 33, 3) := by decide +kernel
theorem dd_PT_put_7 : decode bb_PT_put 7 = .ok (.sipush 512, 3) := by decide +kernel
theorem dd_PT_put_10 : decode bb_PT_put 10 = .ok (.if_icmp .ne 16, 3) := by decide +kernel
theorem dd_PT_put_13 : decode bb_PT_put 13 = .ok (.aload_n 0, 1) := by decide +kernel
theorem dd_PT_put_14 : decode bb_PT_put 14 = .ok (.iconst (-1), 1) := by decide +kernel
theorem dd_PT_put_15 : decode bb_PT_put 15 = .ok (.putfield 16, 3) := by decide +kernel
theorem dd_PT_put_18 : decode bb_PT_put 18 = .ok (.new 44, 3) := by decide +kernel
theorem dd_PT_put_21 : decode bb_PT_put 21 = .ok (.dup, 1) := by decide +kernel
theorem dd_PT_put_22 : decode bb_PT_put 22 = .ok (.invokespecial 46, 3) := by decide +kernel
theorem dd_PT_put_25 : decode bb_PT_put 25 = .ok (.athrow, 1) := by decide +kernel
theorem dd_PT_put_26 : decode bb_PT_put 26 = .ok (.aload_n 0, 1) := by decide +kernel
theorem dd_PT_put_27 : decode bb_PT_put 27 = .ok (.lload_n 1, 1) := by decide +kernel
theorem dd_PT_put_28 : decode bb_PT_put 28 = .ok (.lload_n 3, 1) := by decide +kernel
theorem dd_PT_put_29 : decode bb_PT_put 29 = .ok (.invokevirtual 47, 3) := by decide +kernel
theorem dd_PT_put_32 : decode bb_PT_put 32 = .ok (.istore 5, 2) := by decide +kernel
theorem dd_PT_put_34 : decode bb_PT_put 34 = .ok (.iload 5, 2) := by decide +kernel
theorem dd_PT_put_36 : decode bb_PT_put 36 = .ok (.ifCond .lt 17, 3) := by decide +kernel
theorem dd_PT_put_39 : decode bb_PT_put 39 = .ok (.aload_n 0, 1) := by decide +kernel
theorem dd_PT_put_40 : decode bb_PT_put 40 = .ok (.iload 5, 2) := by decide +kernel
theorem dd_PT_put_42 : decode bb_PT_put 42 = .ok (.putfield 16, 3) := by decide +kernel
theorem dd_PT_put_45 : decode bb_PT_put 45 = .ok (.new 44, 3) := by decide +kernel
theorem dd_PT_put_48 : decode bb_PT_put 48 = .ok (.dup, 1) := by decide +kernel
theorem dd_PT_put_49 : decode bb_PT_put 49 = .ok (.invokespecial 46, 3) := by decide +kernel
theorem dd_PT_put_52 : decode bb_PT_put 52 = .ok (.athrow, 1) := by decide +kernel
theorem dd_PT_put_53 : decode bb_PT_put 53 = .ok (.aload_n 0, 1) := by decide +kernel
theorem dd_PT_put_54 : decode bb_PT_put 54 = .ok (.getfield 10, 3) := by decide +kernel
theorem dd_PT_put_57 : decode bb_PT_put 57 = .ok (.getfield 51, 3) := by decide +kernel
theorem dd_PT_put_60 : decode bb_PT_put 60 = .ok (.aload_n 0, 1) := by decide +kernel
theorem dd_PT_put_61 : decode bb_PT_put 61 = .ok (.getfield 10, 3) := by decide +kernel
theorem dd_PT_put_64 : decode bb_PT_put 64 = .ok (.getfield 33, 3) := by decide +kernel
theorem dd_PT_put_67 : decode bb_PT_put 67 = .ok (.lload_n 1, 1) := by decide +kernel
theorem dd_PT_put_68 : decode bb_PT_put 68 = .ok (.lastore, 1) := by decide +kernel
theorem dd_PT_put_69 : decode bb_PT_put 69 = .ok (.aload_n 0, 1) := by decide +kernel
theorem dd_PT_put_70 : decode bb_PT_put 70 = .ok (.getfield 10, 3) := by decide +kernel
theorem dd_PT_put_73 : decode bb_PT_put 73 = .ok (.getfield 55, 3) := by decide +kernel
theorem dd_PT_put_76 : decode bb_PT_put 76 = .ok (.aload_n 0, 1) := by decide +kernel
theorem dd_PT_put_77 : decode bb_PT_put 77 = .ok (.getfield 10, 3) := by decide +kernel
theorem dd_PT_put_80 : decode bb_PT_put 80 = .ok (.getfield 33, 3) := by decide +kernel
theorem dd_PT_put_83 : decode bb_PT_put 83 = .ok (.lload_n 3, 1) := by decide +kernel
theorem dd_PT_put_84 : decode bb_PT_put 84 = .ok (.lastore, 1) := by decide +kernel
theorem dd_PT_put_85 : decode bb_PT_put 85 = .ok (.aload_n 0, 1) := by decide +kernel
theorem dd_PT_put_86 : decode bb_PT_put 86 = .ok (.getfield 10, 3) := by decide +kernel
theorem dd_PT_put_89 : decode bb_PT_put 89 = .ok (.dup, 1) := by decide +kernel
theorem dd_PT_put_90 : decode bb_PT_put 90 = .ok (.getfield 33, 3) := by decide +kernel
theorem dd_PT_put_93 : decode bb_PT_put 93 = .ok (.iconst 1, 1) := by decide +kernel
theorem dd_PT_put_94 : decode bb_PT_put 94 = .ok (.iadd, 1) := by decide +kernel
theorem dd_PT_put_95 : decode bb_PT_put 95 = .ok (.putfield 33, 3) := by decide +kernel
theorem dd_PT_put_98 : decode bb_PT_put 98 = .ok (.aload_n 0, 1) := by decide +kernel
theorem dd_PT_put_99 : decode bb_PT_put 99 = .ok (.iconst 0, 1) := by decide +kernel
theorem dd_PT_put_100 : decode bb_PT_put 100 = .ok (.putfield 36, 3) := by decide +kernel
theorem dd_PT_put_103 : decode bb_PT_put 103 = .ok (.aload_n 0, 1) := by decide +kernel
theorem dd_PT_put_104 : decode bb_PT_put 104 = .ok (.getfield 10, 3) := by decide +kernel
theorem dd_PT_put_107 : decode bb_PT_put 107 = .ok (.getfield 33, 3) := by decide +kernel
theorem dd_PT_put_110 : decode bb_PT_put 110 = .ok (.iconst 1, 1) := by decide +kernel
theorem dd_PT_put_111 : decode bb_PT_put 111 = .ok (.isub, 1) := by decide +kernel
theorem dd_PT_put_112 : decode bb_PT_put 112 = .ok (.ireturn, 1) := by decide +kernel
theorem dd_PT_find2_0 : decode bb_PT_find2 0 = .ok (.iconst 0, 1) := by decide +kernel
theorem dd_PT_find2_1 : decode bb_PT_find2 1 = .ok (.istore 5, 2) := by decide +kernel
theorem dd_PT_find2_3 : decode bb_PT_find2 3 = .ok (.iload 5, 2) := by decide +kernel
theorem dd_PT_find2_5 : decode bb_PT_find2 5 = .ok (.aload_n 0, 1) := by decide +kernel
theorem dd_PT_find2_6 : decode bb_PT_find2 6 = .ok (.getfield 10, 3) := by decide +kernel
theorem dd_PT_find2_9 : decode bb_PT_find2 9 = .ok (.getfield 33, 3) := by decide +kernel
theorem dd_PT_find2_12 : decode bb_PT_find2 12 = .ok (.if_icmp .ge 26, 3) := by decide +kernel
theorem dd_PT_find2_15 : decode bb_PT_find2 15 = .ok (.aload_n 0, 1) := by decide +kernel
theorem dd_PT_find2_16 : decode bb_PT_find2 16 = .ok (.getfield 10, 3) := by decide +kernel
theorem dd_PT_find2_19 : decode bb_PT_find2 19 = .ok (.iload 5, 2) := by decide +kernel
theorem dd_PT_find2_21 : decode bb_PT_find2 21 = .ok (.lload_n 1, 1) := by decide +kernel
theorem dd_PT_find2_22 : decode bb_PT_find2 22 = .ok (.lload_n 3, 1) := by decide +kernel
theorem dd_PT_find2_23 : decode bb_PT_find2 23 = .ok (.invokevirtual 40, 3) := by decide +kernel
theorem dd_PT_find2_26 : decode bb_PT_find2 26 = .ok (.ifCond .eq 6, 3) := by decide +kernel
theorem dd_PT_find2_29 : decode bb_PT_find2 29 = .ok (.iload 5, 2) := by decide +kernel
theorem dd_PT_find2_31 : decode bb_PT_find2 31 = .ok (.ireturn, 1) := by decide +kernel
theorem dd_PT_find2_32 : decode bb_PT_find2 32 = .ok (.iinc 5 1, 3) := by decide +kernel
theorem dd_PT_find2_35 : decode bb_PT_find2 35 = .ok (.goto (-32), 3) := by decide +kernel
theorem dd_PT_find2_38 : decode bb_PT_find2 38 = .ok (.iconst (-1), 1) := by decide +kernel
theorem dd_PT_find2_39 : decode bb_PT_find2 39 = .ok (.ireturn, 1) := by decide +kernel
theorem dd_PT_signs_0 : decode bb_PT_signs 0 = .ok (.lload_n 1, 1) := by decide +kernel
theorem dd_PT_signs_1 : decode bb_PT_signs 1 = .ok (.lconst 0, 1) := by decide +kernel
theorem dd_PT_signs_2 : decode bb_PT_signs 2 = .ok (.lcmp, 1) := by decide +kernel
theorem dd_PT_signs_3 : decode bb_PT_signs 3 = .ok (.ifCond .lt 7, 3) := by decide +kernel
theorem dd_PT_signs_6 : decode bb_PT_signs 6 = .ok (.iconst 1, 1) := by decide +kernel
theorem dd_PT_signs_7 : decode bb_PT_signs 7 = .ok (.goto 4, 3) := by decide +kernel
theorem dd_PT_signs_10 : decode bb_PT_signs 10 = .ok (.iconst 0, 1) := by decide +kernel
theorem dd_PT_signs_11 : decode bb_PT_signs 11 = .ok (.invokestatic 26, 3) := by decide +kernel
theorem dd_PT_signs_14 : decode bb_PT_signs 14 = .ok (.lconst 0, 1) := by decide +kernel
theorem dd_PT_signs_15 : decode bb_PT_signs 15 = .ok (.lstore_n 3, 1) := by decide +kernel
theorem dd_PT_signs_16 : decode bb_PT_signs 16 = .ok (.lconst 0, 1) := by decide +kernel
theorem dd_PT_signs_17 : decode bb_PT_signs 17 = .ok (.lstore 5, 2) := by decide +kernel
theorem dd_PT_signs_19 : decode bb_PT_signs 19 = .ok (.lload_n 1, 1) := by decide +kernel
theorem dd_PT_signs_20 : decode bb_PT_signs 20 = .ok (.lstore 7, 2) := by decide +kernel
theorem dd_PT_signs_22 : decode bb_PT_signs 22 = .ok (.iconst 0, 1) := by decide +kernel
theorem dd_PT_signs_23 : decode bb_PT_signs 23 = .ok (.istore 9, 2) := by decide +kernel
theorem dd_PT_signs_25 : decode bb_PT_signs 25 = .ok (.iload 9, 2) := by decide +kernel
theorem dd_PT_signs_27 : decode bb_PT_signs 27 = .ok (.bipush 40, 2) := by decide +kernel
theorem dd_PT_signs_29 : decode bb_PT_signs 29 = .ok (.if_icmp .ge 57, 3) := by decide +kernel
theorem dd_PT_signs_32 : decode bb_PT_signs 32 = .ok (.lload 7, 2) := by decide +kernel
theorem dd_PT_signs_34 : decode bb_PT_signs 34 = .ok (.ldc2_w 71, 3) := by decide +kernel
theorem dd_PT_signs_37 : decode bb_PT_signs 37 = .ok (.lrem, 1) := by decide +kernel
theorem dd_PT_signs_38 : decode bb_PT_signs 38 = .ok (.lstore 10, 2) := by decide +kernel
theorem dd_PT_signs_40 : decode bb_PT_signs 40 = .ok (.lload 7, 2) := by decide +kernel
theorem dd_PT_signs_42 : decode bb_PT_signs 42 = .ok (.ldc2_w 71, 3) := by decide +kernel
theorem dd_PT_signs_45 : decode bb_PT_signs 45 = .ok (.ldiv, 1) := by decide +kernel
theorem dd_PT_signs_46 : decode bb_PT_signs 46 = .ok (.lstore 7, 2) := by decide +kernel
theorem dd_PT_signs_48 : decode bb_PT_signs 48 = .ok (.lload 10, 2) := by decide +kernel
theorem dd_PT_signs_50 : decode bb_PT_signs 50 = .ok (.ldc2_w 73, 3) := by decide +kernel
theorem dd_PT_signs_53 : decode bb_PT_signs 53 = .ok (.lcmp, 1) := by decide +kernel
theorem dd_PT_signs_54 : decode bb_PT_signs 54 = .ok (.ifCond .ge 10, 3) := by decide +kernel
theorem dd_PT_signs_57 : decode bb_PT_signs 57 = .ok (.lload_n 3, 1) := by decide +kernel
theorem dd_PT_signs_58 : decode bb_PT_signs 58 = .ok (.lconst 1, 1) := by decide +kernel
theorem dd_PT_signs_59 : decode bb_PT_signs 59 = .ok (.iload 9, 2) := by decide +kernel
theorem dd_PT_signs_61 : decode bb_PT_signs 61 = .ok (.lshl, 1) := by decide +kernel
theorem dd_PT_signs_62 : decode bb_PT_signs 62 = .ok (.lor, 1) := by decide +kernel
theorem dd_PT_signs_63 : decode bb_PT_signs 63 = .ok (.lstore_n 3, 1) := by decide +kernel
theorem dd_PT_signs_64 : decode bb_PT_signs 64 = .ok (.lload 10, 2) := by decide +kernel
theorem dd_PT_signs_66 : decode bb_PT_signs 66 = .ok (.lconst 1, 1) := by decide +kernel
theorem dd_PT_signs_67 : decode bb_PT_signs 67 = .ok (.lcmp, 1) := by decide +kernel
theorem dd_PT_signs_68 : decode bb_PT_signs 68 = .ok (.ifCond .ne 12, 3) := by decide +kernel
theorem dd_PT_signs_71 : decode bb_PT_signs 71 = .ok (.lload 5, 2) := by decide +kernel
theorem dd_PT_signs_73 : decode bb_PT_signs 73 = .ok (.lconst 1, 1) := by decide +kernel
theorem dd_PT_signs_74 : decode bb_PT_signs 74 = .ok (.iload 9, 2) := by decide +kernel
theorem dd_PT_signs_76 : decode bb_PT_signs 76 = .ok (.lshl, 1) := by decide +kernel
theorem dd_PT_signs_77 : decode bb_PT_signs 77 = .ok (.lor, 1) := by decide +kernel
theorem dd_PT_signs_78 : decode bb_PT_signs 78 = .ok (.lstore 5, 2) := by decide +kernel
theorem dd_PT_signs_80 : decode bb_PT_signs 80 = .ok (.iinc 9 1, 3) := by decide +kernel
theorem dd_PT_signs_83 : decode bb_PT_signs 83 = .ok (.goto (-58), 3) := by decide +kernel
theorem dd_PT_signs_86 : decode bb_PT_signs 86 = .ok (.aload_n 0, 1) := by decide +kernel
theorem dd_PT_signs_87 : decode bb_PT_signs 87 = .ok (.lload_n 3, 1) := by decide +kernel
theorem dd_PT_signs_88 : decode bb_PT_signs 88 = .ok (.aload_n 0, 1) := by decide +kernel
theorem dd_PT_signs_89 : decode bb_PT_signs 89 = .ok (.getfield 10, 3) := by decide +kernel
theorem dd_PT_signs_92 : decode bb_PT_signs 92 = .ok (.invokevirtual 60, 3) := by decide +kernel
theorem dd_PT_signs_95 : decode bb_PT_signs 95 = .ok (.land, 1) := by decide +kernel
theorem dd_PT_signs_96 : decode bb_PT_signs 96 = .ok (.lload 5, 2) := by decide +kernel
theorem dd_PT_signs_98 : decode bb_PT_signs 98 = .ok (.aload_n 0, 1) := by decide +kernel
theorem dd_PT_signs_99 : decode bb_PT_signs 99 = .ok (.getfield 10, 3) := by decide +kernel
theorem dd_PT_signs_102 : decode bb_PT_signs 102 = .ok (.invokevirtual 60, 3) := by decide +kernel
theorem dd_PT_signs_105 : decode bb_PT_signs 105 = .ok (.land, 1) := by decide +kernel
theorem dd_PT_signs_106 : decode bb_PT_signs 106 = .ok (.invokevirtual 68, 3) := by decide +kernel
theorem dd_PT_signs_109 : decode bb_PT_signs 109 = .ok (.ireturn, 1) := by decide +kernel
theorem dd_PT_drop_0 : decode bb_PT_drop 0 = .ok (.iload_n 1, 1) := by decide +kernel
theorem dd_PT_drop_1 : decode bb_PT_drop 1 = .ok (.ifCond .lt 18, 3) := by decide +kernel
theorem dd_PT_drop_4 : decode bb_PT_drop 4 = .ok (.iload_n 1, 1) := by decide +kernel
theorem dd_PT_drop_5 : decode bb_PT_drop 5 = .ok (.aload_n 0, 1) := by decide +kernel
theorem dd_PT_drop_6 : decode bb_PT_drop 6 = .ok (.getfield 10, 3) := by decide +kernel
theorem dd_PT_drop_9 : decode bb_PT_drop 9 = .ok (.getfield 33, 3) := by decide +kernel
theorem dd_PT_drop_12 : decode bb_PT_drop 12 = .ok (.if_icmp .ge 7, 3) := by decide +kernel
theorem dd_PT_drop_15 : decode bb_PT_drop 15 = .ok (.iconst 1, 1) := by decide +kernel
theorem dd_PT_drop_16 : decode bb_PT_drop 16 = .ok (.goto 4, 3) := by decide +kernel
theorem dd_PT_drop_19 : decode bb_PT_drop 19 = .ok (.iconst 0, 1) := by decide +kernel
theorem dd_PT_drop_20 : decode bb_PT_drop 20 = .ok (.invokestatic 75, 3) := by decide +kernel
theorem dd_PT_drop_23 : decode bb_PT_drop 23 = .ok (.aload_n 0, 1) := by decide +kernel
theorem dd_PT_drop_24 : decode bb_PT_drop 24 = .ok (.getfield 10, 3) := by decide +kernel
theorem dd_PT_drop_27 : decode bb_PT_drop 27 = .ok (.dup, 1) := by decide +kernel
theorem dd_PT_drop_28 : decode bb_PT_drop 28 = .ok (.getfield 33, 3) := by decide +kernel
theorem dd_PT_drop_31 : decode bb_PT_drop 31 = .ok (.iconst 1, 1) := by decide +kernel
theorem dd_PT_drop_32 : decode bb_PT_drop 32 = .ok (.isub, 1) := by decide +kernel
theorem dd_PT_drop_33 : decode bb_PT_drop 33 = .ok (.putfield 33, 3) := by decide +kernel
theorem dd_PT_drop_36 : decode bb_PT_drop 36 = .ok (.iload_n 1, 1) := by decide +kernel
theorem dd_PT_drop_37 : decode bb_PT_drop 37 = .ok (.istore_n 2, 1) := by decide +kernel
theorem dd_PT_drop_38 : decode bb_PT_drop 38 = .ok (.iload_n 2, 1) := by decide +kernel
theorem dd_PT_drop_39 : decode bb_PT_drop 39 = .ok (.aload_n 0, 1) := by decide +kernel
theorem dd_PT_drop_40 : decode bb_PT_drop 40 = .ok (.getfield 10, 3) := by decide +kernel
theorem dd_PT_drop_43 : decode bb_PT_drop 43 = .ok (.getfield 33, 3) := by decide +kernel
theorem dd_PT_drop_46 : decode bb_PT_drop 46 = .ok (.if_icmp .ge 49, 3) := by decide +kernel
theorem dd_PT_drop_49 : decode bb_PT_drop 49 = .ok (.aload_n 0, 1) := by decide +kernel
theorem dd_PT_drop_50 : decode bb_PT_drop 50 = .ok (.getfield 10, 3) := by decide +kernel
theorem dd_PT_drop_53 : decode bb_PT_drop 53 = .ok (.getfield 51, 3) := by decide +kernel
theorem dd_PT_drop_56 : decode bb_PT_drop 56 = .ok (.iload_n 2, 1) := by decide +kernel
theorem dd_PT_drop_57 : decode bb_PT_drop 57 = .ok (.aload_n 0, 1) := by decide +kernel
theorem dd_PT_drop_58 : decode bb_PT_drop 58 = .ok (.getfield 10, 3) := by decide +kernel
theorem dd_PT_drop_61 : decode bb_PT_drop 61 = .ok (.getfield 51, 3) := by decide +kernel
theorem dd_PT_drop_64 : decode bb_PT_drop 64 = .ok (.iload_n 2, 1) := by decide +kernel
theorem dd_PT_drop_65 : decode bb_PT_drop 65 = .ok (.iconst 1, 1) := by decide +kernel
theorem dd_PT_drop_66 : decode bb_PT_drop 66 = .ok (.iadd, 1) := by decide +kernel
theorem dd_PT_drop_67 : decode bb_PT_drop 67 = .ok (.laload, 1) := by decide +kernel
theorem dd_PT_drop_68 : decode bb_PT_drop 68 = .ok (.lastore, 1) := by decide +kernel
theorem dd_PT_drop_69 : decode bb_PT_drop 69 = .ok (.aload_n 0, 1) := by decide +kernel
theorem dd_PT_drop_70 : decode bb_PT_drop 70 = .ok (.getfield 10, 3) := by decide +kernel
theorem dd_PT_drop_73 : decode bb_PT_drop 73 = .ok (.getfield 55, 3) := by decide +kernel
theorem dd_PT_drop_76 : decode bb_PT_drop 76 = .ok (.iload_n 2, 1) := by decide +kernel
theorem dd_PT_drop_77 : decode bb_PT_drop 77 = .ok (.aload_n 0, 1) := by decide +kernel
theorem dd_PT_drop_78 : decode bb_PT_drop 78 = .ok (.getfield 10, 3) := by decide +kernel
theorem dd_PT_drop_81 : decode bb_PT_drop 81 = .ok (.getfield 55, 3) := by decide +kernel
theorem dd_PT_drop_84 : decode bb_PT_drop 84 = .ok (.iload_n 2, 1) := by decide +kernel
theorem dd_PT_drop_85 : decode bb_PT_drop 85 = .ok (.iconst 1, 1) := by decide +kernel
theorem dd_PT_drop_86 : decode bb_PT_drop 86 = .ok (.iadd, 1) := by decide +kernel
theorem dd_PT_drop_87 : decode bb_PT_drop 87 = .ok (.laload, 1) := by decide +kernel
theorem dd_PT_drop_88 : decode bb_PT_drop 88 = .ok (.lastore, 1) := by decide +kernel
theorem dd_PT_drop_89 : decode bb_PT_drop 89 = .ok (.iinc 2 1, 3) := by decide +kernel
theorem dd_PT_drop_92 : decode bb_PT_drop 92 = .ok (.goto (-54), 3) := by decide +kernel
theorem dd_PT_drop_95 : decode bb_PT_drop 95 = .ok (.aload_n 0, 1) := by decide +kernel
theorem dd_PT_drop_96 : decode bb_PT_drop 96 = .ok (.iconst 0, 1) := by decide +kernel
theorem dd_PT_drop_97 : decode bb_PT_drop 97 = .ok (.putfield 36, 3) := by decide +kernel
theorem dd_PT_drop_100 : decode bb_PT_drop 100 = .ok (.return_, 1) := by decide +kernel
theorem dd_PT_there_0 : decode bb_PT_there 0 = .ok (.iload_n 0, 1) := by decide +kernel
theorem dd_PT_there_1 : decode bb_PT_there 1 = .ok (.ifCond .ne 11, 3) := by decide +kernel
theorem dd_PT_there_4 : decode bb_PT_there 4 = .ok (.new 23, 3) := by decide +kernel
theorem dd_PT_there_7 : decode bb_PT_there 7 = .ok (.dup, 1) := by decide +kernel
theorem dd_PT_there_8 : decode bb_PT_there 8 = .ok (.invokespecial 25, 3) := by decide +kernel
theorem dd_PT_there_11 : decode bb_PT_there 11 = .ok (.athrow, 1) := by decide +kernel
theorem dd_PT_there_12 : decode bb_PT_there 12 = .ok (.return_, 1) := by decide +kernel
theorem dd_PT_meets_0 : decode bb_PT_meets 0 = .ok (.aload_n 0, 1) := by decide +kernel
theorem dd_PT_meets_1 : decode bb_PT_meets 1 = .ok (.lload_n 1, 1) := by decide +kernel
theorem dd_PT_meets_2 : decode bb_PT_meets 2 = .ok (.lload_n 3, 1) := by decide +kernel
theorem dd_PT_meets_3 : decode bb_PT_meets 3 = .ok (.invokevirtual 64, 3) := by decide +kernel
theorem dd_PT_meets_6 : decode bb_PT_meets 6 = .ok (.invokestatic 26, 3) := by decide +kernel
theorem dd_PT_meets_9 : decode bb_PT_meets 9 = .ok (.aload_n 0, 1) := by decide +kernel
theorem dd_PT_meets_10 : decode bb_PT_meets 10 = .ok (.lload_n 1, 1) := by decide +kernel
theorem dd_PT_meets_11 : decode bb_PT_meets 11 = .ok (.aload_n 0, 1) := by decide +kernel
theorem dd_PT_meets_12 : decode bb_PT_meets 12 = .ok (.getfield 10, 3) := by decide +kernel
theorem dd_PT_meets_15 : decode bb_PT_meets 15 = .ok (.invokevirtual 60, 3) := by decide +kernel
theorem dd_PT_meets_18 : decode bb_PT_meets 18 = .ok (.land, 1) := by decide +kernel
theorem dd_PT_meets_19 : decode bb_PT_meets 19 = .ok (.lload_n 3, 1) := by decide +kernel
theorem dd_PT_meets_20 : decode bb_PT_meets 20 = .ok (.aload_n 0, 1) := by decide +kernel
theorem dd_PT_meets_21 : decode bb_PT_meets 21 = .ok (.getfield 10, 3) := by decide +kernel
theorem dd_PT_meets_24 : decode bb_PT_meets 24 = .ok (.invokevirtual 60, 3) := by decide +kernel
theorem dd_PT_meets_27 : decode bb_PT_meets 27 = .ok (.land, 1) := by decide +kernel
theorem dd_PT_meets_28 : decode bb_PT_meets 28 = .ok (.invokevirtual 47, 3) := by decide +kernel
theorem dd_PT_meets_31 : decode bb_PT_meets 31 = .ok (.ireturn, 1) := by decide +kernel
theorem dd_PT_free_0 : decode bb_PT_free 0 = .ok (.aload_n 0, 1) := by decide +kernel
theorem dd_PT_free_1 : decode bb_PT_free 1 = .ok (.lload_n 1, 1) := by decide +kernel
theorem dd_PT_free_2 : decode bb_PT_free 2 = .ok (.lload_n 3, 1) := by decide +kernel
theorem dd_PT_free_3 : decode bb_PT_free 3 = .ok (.invokevirtual 64, 3) := by decide +kernel
theorem dd_PT_free_6 : decode bb_PT_free 6 = .ok (.invokestatic 26, 3) := by decide +kernel
theorem dd_PT_free_9 : decode bb_PT_free 9 = .ok (.aload_n 0, 1) := by decide +kernel
theorem dd_PT_free_10 : decode bb_PT_free 10 = .ok (.lload_n 1, 1) := by decide +kernel
theorem dd_PT_free_11 : decode bb_PT_free 11 = .ok (.aload_n 0, 1) := by decide +kernel
theorem dd_PT_free_12 : decode bb_PT_free 12 = .ok (.getfield 10, 3) := by decide +kernel
theorem dd_PT_free_15 : decode bb_PT_free 15 = .ok (.invokevirtual 60, 3) := by decide +kernel
theorem dd_PT_free_18 : decode bb_PT_free 18 = .ok (.land, 1) := by decide +kernel
theorem dd_PT_free_19 : decode bb_PT_free 19 = .ok (.lload_n 3, 1) := by decide +kernel
theorem dd_PT_free_20 : decode bb_PT_free 20 = .ok (.aload_n 0, 1) := by decide +kernel
theorem dd_PT_free_21 : decode bb_PT_free 21 = .ok (.getfield 10, 3) := by decide +kernel
theorem dd_PT_free_24 : decode bb_PT_free 24 = .ok (.invokevirtual 60, 3) := by decide +kernel
theorem dd_PT_free_27 : decode bb_PT_free 27 = .ok (.land, 1) := by decide +kernel
theorem dd_PT_free_28 : decode bb_PT_free 28 = .ok (.invokevirtual 96, 3) := by decide +kernel
theorem dd_PT_free_31 : decode bb_PT_free 31 = .ok (.lreturn, 1) := by decide +kernel
theorem dd_PT_open_0 : decode bb_PT_open 0 = .ok (.aload_n 0, 1) := by decide +kernel
theorem dd_PT_open_1 : decode bb_PT_open 1 = .ok (.lload_n 1, 1) := by decide +kernel
theorem dd_PT_open_2 : decode bb_PT_open 2 = .ok (.invokevirtual 92, 3) := by decide +kernel
theorem dd_PT_open_5 : decode bb_PT_open 5 = .ok (.lstore 5, 2) := by decide +kernel
theorem dd_PT_open_7 : decode bb_PT_open 7 = .ok (.iconst 0, 1) := by decide +kernel
theorem dd_PT_open_8 : decode bb_PT_open 8 = .ok (.istore 7, 2) := by decide +kernel
theorem dd_PT_open_10 : decode bb_PT_open 10 = .ok (.iload 7, 2) := by decide +kernel
theorem dd_PT_open_12 : decode bb_PT_open 12 = .ok (.aload_n 0, 1) := by decide +kernel
theorem dd_PT_open_13 : decode bb_PT_open 13 = .ok (.getfield 10, 3) := by decide +kernel
theorem dd_PT_open_16 : decode bb_PT_open 16 = .ok (.getfield 33, 3) := by decide +kernel
theorem dd_PT_open_19 : decode bb_PT_open 19 = .ok (.if_icmp .ge 44, 3) := by decide +kernel
theorem dd_PT_open_22 : decode bb_PT_open 22 = .ok (.aload_n 0, 1) := by decide +kernel
theorem dd_PT_open_23 : decode bb_PT_open 23 = .ok (.getfield 10, 3) := by decide +kernel
theorem dd_PT_open_26 : decode bb_PT_open 26 = .ok (.iload 7, 2) := by decide +kernel
theorem dd_PT_open_28 : decode bb_PT_open 28 = .ok (.lload_n 1, 1) := by decide +kernel
theorem dd_PT_open_29 : decode bb_PT_open 29 = .ok (.lload_n 3, 1) := by decide +kernel
theorem dd_PT_open_30 : decode bb_PT_open 30 = .ok (.invokevirtual 40, 3) := by decide +kernel
theorem dd_PT_open_33 : decode bb_PT_open 33 = .ok (.ifCond .eq 24, 3) := by decide +kernel
theorem dd_PT_open_36 : decode bb_PT_open 36 = .ok (.lload 5, 2) := by decide +kernel
theorem dd_PT_open_38 : decode bb_PT_open 38 = .ok (.aload_n 0, 1) := by decide +kernel
theorem dd_PT_open_39 : decode bb_PT_open 39 = .ok (.lload_n 1, 1) := by decide +kernel
theorem dd_PT_open_40 : decode bb_PT_open 40 = .ok (.aload_n 0, 1) := by decide +kernel
theorem dd_PT_open_41 : decode bb_PT_open 41 = .ok (.getfield 10, 3) := by decide +kernel
theorem dd_PT_open_44 : decode bb_PT_open 44 = .ok (.getfield 51, 3) := by decide +kernel
theorem dd_PT_open_47 : decode bb_PT_open 47 = .ok (.iload 7, 2) := by decide +kernel
theorem dd_PT_open_49 : decode bb_PT_open 49 = .ok (.laload, 1) := by decide +kernel
theorem dd_PT_open_50 : decode bb_PT_open 50 = .ok (.lor, 1) := by decide +kernel
theorem dd_PT_open_51 : decode bb_PT_open 51 = .ok (.invokevirtual 92, 3) := by decide +kernel
theorem dd_PT_open_54 : decode bb_PT_open 54 = .ok (.lsub, 1) := by decide +kernel
theorem dd_PT_open_55 : decode bb_PT_open 55 = .ok (.lstore 5, 2) := by decide +kernel
theorem dd_PT_open_57 : decode bb_PT_open 57 = .ok (.iinc 7 1, 3) := by decide +kernel
theorem dd_PT_open_60 : decode bb_PT_open 60 = .ok (.goto (-50), 3) := by decide +kernel
theorem dd_PT_open_63 : decode bb_PT_open 63 = .ok (.lload 5, 2) := by decide +kernel
theorem dd_PT_open_65 : decode bb_PT_open 65 = .ok (.lreturn, 1) := by decide +kernel
theorem dd_PT_size_0 : decode bb_PT_size 0 = .ok (.aload_n 0, 1) := by decide +kernel
theorem dd_PT_size_1 : decode bb_PT_size 1 = .ok (.getfield 10, 3) := by decide +kernel
theorem dd_PT_size_4 : decode bb_PT_size 4 = .ok (.getfield 30, 3) := by decide +kernel
theorem dd_PT_size_7 : decode bb_PT_size 7 = .ok (.lload_n 1, 1) := by decide +kernel
theorem dd_PT_size_8 : decode bb_PT_size 8 = .ok (.invokestatic 87, 3) := by decide +kernel
theorem dd_PT_size_11 : decode bb_PT_size 11 = .ok (.isub, 1) := by decide +kernel
theorem dd_PT_size_12 : decode bb_PT_size 12 = .ok (.istore_n 3, 1) := by decide +kernel
theorem dd_PT_size_13 : decode bb_PT_size 13 = .ok (.iload_n 3, 1) := by decide +kernel
theorem dd_PT_size_14 : decode bb_PT_size 14 = .ok (.bipush 64, 2) := by decide +kernel
theorem dd_PT_size_16 : decode bb_PT_size 16 = .ok (.if_icmp .ne 7, 3) := by decide +kernel
theorem dd_PT_size_19 : decode bb_PT_size 19 = .ok (.lconst 0, 1) := by decide +kernel
theorem dd_PT_size_20 : decode bb_PT_size 20 = .ok (.goto 6, 3) := by decide +kernel
theorem dd_PT_size_23 : decode bb_PT_size 23 = .ok (.lconst 1, 1) := by decide +kernel
theorem dd_PT_size_24 : decode bb_PT_size 24 = .ok (.iload_n 3, 1) := by decide +kernel
theorem dd_PT_size_25 : decode bb_PT_size 25 = .ok (.lshl, 1) := by decide +kernel
theorem dd_PT_size_26 : decode bb_PT_size 26 = .ok (.lreturn, 1) := by decide +kernel
theorem dd_JL_bitCount_0 : decode bb_JL_bitCount 0 = .ok (.lload_n 0, 1) := by decide +kernel
theorem dd_JL_bitCount_1 : decode bb_JL_bitCount 1 = .ok (.lload_n 0, 1) := by decide +kernel
theorem dd_JL_bitCount_2 : decode bb_JL_bitCount 2 = .ok (.iconst 1, 1) := by decide +kernel
theorem dd_JL_bitCount_3 : decode bb_JL_bitCount 3 = .ok (.lushr, 1) := by decide +kernel
theorem dd_JL_bitCount_4 : decode bb_JL_bitCount 4 = .ok (.ldc2_w 314, 3) := by decide +kernel
theorem dd_JL_bitCount_7 : decode bb_JL_bitCount 7 = .ok (.land, 1) := by decide +kernel
theorem dd_JL_bitCount_8 : decode bb_JL_bitCount 8 = .ok (.lsub, 1) := by decide +kernel
theorem dd_JL_bitCount_9 : decode bb_JL_bitCount 9 = .ok (.lstore_n 0, 1) := by decide +kernel
theorem dd_JL_bitCount_10 : decode bb_JL_bitCount 10 = .ok (.lload_n 0, 1) := by decide +kernel
theorem dd_JL_bitCount_11 : decode bb_JL_bitCount 11 = .ok (.ldc2_w 316, 3) := by decide +kernel
theorem dd_JL_bitCount_14 : decode bb_JL_bitCount 14 = .ok (.land, 1) := by decide +kernel
theorem dd_JL_bitCount_15 : decode bb_JL_bitCount 15 = .ok (.lload_n 0, 1) := by decide +kernel
theorem dd_JL_bitCount_16 : decode bb_JL_bitCount 16 = .ok (.iconst 2, 1) := by decide +kernel
theorem dd_JL_bitCount_17 : decode bb_JL_bitCount 17 = .ok (.lushr, 1) := by decide +kernel
theorem dd_JL_bitCount_18 : decode bb_JL_bitCount 18 = .ok (.ldc2_w 316, 3) := by decide +kernel
theorem dd_JL_bitCount_21 : decode bb_JL_bitCount 21 = .ok (.land, 1) := by decide +kernel
theorem dd_JL_bitCount_22 : decode bb_JL_bitCount 22 = .ok (.ladd, 1) := by decide +kernel
theorem dd_JL_bitCount_23 : decode bb_JL_bitCount 23 = .ok (.lstore_n 0, 1) := by decide +kernel
theorem dd_JL_bitCount_24 : decode bb_JL_bitCount 24 = .ok (.lload_n 0, 1) := by decide +kernel
theorem dd_JL_bitCount_25 : decode bb_JL_bitCount 25 = .ok (.lload_n 0, 1) := by decide +kernel
theorem dd_JL_bitCount_26 : decode bb_JL_bitCount 26 = .ok (.iconst 4, 1) := by decide +kernel
theorem dd_JL_bitCount_27 : decode bb_JL_bitCount 27 = .ok (.lushr, 1) := by decide +kernel
theorem dd_JL_bitCount_28 : decode bb_JL_bitCount 28 = .ok (.ladd, 1) := by decide +kernel
theorem dd_JL_bitCount_29 : decode bb_JL_bitCount 29 = .ok (.ldc2_w 318, 3) := by decide +kernel
theorem dd_JL_bitCount_32 : decode bb_JL_bitCount 32 = .ok (.land, 1) := by decide +kernel
theorem dd_JL_bitCount_33 : decode bb_JL_bitCount 33 = .ok (.lstore_n 0, 1) := by decide +kernel
theorem dd_JL_bitCount_34 : decode bb_JL_bitCount 34 = .ok (.lload_n 0, 1) := by decide +kernel
theorem dd_JL_bitCount_35 : decode bb_JL_bitCount 35 = .ok (.lload_n 0, 1) := by decide +kernel
theorem dd_JL_bitCount_36 : decode bb_JL_bitCount 36 = .ok (.bipush 8, 2) := by decide +kernel
theorem dd_JL_bitCount_38 : decode bb_JL_bitCount 38 = .ok (.lushr, 1) := by decide +kernel
theorem dd_JL_bitCount_39 : decode bb_JL_bitCount 39 = .ok (.ladd, 1) := by decide +kernel
theorem dd_JL_bitCount_40 : decode bb_JL_bitCount 40 = .ok (.lstore_n 0, 1) := by decide +kernel
theorem dd_JL_bitCount_41 : decode bb_JL_bitCount 41 = .ok (.lload_n 0, 1) := by decide +kernel
theorem dd_JL_bitCount_42 : decode bb_JL_bitCount 42 = .ok (.lload_n 0, 1) := by decide +kernel
theorem dd_JL_bitCount_43 : decode bb_JL_bitCount 43 = .ok (.bipush 16, 2) := by decide +kernel
theorem dd_JL_bitCount_45 : decode bb_JL_bitCount 45 = .ok (.lushr, 1) := by decide +kernel
theorem dd_JL_bitCount_46 : decode bb_JL_bitCount 46 = .ok (.ladd, 1) := by decide +kernel
theorem dd_JL_bitCount_47 : decode bb_JL_bitCount 47 = .ok (.lstore_n 0, 1) := by decide +kernel
theorem dd_JL_bitCount_48 : decode bb_JL_bitCount 48 = .ok (.lload_n 0, 1) := by decide +kernel
theorem dd_JL_bitCount_49 : decode bb_JL_bitCount 49 = .ok (.lload_n 0, 1) := by decide +kernel
theorem dd_JL_bitCount_50 : decode bb_JL_bitCount 50 = .ok (.bipush 32, 2) := by decide +kernel
theorem dd_JL_bitCount_52 : decode bb_JL_bitCount 52 = .ok (.lushr, 1) := by decide +kernel
theorem dd_JL_bitCount_53 : decode bb_JL_bitCount 53 = .ok (.ladd, 1) := by decide +kernel
theorem dd_JL_bitCount_54 : decode bb_JL_bitCount 54 = .ok (.lstore_n 0, 1) := by decide +kernel
theorem dd_JL_bitCount_55 : decode bb_JL_bitCount 55 = .ok (.lload_n 0, 1) := by decide +kernel
theorem dd_JL_bitCount_56 : decode bb_JL_bitCount 56 = .ok (.l2i, 1) := by decide +kernel
theorem dd_JL_bitCount_57 : decode bb_JL_bitCount 57 = .ok (.bipush 127, 2) := by decide +kernel
theorem dd_JL_bitCount_59 : decode bb_JL_bitCount 59 = .ok (.iand, 1) := by decide +kernel
theorem dd_JL_bitCount_60 : decode bb_JL_bitCount 60 = .ok (.ireturn, 1) := by decide +kernel
theorem dd_PT_next_0 : decode bb_PT_next 0 = .ok (.lload_n 1, 1) := by decide +kernel
theorem dd_PT_next_1 : decode bb_PT_next 1 = .ok (.aload_n 0, 1) := by decide +kernel
theorem dd_PT_next_2 : decode bb_PT_next 2 = .ok (.getfield 10, 3) := by decide +kernel
theorem dd_PT_next_5 : decode bb_PT_next 5 = .ok (.invokevirtual 60, 3) := by decide +kernel
theorem dd_PT_next_8 : decode bb_PT_next 8 = .ok (.land, 1) := by decide +kernel
theorem dd_PT_next_9 : decode bb_PT_next 9 = .ok (.lstore_n 3, 1) := by decide +kernel
theorem dd_PT_next_10 : decode bb_PT_next 10 = .ok (.aload_n 0, 1) := by decide +kernel
theorem dd_PT_next_11 : decode bb_PT_next 11 = .ok (.lload_n 3, 1) := by decide +kernel
theorem dd_PT_next_12 : decode bb_PT_next 12 = .ok (.invokevirtual 85, 3) := by decide +kernel
theorem dd_PT_next_15 : decode bb_PT_next 15 = .ok (.ifCond .ge 5, 3) := by decide +kernel
theorem dd_PT_next_18 : decode bb_PT_next 18 = .ok (.lload_n 3, 1) := by decide +kernel
theorem dd_PT_next_19 : decode bb_PT_next 19 = .ok (.lreturn, 1) := by decide +kernel
theorem dd_PT_next_20 : decode bb_PT_next 20 = .ok (.iconst 0, 1) := by decide +kernel
theorem dd_PT_next_21 : decode bb_PT_next 21 = .ok (.istore 5, 2) := by decide +kernel
theorem dd_PT_next_23 : decode bb_PT_next 23 = .ok (.iload 5, 2) := by decide +kernel
theorem dd_PT_next_25 : decode bb_PT_next 25 = .ok (.aload_n 0, 1) := by decide +kernel
theorem dd_PT_next_26 : decode bb_PT_next 26 = .ok (.getfield 10, 3) := by decide +kernel
theorem dd_PT_next_29 : decode bb_PT_next 29 = .ok (.getfield 30, 3) := by decide +kernel
theorem dd_PT_next_32 : decode bb_PT_next 32 = .ok (.if_icmp .ge 78, 3) := by decide +kernel
theorem dd_PT_next_35 : decode bb_PT_next 35 = .ok (.lload_n 3, 1) := by decide +kernel
theorem dd_PT_next_36 : decode bb_PT_next 36 = .ok (.iload 5, 2) := by decide +kernel
theorem dd_PT_next_38 : decode bb_PT_next 38 = .ok (.lushr, 1) := by decide +kernel
theorem dd_PT_next_39 : decode bb_PT_next 39 = .ok (.lconst 1, 1) := by decide +kernel
theorem dd_PT_next_40 : decode bb_PT_next 40 = .ok (.land, 1) := by decide +kernel
theorem dd_PT_next_41 : decode bb_PT_next 41 = .ok (.lconst 0, 1) := by decide +kernel
theorem dd_PT_next_42 : decode bb_PT_next 42 = .ok (.lcmp, 1) := by decide +kernel
theorem dd_PT_next_43 : decode bb_PT_next 43 = .ok (.ifCond .eq 6, 3) := by decide +kernel
theorem dd_PT_next_46 : decode bb_PT_next 46 = .ok (.goto 58, 3) := by decide +kernel
theorem dd_PT_next_49 : decode bb_PT_next 49 = .ok (.aload_n 0, 1) := by decide +kernel
theorem dd_PT_next_50 : decode bb_PT_next 50 = .ok (.getfield 10, 3) := by decide +kernel
theorem dd_PT_next_53 : decode bb_PT_next 53 = .ok (.invokevirtual 60, 3) := by decide +kernel
theorem dd_PT_next_56 : decode bb_PT_next 56 = .ok (.lconst 1, 1) := by decide +kernel
theorem dd_PT_next_57 : decode bb_PT_next 57 = .ok (.iload 5, 2) := by decide +kernel
theorem dd_PT_next_59 : decode bb_PT_next 59 = .ok (.lshl, 1) := by decide +kernel
theorem dd_PT_next_60 : decode bb_PT_next 60 = .ok (.lconst 1, 1) := by decide +kernel
theorem dd_PT_next_61 : decode bb_PT_next 61 = .ok (.lsub, 1) := by decide +kernel
theorem dd_PT_next_62 : decode bb_PT_next 62 = .ok (.ldc2_w 58, 3) := by decide +kernel
theorem dd_PT_next_65 : decode bb_PT_next 65 = .ok (.lxor, 1) := by decide +kernel
theorem dd_PT_next_66 : decode bb_PT_next 66 = .ok (.land, 1) := by decide +kernel
theorem dd_PT_next_67 : decode bb_PT_next 67 = .ok (.lstore 6, 2) := by decide +kernel
theorem dd_PT_next_69 : decode bb_PT_next 69 = .ok (.lload_n 3, 1) := by decide +kernel
theorem dd_PT_next_70 : decode bb_PT_next 70 = .ok (.lload 6, 2) := by decide +kernel
theorem dd_PT_next_72 : decode bb_PT_next 72 = .ok (.land, 1) := by decide +kernel
theorem dd_PT_next_73 : decode bb_PT_next 73 = .ok (.lconst 1, 1) := by decide +kernel
theorem dd_PT_next_74 : decode bb_PT_next 74 = .ok (.iload 5, 2) := by decide +kernel
theorem dd_PT_next_76 : decode bb_PT_next 76 = .ok (.lshl, 1) := by decide +kernel
theorem dd_PT_next_77 : decode bb_PT_next 77 = .ok (.lor, 1) := by decide +kernel
theorem dd_PT_next_78 : decode bb_PT_next 78 = .ok (.lstore 8, 2) := by decide +kernel
theorem dd_PT_next_80 : decode bb_PT_next 80 = .ok (.aload_n 0, 1) := by decide +kernel
theorem dd_PT_next_81 : decode bb_PT_next 81 = .ok (.lload 6, 2) := by decide +kernel
theorem dd_PT_next_83 : decode bb_PT_next 83 = .ok (.lload 8, 2) := by decide +kernel
theorem dd_PT_next_85 : decode bb_PT_next 85 = .ok (.invokevirtual 100, 3) := by decide +kernel
theorem dd_PT_next_88 : decode bb_PT_next 88 = .ok (.ifCond .eq 16, 3) := by decide +kernel
theorem dd_PT_next_91 : decode bb_PT_next 91 = .ok (.aload_n 0, 1) := by decide +kernel
theorem dd_PT_next_92 : decode bb_PT_next 92 = .ok (.lload 6, 2) := by decide +kernel
theorem dd_PT_next_94 : decode bb_PT_next 94 = .ok (.lload 8, 2) := by decide +kernel
theorem dd_PT_next_96 : decode bb_PT_next 96 = .ok (.iload 5, 2) := by decide +kernel
theorem dd_PT_next_98 : decode bb_PT_next 98 = .ok (.iconst 1, 1) := by decide +kernel
theorem dd_PT_next_99 : decode bb_PT_next 99 = .ok (.isub, 1) := by decide +kernel
theorem dd_PT_next_100 : decode bb_PT_next 100 = .ok (.invokevirtual 103, 3) := by decide +kernel
theorem dd_PT_next_103 : decode bb_PT_next 103 = .ok (.lreturn, 1) := by decide +kernel
theorem dd_PT_next_104 : decode bb_PT_next 104 = .ok (.iinc 5 1, 3) := by decide +kernel
theorem dd_PT_next_107 : decode bb_PT_next 107 = .ok (.goto (-84), 3) := by decide +kernel
theorem dd_PT_next_110 : decode bb_PT_next 110 = .ok (.new 23, 3) := by decide +kernel
theorem dd_PT_next_113 : decode bb_PT_next 113 = .ok (.dup, 1) := by decide +kernel
theorem dd_PT_next_114 : decode bb_PT_next 114 = .ok (.invokespecial 25, 3) := by decide +kernel
theorem dd_PT_next_117 : decode bb_PT_next 117 = .ok (.athrow, 1) := by decide +kernel
theorem dd_PT_any_0 : decode bb_PT_any 0 = .ok (.aload_n 0, 1) := by decide +kernel
theorem dd_PT_any_1 : decode bb_PT_any 1 = .ok (.lload_n 1, 1) := by decide +kernel
theorem dd_PT_any_2 : decode bb_PT_any 2 = .ok (.lload_n 3, 1) := by decide +kernel
theorem dd_PT_any_3 : decode bb_PT_any 3 = .ok (.invokevirtual 96, 3) := by decide +kernel
theorem dd_PT_any_6 : decode bb_PT_any 6 = .ok (.lconst 0, 1) := by decide +kernel
theorem dd_PT_any_7 : decode bb_PT_any 7 = .ok (.lcmp, 1) := by decide +kernel
theorem dd_PT_any_8 : decode bb_PT_any 8 = .ok (.ifCond .ne 31, 3) := by decide +kernel
theorem dd_PT_any_11 : decode bb_PT_any 11 = .ok (.lload_n 1, 1) := by decide +kernel
theorem dd_PT_any_12 : decode bb_PT_any 12 = .ok (.lconst 0, 1) := by decide +kernel
theorem dd_PT_any_13 : decode bb_PT_any 13 = .ok (.lcmp, 1) := by decide +kernel
theorem dd_PT_any_14 : decode bb_PT_any 14 = .ok (.ifCond .ne 29, 3) := by decide +kernel
theorem dd_PT_any_17 : decode bb_PT_any 17 = .ok (.aload_n 0, 1) := by decide +kernel
theorem dd_PT_any_18 : decode bb_PT_any 18 = .ok (.getfield 10, 3) := by decide +kernel
theorem dd_PT_any_21 : decode bb_PT_any 21 = .ok (.getfield 30, 3) := by decide +kernel
theorem dd_PT_any_24 : decode bb_PT_any 24 = .ok (.bipush 64, 2) := by decide +kernel
theorem dd_PT_any_26 : decode bb_PT_any 26 = .ok (.if_icmp .ne 17, 3) := by decide +kernel
theorem dd_PT_any_29 : decode bb_PT_any 29 = .ok (.aload_n 0, 1) := by decide +kernel
theorem dd_PT_any_30 : decode bb_PT_any 30 = .ok (.getfield 10, 3) := by decide +kernel
theorem dd_PT_any_33 : decode bb_PT_any 33 = .ok (.getfield 33, 3) := by decide +kernel
theorem dd_PT_any_36 : decode bb_PT_any 36 = .ok (.ifCond .ne 7, 3) := by decide +kernel
theorem dd_PT_any_39 : decode bb_PT_any 39 = .ok (.iconst 1, 1) := by decide +kernel
theorem dd_PT_any_40 : decode bb_PT_any 40 = .ok (.goto 4, 3) := by decide +kernel
theorem dd_PT_any_43 : decode bb_PT_any 43 = .ok (.iconst 0, 1) := by decide +kernel
theorem dd_PT_any_44 : decode bb_PT_any 44 = .ok (.ireturn, 1) := by decide +kernel
theorem dd_PT_least_0 : decode bb_PT_least 0 = .ok (.lload_n 1, 1) := by decide +kernel
theorem dd_PT_least_1 : decode bb_PT_least 1 = .ok (.lstore 6, 2) := by decide +kernel
theorem dd_PT_least_3 : decode bb_PT_least 3 = .ok (.lload_n 3, 1) := by decide +kernel
theorem dd_PT_least_4 : decode bb_PT_least 4 = .ok (.lstore 8, 2) := by decide +kernel
theorem dd_PT_least_6 : decode bb_PT_least 6 = .ok (.iload 5, 2) := by decide +kernel
theorem dd_PT_least_8 : decode bb_PT_least 8 = .ok (.istore 10, 2) := by decide +kernel
theorem dd_PT_least_10 : decode bb_PT_least 10 = .ok (.iload 10, 2) := by decide +kernel
theorem dd_PT_least_12 : decode bb_PT_least 12 = .ok (.ifCond .lt 38, 3) := by decide +kernel
theorem dd_PT_least_15 : decode bb_PT_least 15 = .ok (.lload 6, 2) := by decide +kernel
theorem dd_PT_least_17 : decode bb_PT_least 17 = .ok (.lconst 1, 1) := by decide +kernel
theorem dd_PT_least_18 : decode bb_PT_least 18 = .ok (.iload 10, 2) := by decide +kernel
theorem dd_PT_least_20 : decode bb_PT_least 20 = .ok (.lshl, 1) := by decide +kernel
theorem dd_PT_least_21 : decode bb_PT_least 21 = .ok (.lor, 1) := by decide +kernel
theorem dd_PT_least_22 : decode bb_PT_least 22 = .ok (.lstore 6, 2) := by decide +kernel
theorem dd_PT_least_24 : decode bb_PT_least 24 = .ok (.aload_n 0, 1) := by decide +kernel
theorem dd_PT_least_25 : decode bb_PT_least 25 = .ok (.lload 6, 2) := by decide +kernel
theorem dd_PT_least_27 : decode bb_PT_least 27 = .ok (.lload 8, 2) := by decide +kernel
theorem dd_PT_least_29 : decode bb_PT_least 29 = .ok (.invokevirtual 100, 3) := by decide +kernel
theorem dd_PT_least_32 : decode bb_PT_least 32 = .ok (.ifCond .ne 12, 3) := by decide +kernel
theorem dd_PT_least_35 : decode bb_PT_least 35 = .ok (.lload 8, 2) := by decide +kernel
theorem dd_PT_least_37 : decode bb_PT_least 37 = .ok (.lconst 1, 1) := by decide +kernel
theorem dd_PT_least_38 : decode bb_PT_least 38 = .ok (.iload 10, 2) := by decide +kernel
theorem dd_PT_least_40 : decode bb_PT_least 40 = .ok (.lshl, 1) := by decide +kernel
theorem dd_PT_least_41 : decode bb_PT_least 41 = .ok (.lor, 1) := by decide +kernel
theorem dd_PT_least_42 : decode bb_PT_least 42 = .ok (.lstore 8, 2) := by decide +kernel
theorem dd_PT_least_44 : decode bb_PT_least 44 = .ok (.iinc 10 (-1), 3) := by decide +kernel
theorem dd_PT_least_47 : decode bb_PT_least 47 = .ok (.goto (-37), 3) := by decide +kernel
theorem dd_PT_least_50 : decode bb_PT_least 50 = .ok (.lload 8, 2) := by decide +kernel
theorem dd_PT_least_52 : decode bb_PT_least 52 = .ok (.lreturn, 1) := by decide +kernel
theorem dd_PT_told_0 : decode bb_PT_told 0 = .ok (.iload_n 2, 1) := by decide +kernel
theorem dd_PT_told_1 : decode bb_PT_told 1 = .ok (.ifCond .lt 12, 3) := by decide +kernel
theorem dd_PT_told_4 : decode bb_PT_told 4 = .ok (.iload_n 2, 1) := by decide +kernel
theorem dd_PT_told_5 : decode bb_PT_told 5 = .ok (.iconst 3, 1) := by decide +kernel
theorem dd_PT_told_6 : decode bb_PT_told 6 = .ok (.if_icmp .ge 7, 3) := by decide +kernel
theorem dd_PT_told_9 : decode bb_PT_told 9 = .ok (.iconst 1, 1) := by decide +kernel
theorem dd_PT_told_10 : decode bb_PT_told 10 = .ok (.goto 4, 3) := by decide +kernel
theorem dd_PT_told_13 : decode bb_PT_told 13 = .ok (.iconst 0, 1) := by decide +kernel
theorem dd_PT_told_14 : decode bb_PT_told 14 = .ok (.invokestatic 26, 3) := by decide +kernel
theorem dd_PT_told_17 : decode bb_PT_told 17 = .ok (.iload_n 1, 1) := by decide +kernel
theorem dd_PT_told_18 : decode bb_PT_told 18 = .ok (.ifCond .lt 18, 3) := by decide +kernel
theorem dd_PT_told_21 : decode bb_PT_told 21 = .ok (.iload_n 1, 1) := by decide +kernel
theorem dd_PT_told_22 : decode bb_PT_told 22 = .ok (.aload_n 0, 1) := by decide +kernel
theorem dd_PT_told_23 : decode bb_PT_told 23 = .ok (.getfield 10, 3) := by decide +kernel
theorem dd_PT_told_26 : decode bb_PT_told 26 = .ok (.getfield 33, 3) := by decide +kernel
theorem dd_PT_told_29 : decode bb_PT_told 29 = .ok (.if_icmp .ge 7, 3) := by decide +kernel
theorem dd_PT_told_32 : decode bb_PT_told 32 = .ok (.iconst 1, 1) := by decide +kernel
theorem dd_PT_told_33 : decode bb_PT_told 33 = .ok (.goto 4, 3) := by decide +kernel
theorem dd_PT_told_36 : decode bb_PT_told 36 = .ok (.iconst 0, 1) := by decide +kernel
theorem dd_PT_told_37 : decode bb_PT_told 37 = .ok (.invokestatic 75, 3) := by decide +kernel
theorem dd_PT_told_40 : decode bb_PT_told 40 = .ok (.iload_n 2, 1) := by decide +kernel
theorem dd_PT_told_41 : decode bb_PT_told 41 = .ok (.ifCond .ne 15, 3) := by decide +kernel
theorem dd_PT_told_44 : decode bb_PT_told 44 = .ok (.aload_n 0, 1) := by decide +kernel
theorem dd_PT_told_45 : decode bb_PT_told 45 = .ok (.getfield 10, 3) := by decide +kernel
theorem dd_PT_told_48 : decode bb_PT_told 48 = .ok (.getfield 51, 3) := by decide +kernel
theorem dd_PT_told_51 : decode bb_PT_told 51 = .ok (.iload_n 1, 1) := by decide +kernel
theorem dd_PT_told_52 : decode bb_PT_told 52 = .ok (.laload, 1) := by decide +kernel
theorem dd_PT_told_53 : decode bb_PT_told 53 = .ok (.goto 41, 3) := by decide +kernel
theorem dd_PT_told_56 : decode bb_PT_told 56 = .ok (.iload_n 2, 1) := by decide +kernel
theorem dd_PT_told_57 : decode bb_PT_told 57 = .ok (.iconst 1, 1) := by decide +kernel
theorem dd_PT_told_58 : decode bb_PT_told 58 = .ok (.if_icmp .ne 15, 3) := by decide +kernel
theorem dd_PT_told_61 : decode bb_PT_told 61 = .ok (.aload_n 0, 1) := by decide +kernel
theorem dd_PT_told_62 : decode bb_PT_told 62 = .ok (.getfield 10, 3) := by decide +kernel
theorem dd_PT_told_65 : decode bb_PT_told 65 = .ok (.getfield 55, 3) := by decide +kernel
theorem dd_PT_told_68 : decode bb_PT_told 68 = .ok (.iload_n 1, 1) := by decide +kernel
theorem dd_PT_told_69 : decode bb_PT_told 69 = .ok (.laload, 1) := by decide +kernel
theorem dd_PT_told_70 : decode bb_PT_told 70 = .ok (.goto 24, 3) := by decide +kernel
theorem dd_PT_told_73 : decode bb_PT_told 73 = .ok (.aload_n 0, 1) := by decide +kernel
theorem dd_PT_told_74 : decode bb_PT_told 74 = .ok (.getfield 10, 3) := by decide +kernel
theorem dd_PT_told_77 : decode bb_PT_told 77 = .ok (.getfield 30, 3) := by decide +kernel
theorem dd_PT_told_80 : decode bb_PT_told 80 = .ok (.aload_n 0, 1) := by decide +kernel
theorem dd_PT_told_81 : decode bb_PT_told 81 = .ok (.getfield 10, 3) := by decide +kernel
theorem dd_PT_told_84 : decode bb_PT_told 84 = .ok (.getfield 51, 3) := by decide +kernel
theorem dd_PT_told_87 : decode bb_PT_told 87 = .ok (.iload_n 1, 1) := by decide +kernel
theorem dd_PT_told_88 : decode bb_PT_told 88 = .ok (.laload, 1) := by decide +kernel
theorem dd_PT_told_89 : decode bb_PT_told 89 = .ok (.invokestatic 87, 3) := by decide +kernel
theorem dd_PT_told_92 : decode bb_PT_told 92 = .ok (.isub, 1) := by decide +kernel
theorem dd_PT_told_93 : decode bb_PT_told 93 = .ok (.i2l, 1) := by decide +kernel
theorem dd_PT_told_94 : decode bb_PT_told 94 = .ok (.lreturn, 1) := by decide +kernel
end
section
theorem dd_MO_init_0 : decode bb_MO_init 0 = .ok (.aload_n 0, 1) := by decide +kernel
theorem dd_MO_init_1 : decode bb_MO_init 1 = .ok (.invokespecial 1, 3) := by decide +kernel
theorem dd_MO_init_4 : decode bb_MO_init 4 = .ok (.aload_n 0, 1) := by decide +kernel
theorem dd_MO_init_5 : decode bb_MO_init 5 = .ok (.sipush 512, 3) := by decide +kernel
theorem dd_MO_init_8 : decode bb_MO_init 8 = .ok (.newarray .long, 2) := by decide +kernel
theorem dd_MO_init_10 : decode bb_MO_init 10 = .ok (.putfield 7, 3) := by decide +kernel
theorem dd_MO_init_13 : decode bb_MO_init 13 = .ok (.aload_n 0, 1) := by decide +kernel
theorem dd_MO_init_14 : decode bb_MO_init 14 = .ok (.sipush 512, 3) := by decide +kernel
theorem dd_MO_init_17 : decode bb_MO_init 17 = .ok (.newarray .long, 2) := by decide +kernel
theorem dd_MO_init_19 : decode bb_MO_init 19 = .ok (.putfield 13, 3) := by decide +kernel
theorem dd_MO_init_22 : decode bb_MO_init 22 = .ok (.aload_n 0, 1) := by decide +kernel
theorem dd_MO_init_23 : decode bb_MO_init 23 = .ok (.bipush 32, 2) := by decide +kernel
theorem dd_MO_init_25 : decode bb_MO_init 25 = .ok (.putfield 16, 3) := by decide +kernel
theorem dd_MO_init_28 : decode bb_MO_init 28 = .ok (.aload_n 0, 1) := by decide +kernel
theorem dd_MO_init_29 : decode bb_MO_init 29 = .ok (.iconst (-1), 1) := by decide +kernel
theorem dd_MO_init_30 : decode bb_MO_init 30 = .ok (.putfield 20, 3) := by decide +kernel
theorem dd_MO_init_33 : decode bb_MO_init 33 = .ok (.return_, 1) := by decide +kernel
theorem dd_MO_thrown_0 : decode bb_MO_thrown 0 = .ok (.aload_n 0, 1) := by decide +kernel
theorem dd_MO_thrown_1 : decode bb_MO_thrown 1 = .ok (.getfield 23, 3) := by decide +kernel
theorem dd_MO_thrown_4 : decode bb_MO_thrown 4 = .ok (.ireturn, 1) := by decide +kernel
theorem dd_MO_clear_0 : decode bb_MO_clear 0 = .ok (.aload_n 0, 1) := by decide +kernel
theorem dd_MO_clear_1 : decode bb_MO_clear 1 = .ok (.iconst 0, 1) := by decide +kernel
theorem dd_MO_clear_2 : decode bb_MO_clear 2 = .ok (.putfield 23, 3) := by decide +kernel
theorem dd_MO_clear_5 : decode bb_MO_clear 5 = .ok (.iload_n 1, 1) := by decide +kernel
theorem dd_MO_clear_6 : decode bb_MO_clear 6 = .ok (.iconst 1, 1) := by decide +kernel
theorem dd_MO_clear_7 : decode bb_MO_clear 7 = .ok (.if_icmp .lt 9, 3) := by decide +kernel
theorem dd_MO_clear_10 : decode bb_MO_clear 10 = .ok (.iload_n 1, 1) := by decide +kernel
theorem dd_MO_clear_11 : decode bb_MO_clear 11 = .ok (.bipush 64, 2) := by decide +kernel
theorem dd_MO_clear_13 : decode bb_MO_clear 13 = .ok (.if_icmp .le 12, 3) := by decide +kernel
theorem dd_MO_clear_16 : decode bb_MO_clear 16 = .ok (.aload_n 0, 1) := by decide +kernel
theorem dd_MO_clear_17 : decode bb_MO_clear 17 = .ok (.iconst 1, 1) := by decide +kernel
theorem dd_MO_clear_18 : decode bb_MO_clear 18 = .ok (.invokevirtual 39, 3) := by decide +kernel
theorem dd_MO_clear_21 : decode bb_MO_clear 21 = .ok (.pop, 1) := by decide +kernel
theorem dd_MO_clear_22 : decode bb_MO_clear 22 = .ok (.goto 13, 3) := by decide +kernel
theorem dd_MO_clear_25 : decode bb_MO_clear 25 = .ok (.aload_n 0, 1) := by decide +kernel
theorem dd_MO_clear_26 : decode bb_MO_clear 26 = .ok (.iconst 0, 1) := by decide +kernel
theorem dd_MO_clear_27 : decode bb_MO_clear 27 = .ok (.putfield 32, 3) := by decide +kernel
theorem dd_MO_clear_30 : decode bb_MO_clear 30 = .ok (.aload_n 0, 1) := by decide +kernel
theorem dd_MO_clear_31 : decode bb_MO_clear 31 = .ok (.iload_n 1, 1) := by decide +kernel
theorem dd_MO_clear_32 : decode bb_MO_clear 32 = .ok (.putfield 16, 3) := by decide +kernel
theorem dd_MO_clear_35 : decode bb_MO_clear 35 = .ok (.return_, 1) := by decide +kernel
theorem dd_MO_fail_0 : decode bb_MO_fail 0 = .ok (.aload_n 0, 1) := by decide +kernel
theorem dd_MO_fail_1 : decode bb_MO_fail 1 = .ok (.iload_n 1, 1) := by decide +kernel
theorem dd_MO_fail_2 : decode bb_MO_fail 2 = .ok (.putfield 23, 3) := by decide +kernel
theorem dd_MO_fail_5 : decode bb_MO_fail 5 = .ok (.iconst 0, 1) := by decide +kernel
theorem dd_MO_fail_6 : decode bb_MO_fail 6 = .ok (.ireturn, 1) := by decide +kernel
theorem dd_MO_add_0 : decode bb_MO_add 0 = .ok (.aload_n 0, 1) := by decide +kernel
theorem dd_MO_add_1 : decode bb_MO_add 1 = .ok (.iconst 0, 1) := by decide +kernel
theorem dd_MO_add_2 : decode bb_MO_add 2 = .ok (.putfield 23, 3) := by decide +kernel
theorem dd_MO_add_5 : decode bb_MO_add 5 = .ok (.aload_n 0, 1) := by decide +kernel
theorem dd_MO_add_6 : decode bb_MO_add 6 = .ok (.lload_n 1, 1) := by decide +kernel
theorem dd_MO_add_7 : decode bb_MO_add 7 = .ok (.lload_n 3, 1) := by decide +kernel
theorem dd_MO_add_8 : decode bb_MO_add 8 = .ok (.invokevirtual 43, 3) := by decide +kernel
theorem dd_MO_add_11 : decode bb_MO_add 11 = .ok (.ifCond .eq 9, 3) := by decide +kernel
theorem dd_MO_add_14 : decode bb_MO_add 14 = .ok (.aload_n 0, 1) := by decide +kernel
theorem dd_MO_add_15 : decode bb_MO_add 15 = .ok (.iconst 1, 1) := by decide +kernel
theorem dd_MO_add_16 : decode bb_MO_add 16 = .ok (.invokevirtual 39, 3) := by decide +kernel
theorem dd_MO_add_19 : decode bb_MO_add 19 = .ok (.ireturn, 1) := by decide +kernel
theorem dd_MO_add_20 : decode bb_MO_add 20 = .ok (.aload_n 0, 1) := by decide +kernel
theorem dd_MO_add_21 : decode bb_MO_add 21 = .ok (.getfield 32, 3) := by decide +kernel
theorem dd_MO_add_24 : decode bb_MO_add 24 = .ok (.sipush 512, 3) := by decide +kernel
theorem dd_MO_add_27 : decode bb_MO_add 27 = .ok (.if_icmp .ne 7, 3) := by decide +kernel
theorem dd_MO_add_30 : decode bb_MO_add 30 = .ok (.iconst (-1), 1) := by decide +kernel
theorem dd_MO_add_31 : decode bb_MO_add 31 = .ok (.goto 9, 3) := by decide +kernel
theorem dd_MO_add_34 : decode bb_MO_add 34 = .ok (.aload_n 0, 1) := by decide +kernel
theorem dd_MO_add_35 : decode bb_MO_add 35 = .ok (.lload_n 1, 1) := by decide +kernel
theorem dd_MO_add_36 : decode bb_MO_add 36 = .ok (.lload_n 3, 1) := by decide +kernel
theorem dd_MO_add_37 : decode bb_MO_add 37 = .ok (.invokevirtual 47, 3) := by decide +kernel
theorem dd_MO_add_40 : decode bb_MO_add 40 = .ok (.istore 5, 2) := by decide +kernel
theorem dd_MO_add_42 : decode bb_MO_add 42 = .ok (.aload_n 0, 1) := by decide +kernel
theorem dd_MO_add_43 : decode bb_MO_add 43 = .ok (.getfield 32, 3) := by decide +kernel
theorem dd_MO_add_46 : decode bb_MO_add 46 = .ok (.sipush 512, 3) := by decide +kernel
theorem dd_MO_add_49 : decode bb_MO_add 49 = .ok (.if_icmp .eq 8, 3) := by decide +kernel
theorem dd_MO_add_52 : decode bb_MO_add 52 = .ok (.iload 5, 2) := by decide +kernel
theorem dd_MO_add_54 : decode bb_MO_add 54 = .ok (.ifCond .lt 15, 3) := by decide +kernel
theorem dd_MO_add_57 : decode bb_MO_add 57 = .ok (.aload_n 0, 1) := by decide +kernel
theorem dd_MO_add_58 : decode bb_MO_add 58 = .ok (.iload 5, 2) := by decide +kernel
theorem dd_MO_add_60 : decode bb_MO_add 60 = .ok (.putfield 20, 3) := by decide +kernel
theorem dd_MO_add_63 : decode bb_MO_add 63 = .ok (.aload_n 0, 1) := by decide +kernel
theorem dd_MO_add_64 : decode bb_MO_add 64 = .ok (.iconst 2, 1) := by decide +kernel
theorem dd_MO_add_65 : decode bb_MO_add 65 = .ok (.invokevirtual 39, 3) := by decide +kernel
theorem dd_MO_add_68 : decode bb_MO_add 68 = .ok (.ireturn, 1) := by decide +kernel
theorem dd_MO_add_69 : decode bb_MO_add 69 = .ok (.aload_n 0, 1) := by decide +kernel
theorem dd_MO_add_70 : decode bb_MO_add 70 = .ok (.getfield 7, 3) := by decide +kernel
theorem dd_MO_add_73 : decode bb_MO_add 73 = .ok (.aload_n 0, 1) := by decide +kernel
theorem dd_MO_add_74 : decode bb_MO_add 74 = .ok (.getfield 32, 3) := by decide +kernel
theorem dd_MO_add_77 : decode bb_MO_add 77 = .ok (.lload_n 1, 1) := by decide +kernel
theorem dd_MO_add_78 : decode bb_MO_add 78 = .ok (.aload_n 0, 1) := by decide +kernel
theorem dd_MO_add_79 : decode bb_MO_add 79 = .ok (.invokevirtual 28, 3) := by decide +kernel
theorem dd_MO_add_82 : decode bb_MO_add 82 = .ok (.land, 1) := by decide +kernel
theorem dd_MO_add_83 : decode bb_MO_add 83 = .ok (.lastore, 1) := by decide +kernel
theorem dd_MO_add_84 : decode bb_MO_add 84 = .ok (.aload_n 0, 1) := by decide +kernel
theorem dd_MO_add_85 : decode bb_MO_add 85 = .ok (.getfield 13, 3) := by decide +kernel
theorem dd_MO_add_88 : decode bb_MO_add 88 = .ok (.aload_n 0, 1) := by decide +kernel
theorem dd_MO_add_89 : decode bb_MO_add 89 = .ok (.getfield 32, 3) := by decide +kernel
theorem dd_MO_add_92 : decode bb_MO_add 92 = .ok (.lload_n 3, 1) := by decide +kernel
theorem dd_MO_add_93 : decode bb_MO_add 93 = .ok (.aload_n 0, 1) := by decide +kernel
theorem dd_MO_add_94 : decode bb_MO_add 94 = .ok (.invokevirtual 28, 3) := by decide +kernel
theorem dd_MO_add_97 : decode bb_MO_add 97 = .ok (.land, 1) := by decide +kernel
theorem dd_MO_add_98 : decode bb_MO_add 98 = .ok (.lastore, 1) := by decide +kernel
theorem dd_MO_add_99 : decode bb_MO_add 99 = .ok (.aload_n 0, 1) := by decide +kernel
theorem dd_MO_add_100 : decode bb_MO_add 100 = .ok (.dup, 1) := by decide +kernel
theorem dd_MO_add_101 : decode bb_MO_add 101 = .ok (.getfield 32, 3) := by decide +kernel
theorem dd_MO_add_104 : decode bb_MO_add 104 = .ok (.iconst 1, 1) := by decide +kernel
theorem dd_MO_add_105 : decode bb_MO_add 105 = .ok (.iadd, 1) := by decide +kernel
theorem dd_MO_add_106 : decode bb_MO_add 106 = .ok (.putfield 32, 3) := by decide +kernel
theorem dd_MO_add_109 : decode bb_MO_add 109 = .ok (.aload_n 0, 1) := by decide +kernel
theorem dd_MO_add_110 : decode bb_MO_add 110 = .ok (.getfield 32, 3) := by decide +kernel
theorem dd_MO_add_113 : decode bb_MO_add 113 = .ok (.iconst 1, 1) := by decide +kernel
theorem dd_MO_add_114 : decode bb_MO_add 114 = .ok (.isub, 1) := by decide +kernel
theorem dd_MO_add_115 : decode bb_MO_add 115 = .ok (.ireturn, 1) := by decide +kernel
theorem dd_MO_wrong_0 : decode bb_MO_wrong 0 = .ok (.lload_n 3, 1) := by decide +kernel
theorem dd_MO_wrong_1 : decode bb_MO_wrong 1 = .ok (.lload_n 1, 1) := by decide +kernel
theorem dd_MO_wrong_2 : decode bb_MO_wrong 2 = .ok (.ldc2_w 26, 3) := by decide +kernel
theorem dd_MO_wrong_5 : decode bb_MO_wrong 5 = .ok (.lxor, 1) := by decide +kernel
theorem dd_MO_wrong_6 : decode bb_MO_wrong 6 = .ok (.land, 1) := by decide +kernel
theorem dd_MO_wrong_7 : decode bb_MO_wrong 7 = .ok (.aload_n 0, 1) := by decide +kernel
theorem dd_MO_wrong_8 : decode bb_MO_wrong 8 = .ok (.invokevirtual 28, 3) := by decide +kernel
theorem dd_MO_wrong_11 : decode bb_MO_wrong 11 = .ok (.land, 1) := by decide +kernel
theorem dd_MO_wrong_12 : decode bb_MO_wrong 12 = .ok (.lconst 0, 1) := by decide +kernel
theorem dd_MO_wrong_13 : decode bb_MO_wrong 13 = .ok (.lcmp, 1) := by decide +kernel
theorem dd_MO_wrong_14 : decode bb_MO_wrong 14 = .ok (.ifCond .eq 7, 3) := by decide +kernel
theorem dd_MO_wrong_17 : decode bb_MO_wrong 17 = .ok (.iconst 1, 1) := by decide +kernel
theorem dd_MO_wrong_18 : decode bb_MO_wrong 18 = .ok (.goto 4, 3) := by decide +kernel
theorem dd_MO_wrong_21 : decode bb_MO_wrong 21 = .ok (.iconst 0, 1) := by decide +kernel
theorem dd_MO_wrong_22 : decode bb_MO_wrong 22 = .ok (.ireturn, 1) := by decide +kernel
theorem dd_MO_mask_0 : decode bb_MO_mask 0 = .ok (.aload_n 0, 1) := by decide +kernel
theorem dd_MO_mask_1 : decode bb_MO_mask 1 = .ok (.getfield 16, 3) := by decide +kernel
theorem dd_MO_mask_4 : decode bb_MO_mask 4 = .ok (.bipush 64, 2) := by decide +kernel
theorem dd_MO_mask_6 : decode bb_MO_mask 6 = .ok (.if_icmp .ne 9, 3) := by decide +kernel
theorem dd_MO_mask_9 : decode bb_MO_mask 9 = .ok (.ldc2_w 26, 3) := by decide +kernel
theorem dd_MO_mask_12 : decode bb_MO_mask 12 = .ok (.goto 11, 3) := by decide +kernel
theorem dd_MO_mask_15 : decode bb_MO_mask 15 = .ok (.lconst 1, 1) := by decide +kernel
theorem dd_MO_mask_16 : decode bb_MO_mask 16 = .ok (.aload_n 0, 1) := by decide +kernel
theorem dd_MO_mask_17 : decode bb_MO_mask 17 = .ok (.getfield 16, 3) := by decide +kernel
theorem dd_MO_mask_20 : decode bb_MO_mask 20 = .ok (.lshl, 1) := by decide +kernel
theorem dd_MO_mask_21 : decode bb_MO_mask 21 = .ok (.lconst 1, 1) := by decide +kernel
theorem dd_MO_mask_22 : decode bb_MO_mask 22 = .ok (.lsub, 1) := by decide +kernel
theorem dd_MO_mask_23 : decode bb_MO_mask 23 = .ok (.lreturn, 1) := by decide +kernel
theorem dd_MO_first_0 : decode bb_MO_first 0 = .ok (.iconst 0, 1) := by decide +kernel
theorem dd_MO_first_1 : decode bb_MO_first 1 = .ok (.istore 5, 2) := by decide +kernel
theorem dd_MO_first_3 : decode bb_MO_first 3 = .ok (.iload 5, 2) := by decide +kernel
theorem dd_MO_first_5 : decode bb_MO_first 5 = .ok (.aload_n 0, 1) := by decide +kernel
theorem dd_MO_first_6 : decode bb_MO_first 6 = .ok (.getfield 32, 3) := by decide +kernel
theorem dd_MO_first_9 : decode bb_MO_first 9 = .ok (.if_icmp .ge 23, 3) := by decide +kernel
theorem dd_MO_first_12 : decode bb_MO_first 12 = .ok (.aload_n 0, 1) := by decide +kernel
theorem dd_MO_first_13 : decode bb_MO_first 13 = .ok (.iload 5, 2) := by decide +kernel
theorem dd_MO_first_15 : decode bb_MO_first 15 = .ok (.lload_n 1, 1) := by decide +kernel
theorem dd_MO_first_16 : decode bb_MO_first 16 = .ok (.lload_n 3, 1) := by decide +kernel
theorem dd_MO_first_17 : decode bb_MO_first 17 = .ok (.invokevirtual 35, 3) := by decide +kernel
theorem dd_MO_first_20 : decode bb_MO_first 20 = .ok (.ifCond .eq 6, 3) := by decide +kernel
theorem dd_MO_first_23 : decode bb_MO_first 23 = .ok (.iload 5, 2) := by decide +kernel
theorem dd_MO_first_25 : decode bb_MO_first 25 = .ok (.ireturn, 1) := by decide +kernel
theorem dd_MO_first_26 : decode bb_MO_first 26 = .ok (.iinc 5 1, 3) := by decide +kernel
theorem dd_MO_first_29 : decode bb_MO_first 29 = .ok (.goto (-26), 3) := by decide +kernel
theorem dd_MO_first_32 : decode bb_MO_first 32 = .ok (.iconst (-1), 1) := by decide +kernel
theorem dd_MO_first_33 : decode bb_MO_first 33 = .ok (.ireturn, 1) := by decide +kernel
theorem dd_MO_meet_0 : decode bb_MO_meet 0 = .ok (.aload_n 0, 1) := by decide +kernel
theorem dd_MO_meet_1 : decode bb_MO_meet 1 = .ok (.getfield 13, 3) := by decide +kernel
theorem dd_MO_meet_4 : decode bb_MO_meet 4 = .ok (.iload_n 1, 1) := by decide +kernel
theorem dd_MO_meet_5 : decode bb_MO_meet 5 = .ok (.laload, 1) := by decide +kernel
theorem dd_MO_meet_6 : decode bb_MO_meet 6 = .ok (.lload 4, 2) := by decide +kernel
theorem dd_MO_meet_8 : decode bb_MO_meet 8 = .ok (.lxor, 1) := by decide +kernel
theorem dd_MO_meet_9 : decode bb_MO_meet 9 = .ok (.aload_n 0, 1) := by decide +kernel
theorem dd_MO_meet_10 : decode bb_MO_meet 10 = .ok (.getfield 7, 3) := by decide +kernel
theorem dd_MO_meet_13 : decode bb_MO_meet 13 = .ok (.iload_n 1, 1) := by decide +kernel
theorem dd_MO_meet_14 : decode bb_MO_meet 14 = .ok (.laload, 1) := by decide +kernel
theorem dd_MO_meet_15 : decode bb_MO_meet 15 = .ok (.land, 1) := by decide +kernel
theorem dd_MO_meet_16 : decode bb_MO_meet 16 = .ok (.lload_n 2, 1) := by decide +kernel
theorem dd_MO_meet_17 : decode bb_MO_meet 17 = .ok (.land, 1) := by decide +kernel
theorem dd_MO_meet_18 : decode bb_MO_meet 18 = .ok (.aload_n 0, 1) := by decide +kernel
theorem dd_MO_meet_19 : decode bb_MO_meet 19 = .ok (.invokevirtual 28, 3) := by decide +kernel
theorem dd_MO_meet_22 : decode bb_MO_meet 22 = .ok (.land, 1) := by decide +kernel
theorem dd_MO_meet_23 : decode bb_MO_meet 23 = .ok (.lconst 0, 1) := by decide +kernel
theorem dd_MO_meet_24 : decode bb_MO_meet 24 = .ok (.lcmp, 1) := by decide +kernel
theorem dd_MO_meet_25 : decode bb_MO_meet 25 = .ok (.ifCond .ne 7, 3) := by decide +kernel
theorem dd_MO_meet_28 : decode bb_MO_meet 28 = .ok (.iconst 1, 1) := by decide +kernel
theorem dd_MO_meet_29 : decode bb_MO_meet 29 = .ok (.goto 4, 3) := by decide +kernel
theorem dd_MO_meet_32 : decode bb_MO_meet 32 = .ok (.iconst 0, 1) := by decide +kernel
theorem dd_MO_meet_33 : decode bb_MO_meet 33 = .ok (.ireturn, 1) := by decide +kernel
theorem dd_MO_signs_0 : decode bb_MO_signs 0 = .ok (.aload_n 0, 1) := by decide +kernel
theorem dd_MO_signs_1 : decode bb_MO_signs 1 = .ok (.iconst 0, 1) := by decide +kernel
theorem dd_MO_signs_2 : decode bb_MO_signs 2 = .ok (.putfield 23, 3) := by decide +kernel
theorem dd_MO_signs_5 : decode bb_MO_signs 5 = .ok (.lload_n 1, 1) := by decide +kernel
theorem dd_MO_signs_6 : decode bb_MO_signs 6 = .ok (.lconst 0, 1) := by decide +kernel
theorem dd_MO_signs_7 : decode bb_MO_signs 7 = .ok (.lcmp, 1) := by decide +kernel
theorem dd_MO_signs_8 : decode bb_MO_signs 8 = .ok (.ifCond .ge 9, 3) := by decide +kernel
theorem dd_MO_signs_11 : decode bb_MO_signs 11 = .ok (.aload_n 0, 1) := by decide +kernel
theorem dd_MO_signs_12 : decode bb_MO_signs 12 = .ok (.iconst 1, 1) := by decide +kernel
theorem dd_MO_signs_13 : decode bb_MO_signs 13 = .ok (.invokevirtual 39, 3) := by decide +kernel
theorem dd_MO_signs_16 : decode bb_MO_signs 16 = .ok (.ireturn, 1) := by decide +kernel
theorem dd_MO_signs_17 : decode bb_MO_signs 17 = .ok (.lconst 0, 1) := by decide +kernel
theorem dd_MO_signs_18 : decode bb_MO_signs 18 = .ok (.lstore_n 3, 1) := by decide +kernel
theorem dd_MO_signs_19 : decode bb_MO_signs 19 = .ok (.lconst 0, 1) := by decide +kernel
theorem dd_MO_signs_20 : decode bb_MO_signs 20 = .ok (.lstore 5, 2) := by decide +kernel
theorem dd_MO_signs_22 : decode bb_MO_signs 22 = .ok (.lload_n 1, 1) := by decide +kernel
theorem dd_MO_signs_23 : decode bb_MO_signs 23 = .ok (.lstore 7, 2) := by decide +kernel
theorem dd_MO_signs_25 : decode bb_MO_signs 25 = .ok (.iconst 0, 1) := by decide +kernel
theorem dd_MO_signs_26 : decode bb_MO_signs 26 = .ok (.istore 9, 2) := by decide +kernel
theorem dd_MO_signs_28 : decode bb_MO_signs 28 = .ok (.iload 9, 2) := by decide +kernel
theorem dd_MO_signs_30 : decode bb_MO_signs 30 = .ok (.bipush 40, 2) := by decide +kernel
theorem dd_MO_signs_32 : decode bb_MO_signs 32 = .ok (.if_icmp .ge 66, 3) := by decide +kernel
theorem dd_MO_signs_35 : decode bb_MO_signs 35 = .ok (.iload 9, 2) := by decide +kernel
theorem dd_MO_signs_37 : decode bb_MO_signs 37 = .ok (.aload_n 0, 1) := by decide +kernel
theorem dd_MO_signs_38 : decode bb_MO_signs 38 = .ok (.getfield 16, 3) := by decide +kernel
theorem dd_MO_signs_41 : decode bb_MO_signs 41 = .ok (.if_icmp .ge 57, 3) := by decide +kernel
theorem dd_MO_signs_44 : decode bb_MO_signs 44 = .ok (.lload 7, 2) := by decide +kernel
theorem dd_MO_signs_46 : decode bb_MO_signs 46 = .ok (.ldc2_w 51, 3) := by decide +kernel
theorem dd_MO_signs_49 : decode bb_MO_signs 49 = .ok (.lrem, 1) := by decide +kernel
theorem dd_MO_signs_50 : decode bb_MO_signs 50 = .ok (.lstore 10, 2) := by decide +kernel
theorem dd_MO_signs_52 : decode bb_MO_signs 52 = .ok (.lload 7, 2) := by decide +kernel
theorem dd_MO_signs_54 : decode bb_MO_signs 54 = .ok (.ldc2_w 51, 3) := by decide +kernel
theorem dd_MO_signs_57 : decode bb_MO_signs 57 = .ok (.ldiv, 1) := by decide +kernel
theorem dd_MO_signs_58 : decode bb_MO_signs 58 = .ok (.lstore 7, 2) := by decide +kernel
theorem dd_MO_signs_60 : decode bb_MO_signs 60 = .ok (.lload 10, 2) := by decide +kernel
theorem dd_MO_signs_62 : decode bb_MO_signs 62 = .ok (.ldc2_w 53, 3) := by decide +kernel
theorem dd_MO_signs_65 : decode bb_MO_signs 65 = .ok (.lcmp, 1) := by decide +kernel
theorem dd_MO_signs_66 : decode bb_MO_signs 66 = .ok (.ifCond .ge 10, 3) := by decide +kernel
theorem dd_MO_signs_69 : decode bb_MO_signs 69 = .ok (.lload_n 3, 1) := by decide +kernel
theorem dd_MO_signs_70 : decode bb_MO_signs 70 = .ok (.lconst 1, 1) := by decide +kernel
theorem dd_MO_signs_71 : decode bb_MO_signs 71 = .ok (.iload 9, 2) := by decide +kernel
theorem dd_MO_signs_73 : decode bb_MO_signs 73 = .ok (.lshl, 1) := by decide +kernel
theorem dd_MO_signs_74 : decode bb_MO_signs 74 = .ok (.lor, 1) := by decide +kernel
theorem dd_MO_signs_75 : decode bb_MO_signs 75 = .ok (.lstore_n 3, 1) := by decide +kernel
theorem dd_MO_signs_76 : decode bb_MO_signs 76 = .ok (.lload 10, 2) := by decide +kernel
theorem dd_MO_signs_78 : decode bb_MO_signs 78 = .ok (.lconst 1, 1) := by decide +kernel
theorem dd_MO_signs_79 : decode bb_MO_signs 79 = .ok (.lcmp, 1) := by decide +kernel
theorem dd_MO_signs_80 : decode bb_MO_signs 80 = .ok (.ifCond .ne 12, 3) := by decide +kernel
theorem dd_MO_signs_83 : decode bb_MO_signs 83 = .ok (.lload 5, 2) := by decide +kernel
theorem dd_MO_signs_85 : decode bb_MO_signs 85 = .ok (.lconst 1, 1) := by decide +kernel
theorem dd_MO_signs_86 : decode bb_MO_signs 86 = .ok (.iload 9, 2) := by decide +kernel
theorem dd_MO_signs_88 : decode bb_MO_signs 88 = .ok (.lshl, 1) := by decide +kernel
theorem dd_MO_signs_89 : decode bb_MO_signs 89 = .ok (.lor, 1) := by decide +kernel
theorem dd_MO_signs_90 : decode bb_MO_signs 90 = .ok (.lstore 5, 2) := by decide +kernel
theorem dd_MO_signs_92 : decode bb_MO_signs 92 = .ok (.iinc 9 1, 3) := by decide +kernel
theorem dd_MO_signs_95 : decode bb_MO_signs 95 = .ok (.goto (-67), 3) := by decide +kernel
theorem dd_MO_signs_98 : decode bb_MO_signs 98 = .ok (.aload_n 0, 1) := by decide +kernel
theorem dd_MO_signs_99 : decode bb_MO_signs 99 = .ok (.lload_n 3, 1) := by decide +kernel
theorem dd_MO_signs_100 : decode bb_MO_signs 100 = .ok (.lload 5, 2) := by decide +kernel
theorem dd_MO_signs_102 : decode bb_MO_signs 102 = .ok (.invokevirtual 55, 3) := by decide +kernel
theorem dd_MO_signs_105 : decode bb_MO_signs 105 = .ok (.ireturn, 1) := by decide +kernel
theorem dd_MO_drop_0 : decode bb_MO_drop 0 = .ok (.aload_n 0, 1) := by decide +kernel
theorem dd_MO_drop_1 : decode bb_MO_drop 1 = .ok (.iconst 0, 1) := by decide +kernel
theorem dd_MO_drop_2 : decode bb_MO_drop 2 = .ok (.putfield 23, 3) := by decide +kernel
theorem dd_MO_drop_5 : decode bb_MO_drop 5 = .ok (.iload_n 1, 1) := by decide +kernel
theorem dd_MO_drop_6 : decode bb_MO_drop 6 = .ok (.ifCond .lt 11, 3) := by decide +kernel
theorem dd_MO_drop_9 : decode bb_MO_drop 9 = .ok (.iload_n 1, 1) := by decide +kernel
theorem dd_MO_drop_10 : decode bb_MO_drop 10 = .ok (.aload_n 0, 1) := by decide +kernel
theorem dd_MO_drop_11 : decode bb_MO_drop 11 = .ok (.getfield 32, 3) := by decide +kernel
theorem dd_MO_drop_14 : decode bb_MO_drop 14 = .ok (.if_icmp .lt 10, 3) := by decide +kernel
theorem dd_MO_drop_17 : decode bb_MO_drop 17 = .ok (.aload_n 0, 1) := by decide +kernel
theorem dd_MO_drop_18 : decode bb_MO_drop 18 = .ok (.iconst 1, 1) := by decide +kernel
theorem dd_MO_drop_19 : decode bb_MO_drop 19 = .ok (.invokevirtual 39, 3) := by decide +kernel
theorem dd_MO_drop_22 : decode bb_MO_drop 22 = .ok (.pop, 1) := by decide +kernel
theorem dd_MO_drop_23 : decode bb_MO_drop 23 = .ok (.return_, 1) := by decide +kernel
theorem dd_MO_drop_24 : decode bb_MO_drop 24 = .ok (.iload_n 1, 1) := by decide +kernel
theorem dd_MO_drop_25 : decode bb_MO_drop 25 = .ok (.istore_n 2, 1) := by decide +kernel
theorem dd_MO_drop_26 : decode bb_MO_drop 26 = .ok (.iload_n 2, 1) := by decide +kernel
theorem dd_MO_drop_27 : decode bb_MO_drop 27 = .ok (.iconst 1, 1) := by decide +kernel
theorem dd_MO_drop_28 : decode bb_MO_drop 28 = .ok (.iadd, 1) := by decide +kernel
theorem dd_MO_drop_29 : decode bb_MO_drop 29 = .ok (.aload_n 0, 1) := by decide +kernel
theorem dd_MO_drop_30 : decode bb_MO_drop 30 = .ok (.getfield 32, 3) := by decide +kernel
theorem dd_MO_drop_33 : decode bb_MO_drop 33 = .ok (.if_icmp .ge 37, 3) := by decide +kernel
theorem dd_MO_drop_36 : decode bb_MO_drop 36 = .ok (.aload_n 0, 1) := by decide +kernel
theorem dd_MO_drop_37 : decode bb_MO_drop 37 = .ok (.getfield 7, 3) := by decide +kernel
theorem dd_MO_drop_40 : decode bb_MO_drop 40 = .ok (.iload_n 2, 1) := by decide +kernel
theorem dd_MO_drop_41 : decode bb_MO_drop 41 = .ok (.aload_n 0, 1) := by decide +kernel
theorem dd_MO_drop_42 : decode bb_MO_drop 42 = .ok (.getfield 7, 3) := by decide +kernel
theorem dd_MO_drop_45 : decode bb_MO_drop 45 = .ok (.iload_n 2, 1) := by decide +kernel
theorem dd_MO_drop_46 : decode bb_MO_drop 46 = .ok (.iconst 1, 1) := by decide +kernel
theorem dd_MO_drop_47 : decode bb_MO_drop 47 = .ok (.iadd, 1) := by decide +kernel
theorem dd_MO_drop_48 : decode bb_MO_drop 48 = .ok (.laload, 1) := by decide +kernel
theorem dd_MO_drop_49 : decode bb_MO_drop 49 = .ok (.lastore, 1) := by decide +kernel
theorem dd_MO_drop_50 : decode bb_MO_drop 50 = .ok (.aload_n 0, 1) := by decide +kernel
theorem dd_MO_drop_51 : decode bb_MO_drop 51 = .ok (.getfield 13, 3) := by decide +kernel
theorem dd_MO_drop_54 : decode bb_MO_drop 54 = .ok (.iload_n 2, 1) := by decide +kernel
theorem dd_MO_drop_55 : decode bb_MO_drop 55 = .ok (.aload_n 0, 1) := by decide +kernel
theorem dd_MO_drop_56 : decode bb_MO_drop 56 = .ok (.getfield 13, 3) := by decide +kernel
theorem dd_MO_drop_59 : decode bb_MO_drop 59 = .ok (.iload_n 2, 1) := by decide +kernel
theorem dd_MO_drop_60 : decode bb_MO_drop 60 = .ok (.iconst 1, 1) := by decide +kernel
theorem dd_MO_drop_61 : decode bb_MO_drop 61 = .ok (.iadd, 1) := by decide +kernel
theorem dd_MO_drop_62 : decode bb_MO_drop 62 = .ok (.laload, 1) := by decide +kernel
theorem dd_MO_drop_63 : decode bb_MO_drop 63 = .ok (.lastore, 1) := by decide +kernel
theorem dd_MO_drop_64 : decode bb_MO_drop 64 = .ok (.iinc 2 1, 3) := by decide +kernel
theorem dd_MO_drop_67 : decode bb_MO_drop 67 = .ok (.goto (-41), 3) := by decide +kernel
theorem dd_MO_drop_70 : decode bb_MO_drop 70 = .ok (.aload_n 0, 1) := by decide +kernel
theorem dd_MO_drop_71 : decode bb_MO_drop 71 = .ok (.dup, 1) := by decide +kernel
theorem dd_MO_drop_72 : decode bb_MO_drop 72 = .ok (.getfield 32, 3) := by decide +kernel
theorem dd_MO_drop_75 : decode bb_MO_drop 75 = .ok (.iconst 1, 1) := by decide +kernel
theorem dd_MO_drop_76 : decode bb_MO_drop 76 = .ok (.isub, 1) := by decide +kernel
theorem dd_MO_drop_77 : decode bb_MO_drop 77 = .ok (.putfield 32, 3) := by decide +kernel
theorem dd_MO_drop_80 : decode bb_MO_drop 80 = .ok (.return_, 1) := by decide +kernel
theorem dd_MO_decode_0 : decode bb_MO_decode 0 = .ok (.aload_n 0, 1) := by decide +kernel
theorem dd_MO_decode_1 : decode bb_MO_decode 1 = .ok (.iconst 0, 1) := by decide +kernel
theorem dd_MO_decode_2 : decode bb_MO_decode 2 = .ok (.putfield 23, 3) := by decide +kernel
theorem dd_MO_decode_5 : decode bb_MO_decode 5 = .ok (.iconst 0, 1) := by decide +kernel
theorem dd_MO_decode_6 : decode bb_MO_decode 6 = .ok (.istore_n 3, 1) := by decide +kernel
theorem dd_MO_decode_7 : decode bb_MO_decode 7 = .ok (.iconst (-1), 1) := by decide +kernel
theorem dd_MO_decode_8 : decode bb_MO_decode 8 = .ok (.istore 4, 2) := by decide +kernel
theorem dd_MO_decode_10 : decode bb_MO_decode 10 = .ok (.iconst 0, 1) := by decide +kernel
theorem dd_MO_decode_11 : decode bb_MO_decode 11 = .ok (.istore 5, 2) := by decide +kernel
theorem dd_MO_decode_13 : decode bb_MO_decode 13 = .ok (.iload 5, 2) := by decide +kernel
theorem dd_MO_decode_15 : decode bb_MO_decode 15 = .ok (.aload_n 0, 1) := by decide +kernel
theorem dd_MO_decode_16 : decode bb_MO_decode 16 = .ok (.getfield 32, 3) := by decide +kernel
theorem dd_MO_decode_19 : decode bb_MO_decode 19 = .ok (.if_icmp .ge 43, 3) := by decide +kernel
theorem dd_MO_decode_22 : decode bb_MO_decode 22 = .ok (.lload_n 1, 1) := by decide +kernel
theorem dd_MO_decode_23 : decode bb_MO_decode 23 = .ok (.aload_n 0, 1) := by decide +kernel
theorem dd_MO_decode_24 : decode bb_MO_decode 24 = .ok (.getfield 7, 3) := by decide +kernel
theorem dd_MO_decode_27 : decode bb_MO_decode 27 = .ok (.iload 5, 2) := by decide +kernel
theorem dd_MO_decode_29 : decode bb_MO_decode 29 = .ok (.laload, 1) := by decide +kernel
theorem dd_MO_decode_30 : decode bb_MO_decode 30 = .ok (.land, 1) := by decide +kernel
theorem dd_MO_decode_31 : decode bb_MO_decode 31 = .ok (.aload_n 0, 1) := by decide +kernel
theorem dd_MO_decode_32 : decode bb_MO_decode 32 = .ok (.getfield 13, 3) := by decide +kernel
theorem dd_MO_decode_35 : decode bb_MO_decode 35 = .ok (.iload 5, 2) := by decide +kernel
theorem dd_MO_decode_37 : decode bb_MO_decode 37 = .ok (.laload, 1) := by decide +kernel
theorem dd_MO_decode_38 : decode bb_MO_decode 38 = .ok (.lcmp, 1) := by decide +kernel
theorem dd_MO_decode_39 : decode bb_MO_decode 39 = .ok (.ifCond .eq 6, 3) := by decide +kernel
theorem dd_MO_decode_42 : decode bb_MO_decode 42 = .ok (.goto 14, 3) := by decide +kernel
theorem dd_MO_decode_45 : decode bb_MO_decode 45 = .ok (.iload_n 3, 1) := by decide +kernel
theorem dd_MO_decode_46 : decode bb_MO_decode 46 = .ok (.ifCond .ne 7, 3) := by decide +kernel
theorem dd_MO_decode_49 : decode bb_MO_decode 49 = .ok (.iload 5, 2) := by decide +kernel
theorem dd_MO_decode_51 : decode bb_MO_decode 51 = .ok (.istore 4, 2) := by decide +kernel
theorem dd_MO_decode_53 : decode bb_MO_decode 53 = .ok (.iinc 3 1, 3) := by decide +kernel
theorem dd_MO_decode_56 : decode bb_MO_decode 56 = .ok (.iinc 5 1, 3) := by decide +kernel
theorem dd_MO_decode_59 : decode bb_MO_decode 59 = .ok (.goto (-46), 3) := by decide +kernel
theorem dd_MO_decode_62 : decode bb_MO_decode 62 = .ok (.iload_n 3, 1) := by decide +kernel
theorem dd_MO_decode_63 : decode bb_MO_decode 63 = .ok (.iconst 1, 1) := by decide +kernel
theorem dd_MO_decode_64 : decode bb_MO_decode 64 = .ok (.if_icmp .le 15, 3) := by decide +kernel
theorem dd_MO_decode_67 : decode bb_MO_decode 67 = .ok (.aload_n 0, 1) := by decide +kernel
theorem dd_MO_decode_68 : decode bb_MO_decode 68 = .ok (.dup, 1) := by decide +kernel
theorem dd_MO_decode_69 : decode bb_MO_decode 69 = .ok (.getfield 58, 3) := by decide +kernel
theorem dd_MO_decode_72 : decode bb_MO_decode 72 = .ok (.iload_n 3, 1) := by decide +kernel
theorem dd_MO_decode_73 : decode bb_MO_decode 73 = .ok (.iconst 1, 1) := by decide +kernel
theorem dd_MO_decode_74 : decode bb_MO_decode 74 = .ok (.isub, 1) := by decide +kernel
theorem dd_MO_decode_75 : decode bb_MO_decode 75 = .ok (.iadd, 1) := by decide +kernel
theorem dd_MO_decode_76 : decode bb_MO_decode 76 = .ok (.putfield 58, 3) := by decide +kernel
theorem dd_MO_decode_79 : decode bb_MO_decode 79 = .ok (.iload 4, 2) := by decide +kernel
theorem dd_MO_decode_81 : decode bb_MO_decode 81 = .ok (.ireturn, 1) := by decide +kernel
theorem dd_MO_meets_0 : decode bb_MO_meets 0 = .ok (.aload_n 0, 1) := by decide +kernel
theorem dd_MO_meets_1 : decode bb_MO_meets 1 = .ok (.iconst 0, 1) := by decide +kernel
theorem dd_MO_meets_2 : decode bb_MO_meets 2 = .ok (.putfield 23, 3) := by decide +kernel
theorem dd_MO_meets_5 : decode bb_MO_meets 5 = .ok (.aload_n 0, 1) := by decide +kernel
theorem dd_MO_meets_6 : decode bb_MO_meets 6 = .ok (.lload_n 1, 1) := by decide +kernel
theorem dd_MO_meets_7 : decode bb_MO_meets 7 = .ok (.lload_n 3, 1) := by decide +kernel
theorem dd_MO_meets_8 : decode bb_MO_meets 8 = .ok (.invokevirtual 43, 3) := by decide +kernel
theorem dd_MO_meets_11 : decode bb_MO_meets 11 = .ok (.ifCond .eq 11, 3) := by decide +kernel
theorem dd_MO_meets_14 : decode bb_MO_meets 14 = .ok (.aload_n 0, 1) := by decide +kernel
theorem dd_MO_meets_15 : decode bb_MO_meets 15 = .ok (.iconst 1, 1) := by decide +kernel
theorem dd_MO_meets_16 : decode bb_MO_meets 16 = .ok (.invokevirtual 39, 3) := by decide +kernel
theorem dd_MO_meets_19 : decode bb_MO_meets 19 = .ok (.goto 9, 3) := by decide +kernel
theorem dd_MO_meets_22 : decode bb_MO_meets 22 = .ok (.aload_n 0, 1) := by decide +kernel
theorem dd_MO_meets_23 : decode bb_MO_meets 23 = .ok (.lload_n 1, 1) := by decide +kernel
theorem dd_MO_meets_24 : decode bb_MO_meets 24 = .ok (.lload_n 3, 1) := by decide +kernel
theorem dd_MO_meets_25 : decode bb_MO_meets 25 = .ok (.invokevirtual 47, 3) := by decide +kernel
theorem dd_MO_meets_28 : decode bb_MO_meets 28 = .ok (.ireturn, 1) := by decide +kernel
theorem dd_MO_free_0 : decode bb_MO_free 0 = .ok (.aload_n 0, 1) := by decide +kernel
theorem dd_MO_free_1 : decode bb_MO_free 1 = .ok (.iconst 0, 1) := by decide +kernel
theorem dd_MO_free_2 : decode bb_MO_free 2 = .ok (.putfield 23, 3) := by decide +kernel
theorem dd_MO_free_5 : decode bb_MO_free 5 = .ok (.aload_n 0, 1) := by decide +kernel
theorem dd_MO_free_6 : decode bb_MO_free 6 = .ok (.lload_n 1, 1) := by decide +kernel
theorem dd_MO_free_7 : decode bb_MO_free 7 = .ok (.lload_n 3, 1) := by decide +kernel
theorem dd_MO_free_8 : decode bb_MO_free 8 = .ok (.invokevirtual 43, 3) := by decide +kernel
theorem dd_MO_free_11 : decode bb_MO_free 11 = .ok (.ifCond .eq 12, 3) := by decide +kernel
theorem dd_MO_free_14 : decode bb_MO_free 14 = .ok (.aload_n 0, 1) := by decide +kernel
theorem dd_MO_free_15 : decode bb_MO_free 15 = .ok (.iconst 1, 1) := by decide +kernel
theorem dd_MO_free_16 : decode bb_MO_free 16 = .ok (.invokevirtual 39, 3) := by decide +kernel
theorem dd_MO_free_19 : decode bb_MO_free 19 = .ok (.i2l, 1) := by decide +kernel
theorem dd_MO_free_20 : decode bb_MO_free 20 = .ok (.goto 9, 3) := by decide +kernel
theorem dd_MO_free_23 : decode bb_MO_free 23 = .ok (.aload_n 0, 1) := by decide +kernel
theorem dd_MO_free_24 : decode bb_MO_free 24 = .ok (.lload_n 1, 1) := by decide +kernel
theorem dd_MO_free_25 : decode bb_MO_free 25 = .ok (.lload_n 3, 1) := by decide +kernel
theorem dd_MO_free_26 : decode bb_MO_free 26 = .ok (.invokevirtual 69, 3) := by decide +kernel
theorem dd_MO_free_29 : decode bb_MO_free 29 = .ok (.lreturn, 1) := by decide +kernel
theorem dd_MO_none_0 : decode bb_MO_none 0 = .ok (.aload_n 0, 1) := by decide +kernel
theorem dd_MO_none_1 : decode bb_MO_none 1 = .ok (.getfield 16, 3) := by decide +kernel
theorem dd_MO_none_4 : decode bb_MO_none 4 = .ok (.lload_n 1, 1) := by decide +kernel
theorem dd_MO_none_5 : decode bb_MO_none 5 = .ok (.aload_n 0, 1) := by decide +kernel
theorem dd_MO_none_6 : decode bb_MO_none 6 = .ok (.invokevirtual 28, 3) := by decide +kernel
theorem dd_MO_none_9 : decode bb_MO_none 9 = .ok (.land, 1) := by decide +kernel
theorem dd_MO_none_10 : decode bb_MO_none 10 = .ok (.invokestatic 61, 3) := by decide +kernel
theorem dd_MO_none_13 : decode bb_MO_none 13 = .ok (.isub, 1) := by decide +kernel
theorem dd_MO_none_14 : decode bb_MO_none 14 = .ok (.invokestatic 65, 3) := by decide +kernel
theorem dd_MO_none_17 : decode bb_MO_none 17 = .ok (.lstore 5, 2) := by decide +kernel
theorem dd_MO_none_19 : decode bb_MO_none 19 = .ok (.iconst 0, 1) := by decide +kernel
theorem dd_MO_none_20 : decode bb_MO_none 20 = .ok (.istore 7, 2) := by decide +kernel
theorem dd_MO_none_22 : decode bb_MO_none 22 = .ok (.iload 7, 2) := by decide +kernel
theorem dd_MO_none_24 : decode bb_MO_none 24 = .ok (.aload_n 0, 1) := by decide +kernel
theorem dd_MO_none_25 : decode bb_MO_none 25 = .ok (.getfield 32, 3) := by decide +kernel
theorem dd_MO_none_28 : decode bb_MO_none 28 = .ok (.if_icmp .ge 50, 3) := by decide +kernel
theorem dd_MO_none_31 : decode bb_MO_none 31 = .ok (.aload_n 0, 1) := by decide +kernel
theorem dd_MO_none_32 : decode bb_MO_none 32 = .ok (.iload 7, 2) := by decide +kernel
theorem dd_MO_none_34 : decode bb_MO_none 34 = .ok (.lload_n 1, 1) := by decide +kernel
theorem dd_MO_none_35 : decode bb_MO_none 35 = .ok (.lload_n 3, 1) := by decide +kernel
theorem dd_MO_none_36 : decode bb_MO_none 36 = .ok (.invokevirtual 35, 3) := by decide +kernel
theorem dd_MO_none_39 : decode bb_MO_none 39 = .ok (.ifCond .eq 33, 3) := by decide +kernel
theorem dd_MO_none_42 : decode bb_MO_none 42 = .ok (.lload 5, 2) := by decide +kernel
theorem dd_MO_none_44 : decode bb_MO_none 44 = .ok (.aload_n 0, 1) := by decide +kernel
theorem dd_MO_none_45 : decode bb_MO_none 45 = .ok (.getfield 16, 3) := by decide +kernel
theorem dd_MO_none_48 : decode bb_MO_none 48 = .ok (.lload_n 1, 1) := by decide +kernel
theorem dd_MO_none_49 : decode bb_MO_none 49 = .ok (.aload_n 0, 1) := by decide +kernel
theorem dd_MO_none_50 : decode bb_MO_none 50 = .ok (.getfield 7, 3) := by decide +kernel
theorem dd_MO_none_53 : decode bb_MO_none 53 = .ok (.iload 7, 2) := by decide +kernel
theorem dd_MO_none_55 : decode bb_MO_none 55 = .ok (.laload, 1) := by decide +kernel
theorem dd_MO_none_56 : decode bb_MO_none 56 = .ok (.lor, 1) := by decide +kernel
theorem dd_MO_none_57 : decode bb_MO_none 57 = .ok (.aload_n 0, 1) := by decide +kernel
theorem dd_MO_none_58 : decode bb_MO_none 58 = .ok (.invokevirtual 28, 3) := by decide +kernel
theorem dd_MO_none_61 : decode bb_MO_none 61 = .ok (.land, 1) := by decide +kernel
theorem dd_MO_none_62 : decode bb_MO_none 62 = .ok (.invokestatic 61, 3) := by decide +kernel
theorem dd_MO_none_65 : decode bb_MO_none 65 = .ok (.isub, 1) := by decide +kernel
theorem dd_MO_none_66 : decode bb_MO_none 66 = .ok (.invokestatic 65, 3) := by decide +kernel
theorem dd_MO_none_69 : decode bb_MO_none 69 = .ok (.lsub, 1) := by decide +kernel
theorem dd_MO_none_70 : decode bb_MO_none 70 = .ok (.lstore 5, 2) := by decide +kernel
theorem dd_MO_none_72 : decode bb_MO_none 72 = .ok (.iinc 7 1, 3) := by decide +kernel
theorem dd_MO_none_75 : decode bb_MO_none 75 = .ok (.goto (-53), 3) := by decide +kernel
theorem dd_MO_none_78 : decode bb_MO_none 78 = .ok (.lload 5, 2) := by decide +kernel
theorem dd_MO_none_80 : decode bb_MO_none 80 = .ok (.lreturn, 1) := by decide +kernel
theorem dd_MO_bits_0 : decode bb_MO_bits 0 = .ok (.iconst 0, 1) := by decide +kernel
theorem dd_MO_bits_1 : decode bb_MO_bits 1 = .ok (.istore_n 2, 1) := by decide +kernel
theorem dd_MO_bits_2 : decode bb_MO_bits 2 = .ok (.iconst 0, 1) := by decide +kernel
theorem dd_MO_bits_3 : decode bb_MO_bits 3 = .ok (.istore_n 3, 1) := by decide +kernel
theorem dd_MO_bits_4 : decode bb_MO_bits 4 = .ok (.iload_n 3, 1) := by decide +kernel
theorem dd_MO_bits_5 : decode bb_MO_bits 5 = .ok (.bipush 64, 2) := by decide +kernel
theorem dd_MO_bits_7 : decode bb_MO_bits 7 = .ok (.if_icmp .ge 18, 3) := by decide +kernel
theorem dd_MO_bits_10 : decode bb_MO_bits 10 = .ok (.iload_n 2, 1) := by decide +kernel
theorem dd_MO_bits_11 : decode bb_MO_bits 11 = .ok (.lload_n 0, 1) := by decide +kernel
theorem dd_MO_bits_12 : decode bb_MO_bits 12 = .ok (.iload_n 3, 1) := by decide +kernel
theorem dd_MO_bits_13 : decode bb_MO_bits 13 = .ok (.lushr, 1) := by decide +kernel
theorem dd_MO_bits_14 : decode bb_MO_bits 14 = .ok (.lconst 1, 1) := by decide +kernel
theorem dd_MO_bits_15 : decode bb_MO_bits 15 = .ok (.land, 1) := by decide +kernel
theorem dd_MO_bits_16 : decode bb_MO_bits 16 = .ok (.l2i, 1) := by decide +kernel
theorem dd_MO_bits_17 : decode bb_MO_bits 17 = .ok (.iadd, 1) := by decide +kernel
theorem dd_MO_bits_18 : decode bb_MO_bits 18 = .ok (.istore_n 2, 1) := by decide +kernel
theorem dd_MO_bits_19 : decode bb_MO_bits 19 = .ok (.iinc 3 1, 3) := by decide +kernel
theorem dd_MO_bits_22 : decode bb_MO_bits 22 = .ok (.goto (-18), 3) := by decide +kernel
theorem dd_MO_bits_25 : decode bb_MO_bits 25 = .ok (.iload_n 2, 1) := by decide +kernel
theorem dd_MO_bits_26 : decode bb_MO_bits 26 = .ok (.ireturn, 1) := by decide +kernel
theorem dd_MO_power_0 : decode bb_MO_power 0 = .ok (.iload_n 0, 1) := by decide +kernel
theorem dd_MO_power_1 : decode bb_MO_power 1 = .ok (.bipush 64, 2) := by decide +kernel
theorem dd_MO_power_3 : decode bb_MO_power 3 = .ok (.if_icmp .ne 7, 3) := by decide +kernel
theorem dd_MO_power_6 : decode bb_MO_power 6 = .ok (.lconst 0, 1) := by decide +kernel
theorem dd_MO_power_7 : decode bb_MO_power 7 = .ok (.goto 6, 3) := by decide +kernel
theorem dd_MO_power_10 : decode bb_MO_power 10 = .ok (.lconst 1, 1) := by decide +kernel
theorem dd_MO_power_11 : decode bb_MO_power 11 = .ok (.iload_n 0, 1) := by decide +kernel
theorem dd_MO_power_12 : decode bb_MO_power 12 = .ok (.lshl, 1) := by decide +kernel
theorem dd_MO_power_13 : decode bb_MO_power 13 = .ok (.lreturn, 1) := by decide +kernel
theorem dd_MO_next_0 : decode bb_MO_next 0 = .ok (.aload_n 0, 1) := by decide +kernel
theorem dd_MO_next_1 : decode bb_MO_next 1 = .ok (.iconst 0, 1) := by decide +kernel
theorem dd_MO_next_2 : decode bb_MO_next 2 = .ok (.putfield 23, 3) := by decide +kernel
theorem dd_MO_next_5 : decode bb_MO_next 5 = .ok (.lload_n 1, 1) := by decide +kernel
theorem dd_MO_next_6 : decode bb_MO_next 6 = .ok (.aload_n 0, 1) := by decide +kernel
theorem dd_MO_next_7 : decode bb_MO_next 7 = .ok (.invokevirtual 28, 3) := by decide +kernel
theorem dd_MO_next_10 : decode bb_MO_next 10 = .ok (.land, 1) := by decide +kernel
theorem dd_MO_next_11 : decode bb_MO_next 11 = .ok (.lstore_n 3, 1) := by decide +kernel
theorem dd_MO_next_12 : decode bb_MO_next 12 = .ok (.aload_n 0, 1) := by decide +kernel
theorem dd_MO_next_13 : decode bb_MO_next 13 = .ok (.aload_n 0, 1) := by decide +kernel
theorem dd_MO_next_14 : decode bb_MO_next 14 = .ok (.invokevirtual 28, 3) := by decide +kernel
theorem dd_MO_next_17 : decode bb_MO_next 17 = .ok (.lload_n 3, 1) := by decide +kernel
theorem dd_MO_next_18 : decode bb_MO_next 18 = .ok (.invokevirtual 73, 3) := by decide +kernel
theorem dd_MO_next_21 : decode bb_MO_next 21 = .ok (.ifCond .eq 5, 3) := by decide +kernel
theorem dd_MO_next_24 : decode bb_MO_next 24 = .ok (.lload_n 3, 1) := by decide +kernel
theorem dd_MO_next_25 : decode bb_MO_next 25 = .ok (.lreturn, 1) := by decide +kernel
theorem dd_MO_next_26 : decode bb_MO_next 26 = .ok (.iconst 0, 1) := by decide +kernel
theorem dd_MO_next_27 : decode bb_MO_next 27 = .ok (.istore 5, 2) := by decide +kernel
theorem dd_MO_next_29 : decode bb_MO_next 29 = .ok (.iload 5, 2) := by decide +kernel
theorem dd_MO_next_31 : decode bb_MO_next 31 = .ok (.aload_n 0, 1) := by decide +kernel
theorem dd_MO_next_32 : decode bb_MO_next 32 = .ok (.getfield 16, 3) := by decide +kernel
theorem dd_MO_next_35 : decode bb_MO_next 35 = .ok (.if_icmp .ge 114, 3) := by decide +kernel
theorem dd_MO_next_38 : decode bb_MO_next 38 = .ok (.lconst 1, 1) := by decide +kernel
theorem dd_MO_next_39 : decode bb_MO_next 39 = .ok (.iload 5, 2) := by decide +kernel
theorem dd_MO_next_41 : decode bb_MO_next 41 = .ok (.lshl, 1) := by decide +kernel
theorem dd_MO_next_42 : decode bb_MO_next 42 = .ok (.lstore 6, 2) := by decide +kernel
theorem dd_MO_next_44 : decode bb_MO_next 44 = .ok (.lload_n 3, 1) := by decide +kernel
theorem dd_MO_next_45 : decode bb_MO_next 45 = .ok (.lload 6, 2) := by decide +kernel
theorem dd_MO_next_47 : decode bb_MO_next 47 = .ok (.land, 1) := by decide +kernel
theorem dd_MO_next_48 : decode bb_MO_next 48 = .ok (.lconst 0, 1) := by decide +kernel
theorem dd_MO_next_49 : decode bb_MO_next 49 = .ok (.lcmp, 1) := by decide +kernel
theorem dd_MO_next_50 : decode bb_MO_next 50 = .ok (.ifCond .eq 6, 3) := by decide +kernel
theorem dd_MO_next_53 : decode bb_MO_next 53 = .ok (.goto 90, 3) := by decide +kernel
theorem dd_MO_next_56 : decode bb_MO_next 56 = .ok (.aload_n 0, 1) := by decide +kernel
theorem dd_MO_next_57 : decode bb_MO_next 57 = .ok (.invokevirtual 28, 3) := by decide +kernel
theorem dd_MO_next_60 : decode bb_MO_next 60 = .ok (.lload 6, 2) := by decide +kernel
theorem dd_MO_next_62 : decode bb_MO_next 62 = .ok (.lconst 1, 1) := by decide +kernel
theorem dd_MO_next_63 : decode bb_MO_next 63 = .ok (.lsub, 1) := by decide +kernel
theorem dd_MO_next_64 : decode bb_MO_next 64 = .ok (.ldc2_w 26, 3) := by decide +kernel
theorem dd_MO_next_67 : decode bb_MO_next 67 = .ok (.lxor, 1) := by decide +kernel
theorem dd_MO_next_68 : decode bb_MO_next 68 = .ok (.land, 1) := by decide +kernel
theorem dd_MO_next_69 : decode bb_MO_next 69 = .ok (.lstore 8, 2) := by decide +kernel
theorem dd_MO_next_71 : decode bb_MO_next 71 = .ok (.lload_n 3, 1) := by decide +kernel
theorem dd_MO_next_72 : decode bb_MO_next 72 = .ok (.lload 8, 2) := by decide +kernel
theorem dd_MO_next_74 : decode bb_MO_next 74 = .ok (.land, 1) := by decide +kernel
theorem dd_MO_next_75 : decode bb_MO_next 75 = .ok (.lload 6, 2) := by decide +kernel
theorem dd_MO_next_77 : decode bb_MO_next 77 = .ok (.lor, 1) := by decide +kernel
theorem dd_MO_next_78 : decode bb_MO_next 78 = .ok (.lstore 10, 2) := by decide +kernel
theorem dd_MO_next_80 : decode bb_MO_next 80 = .ok (.aload_n 0, 1) := by decide +kernel
theorem dd_MO_next_81 : decode bb_MO_next 81 = .ok (.lload 8, 2) := by decide +kernel
theorem dd_MO_next_83 : decode bb_MO_next 83 = .ok (.lload 10, 2) := by decide +kernel
theorem dd_MO_next_85 : decode bb_MO_next 85 = .ok (.invokevirtual 73, 3) := by decide +kernel
theorem dd_MO_next_88 : decode bb_MO_next 88 = .ok (.ifCond .ne 6, 3) := by decide +kernel
theorem dd_MO_next_91 : decode bb_MO_next 91 = .ok (.goto 52, 3) := by decide +kernel
theorem dd_MO_next_94 : decode bb_MO_next 94 = .ok (.iload 5, 2) := by decide +kernel
theorem dd_MO_next_96 : decode bb_MO_next 96 = .ok (.iconst 1, 1) := by decide +kernel
theorem dd_MO_next_97 : decode bb_MO_next 97 = .ok (.isub, 1) := by decide +kernel
theorem dd_MO_next_98 : decode bb_MO_next 98 = .ok (.istore 12, 2) := by decide +kernel
theorem dd_MO_next_100 : decode bb_MO_next 100 = .ok (.iload 12, 2) := by decide +kernel
theorem dd_MO_next_102 : decode bb_MO_next 102 = .ok (.ifCond .lt 38, 3) := by decide +kernel
theorem dd_MO_next_105 : decode bb_MO_next 105 = .ok (.lload 8, 2) := by decide +kernel
theorem dd_MO_next_107 : decode bb_MO_next 107 = .ok (.lconst 1, 1) := by decide +kernel
theorem dd_MO_next_108 : decode bb_MO_next 108 = .ok (.iload 12, 2) := by decide +kernel
theorem dd_MO_next_110 : decode bb_MO_next 110 = .ok (.lshl, 1) := by decide +kernel
theorem dd_MO_next_111 : decode bb_MO_next 111 = .ok (.lor, 1) := by decide +kernel
theorem dd_MO_next_112 : decode bb_MO_next 112 = .ok (.lstore 8, 2) := by decide +kernel
theorem dd_MO_next_114 : decode bb_MO_next 114 = .ok (.aload_n 0, 1) := by decide +kernel
theorem dd_MO_next_115 : decode bb_MO_next 115 = .ok (.lload 8, 2) := by decide +kernel
theorem dd_MO_next_117 : decode bb_MO_next 117 = .ok (.lload 10, 2) := by decide +kernel
theorem dd_MO_next_119 : decode bb_MO_next 119 = .ok (.invokevirtual 73, 3) := by decide +kernel
theorem dd_MO_next_122 : decode bb_MO_next 122 = .ok (.ifCond .ne 12, 3) := by decide +kernel
theorem dd_MO_next_125 : decode bb_MO_next 125 = .ok (.lload 10, 2) := by decide +kernel
theorem dd_MO_next_127 : decode bb_MO_next 127 = .ok (.lconst 1, 1) := by decide +kernel
theorem dd_MO_next_128 : decode bb_MO_next 128 = .ok (.iload 12, 2) := by decide +kernel
theorem dd_MO_next_130 : decode bb_MO_next 130 = .ok (.lshl, 1) := by decide +kernel
theorem dd_MO_next_131 : decode bb_MO_next 131 = .ok (.lor, 1) := by decide +kernel
theorem dd_MO_next_132 : decode bb_MO_next 132 = .ok (.lstore 10, 2) := by decide +kernel
theorem dd_MO_next_134 : decode bb_MO_next 134 = .ok (.iinc 12 (-1), 3) := by decide +kernel
theorem dd_MO_next_137 : decode bb_MO_next 137 = .ok (.goto (-37), 3) := by decide +kernel
theorem dd_MO_next_140 : decode bb_MO_next 140 = .ok (.lload 10, 2) := by decide +kernel
theorem dd_MO_next_142 : decode bb_MO_next 142 = .ok (.lreturn, 1) := by decide +kernel
theorem dd_MO_next_143 : decode bb_MO_next 143 = .ok (.iinc 5 1, 3) := by decide +kernel
theorem dd_MO_next_146 : decode bb_MO_next 146 = .ok (.goto (-117), 3) := by decide +kernel
theorem dd_MO_next_149 : decode bb_MO_next 149 = .ok (.aload_n 0, 1) := by decide +kernel
theorem dd_MO_next_150 : decode bb_MO_next 150 = .ok (.iconst 1, 1) := by decide +kernel
theorem dd_MO_next_151 : decode bb_MO_next 151 = .ok (.invokevirtual 39, 3) := by decide +kernel
theorem dd_MO_next_154 : decode bb_MO_next 154 = .ok (.i2l, 1) := by decide +kernel
theorem dd_MO_next_155 : decode bb_MO_next 155 = .ok (.lreturn, 1) := by decide +kernel
theorem dd_MO_some_0 : decode bb_MO_some 0 = .ok (.aload_n 0, 1) := by decide +kernel
theorem dd_MO_some_1 : decode bb_MO_some 1 = .ok (.lload_n 1, 1) := by decide +kernel
theorem dd_MO_some_2 : decode bb_MO_some 2 = .ok (.lload_n 3, 1) := by decide +kernel
theorem dd_MO_some_3 : decode bb_MO_some 3 = .ok (.invokevirtual 69, 3) := by decide +kernel
theorem dd_MO_some_6 : decode bb_MO_some 6 = .ok (.lconst 0, 1) := by decide +kernel
theorem dd_MO_some_7 : decode bb_MO_some 7 = .ok (.lcmp, 1) := by decide +kernel
theorem dd_MO_some_8 : decode bb_MO_some 8 = .ok (.ifCond .ne 31, 3) := by decide +kernel
theorem dd_MO_some_11 : decode bb_MO_some 11 = .ok (.lload_n 1, 1) := by decide +kernel
theorem dd_MO_some_12 : decode bb_MO_some 12 = .ok (.aload_n 0, 1) := by decide +kernel
theorem dd_MO_some_13 : decode bb_MO_some 13 = .ok (.invokevirtual 28, 3) := by decide +kernel
theorem dd_MO_some_16 : decode bb_MO_some 16 = .ok (.land, 1) := by decide +kernel
theorem dd_MO_some_17 : decode bb_MO_some 17 = .ok (.invokestatic 61, 3) := by decide +kernel
theorem dd_MO_some_20 : decode bb_MO_some 20 = .ok (.ifCond .ne 23, 3) := by decide +kernel
theorem dd_MO_some_23 : decode bb_MO_some 23 = .ok (.aload_n 0, 1) := by decide +kernel
theorem dd_MO_some_24 : decode bb_MO_some 24 = .ok (.getfield 16, 3) := by decide +kernel
theorem dd_MO_some_27 : decode bb_MO_some 27 = .ok (.bipush 64, 2) := by decide +kernel
theorem dd_MO_some_29 : decode bb_MO_some 29 = .ok (.if_icmp .ne 14, 3) := by decide +kernel
theorem dd_MO_some_32 : decode bb_MO_some 32 = .ok (.aload_n 0, 1) := by decide +kernel
theorem dd_MO_some_33 : decode bb_MO_some 33 = .ok (.getfield 32, 3) := by decide +kernel
theorem dd_MO_some_36 : decode bb_MO_some 36 = .ok (.ifCond .ne 7, 3) := by decide +kernel
theorem dd_MO_some_39 : decode bb_MO_some 39 = .ok (.iconst 1, 1) := by decide +kernel
theorem dd_MO_some_40 : decode bb_MO_some 40 = .ok (.goto 4, 3) := by decide +kernel
theorem dd_MO_some_43 : decode bb_MO_some 43 = .ok (.iconst 0, 1) := by decide +kernel
theorem dd_MO_some_44 : decode bb_MO_some 44 = .ok (.ireturn, 1) := by decide +kernel
theorem dd_MO_told_0 : decode bb_MO_told 0 = .ok (.aload_n 0, 1) := by decide +kernel
theorem dd_MO_told_1 : decode bb_MO_told 1 = .ok (.iconst 0, 1) := by decide +kernel
theorem dd_MO_told_2 : decode bb_MO_told 2 = .ok (.putfield 23, 3) := by decide +kernel
theorem dd_MO_told_5 : decode bb_MO_told 5 = .ok (.iload_n 2, 1) := by decide +kernel
theorem dd_MO_told_6 : decode bb_MO_told 6 = .ok (.ifCond .lt 8, 3) := by decide +kernel
theorem dd_MO_told_9 : decode bb_MO_told 9 = .ok (.iload_n 2, 1) := by decide +kernel
theorem dd_MO_told_10 : decode bb_MO_told 10 = .ok (.iconst 2, 1) := by decide +kernel
theorem dd_MO_told_11 : decode bb_MO_told 11 = .ok (.if_icmp .le 10, 3) := by decide +kernel
theorem dd_MO_told_14 : decode bb_MO_told 14 = .ok (.aload_n 0, 1) := by decide +kernel
theorem dd_MO_told_15 : decode bb_MO_told 15 = .ok (.iconst 1, 1) := by decide +kernel
theorem dd_MO_told_16 : decode bb_MO_told 16 = .ok (.invokevirtual 39, 3) := by decide +kernel
theorem dd_MO_told_19 : decode bb_MO_told 19 = .ok (.i2l, 1) := by decide +kernel
theorem dd_MO_told_20 : decode bb_MO_told 20 = .ok (.lreturn, 1) := by decide +kernel
theorem dd_MO_told_21 : decode bb_MO_told 21 = .ok (.iload_n 1, 1) := by decide +kernel
theorem dd_MO_told_22 : decode bb_MO_told 22 = .ok (.ifCond .lt 11, 3) := by decide +kernel
theorem dd_MO_told_25 : decode bb_MO_told 25 = .ok (.iload_n 1, 1) := by decide +kernel
theorem dd_MO_told_26 : decode bb_MO_told 26 = .ok (.aload_n 0, 1) := by decide +kernel
theorem dd_MO_told_27 : decode bb_MO_told 27 = .ok (.getfield 32, 3) := by decide +kernel
theorem dd_MO_told_30 : decode bb_MO_told 30 = .ok (.if_icmp .lt 10, 3) := by decide +kernel
theorem dd_MO_told_33 : decode bb_MO_told 33 = .ok (.aload_n 0, 1) := by decide +kernel
theorem dd_MO_told_34 : decode bb_MO_told 34 = .ok (.iconst 2, 1) := by decide +kernel
theorem dd_MO_told_35 : decode bb_MO_told 35 = .ok (.invokevirtual 39, 3) := by decide +kernel
theorem dd_MO_told_38 : decode bb_MO_told 38 = .ok (.i2l, 1) := by decide +kernel
theorem dd_MO_told_39 : decode bb_MO_told 39 = .ok (.lreturn, 1) := by decide +kernel
theorem dd_MO_told_40 : decode bb_MO_told 40 = .ok (.iload_n 2, 1) := by decide +kernel
theorem dd_MO_told_41 : decode bb_MO_told 41 = .ok (.ifCond .ne 12, 3) := by decide +kernel
theorem dd_MO_told_44 : decode bb_MO_told 44 = .ok (.aload_n 0, 1) := by decide +kernel
theorem dd_MO_told_45 : decode bb_MO_told 45 = .ok (.getfield 7, 3) := by decide +kernel
theorem dd_MO_told_48 : decode bb_MO_told 48 = .ok (.iload_n 1, 1) := by decide +kernel
theorem dd_MO_told_49 : decode bb_MO_told 49 = .ok (.laload, 1) := by decide +kernel
theorem dd_MO_told_50 : decode bb_MO_told 50 = .ok (.goto 32, 3) := by decide +kernel
theorem dd_MO_told_53 : decode bb_MO_told 53 = .ok (.iload_n 2, 1) := by decide +kernel
theorem dd_MO_told_54 : decode bb_MO_told 54 = .ok (.iconst 1, 1) := by decide +kernel
theorem dd_MO_told_55 : decode bb_MO_told 55 = .ok (.if_icmp .ne 12, 3) := by decide +kernel
theorem dd_MO_told_58 : decode bb_MO_told 58 = .ok (.aload_n 0, 1) := by decide +kernel
theorem dd_MO_told_59 : decode bb_MO_told 59 = .ok (.getfield 13, 3) := by decide +kernel
theorem dd_MO_told_62 : decode bb_MO_told 62 = .ok (.iload_n 1, 1) := by decide +kernel
theorem dd_MO_told_63 : decode bb_MO_told 63 = .ok (.laload, 1) := by decide +kernel
theorem dd_MO_told_64 : decode bb_MO_told 64 = .ok (.goto 18, 3) := by decide +kernel
theorem dd_MO_told_67 : decode bb_MO_told 67 = .ok (.aload_n 0, 1) := by decide +kernel
theorem dd_MO_told_68 : decode bb_MO_told 68 = .ok (.getfield 16, 3) := by decide +kernel
theorem dd_MO_told_71 : decode bb_MO_told 71 = .ok (.aload_n 0, 1) := by decide +kernel
theorem dd_MO_told_72 : decode bb_MO_told 72 = .ok (.getfield 7, 3) := by decide +kernel
theorem dd_MO_told_75 : decode bb_MO_told 75 = .ok (.iload_n 1, 1) := by decide +kernel
theorem dd_MO_told_76 : decode bb_MO_told 76 = .ok (.laload, 1) := by decide +kernel
theorem dd_MO_told_77 : decode bb_MO_told 77 = .ok (.invokestatic 61, 3) := by decide +kernel
theorem dd_MO_told_80 : decode bb_MO_told 80 = .ok (.isub, 1) := by decide +kernel
theorem dd_MO_told_81 : decode bb_MO_told 81 = .ok (.i2l, 1) := by decide +kernel
theorem dd_MO_told_82 : decode bb_MO_told 82 = .ok (.lreturn, 1) := by decide +kernel
theorem dd_MO_count_0 : decode bb_MO_count 0 = .ok (.aload_n 0, 1) := by decide +kernel
theorem dd_MO_count_1 : decode bb_MO_count 1 = .ok (.iconst 0, 1) := by decide +kernel
theorem dd_MO_count_2 : decode bb_MO_count 2 = .ok (.putfield 23, 3) := by decide +kernel
theorem dd_MO_count_5 : decode bb_MO_count 5 = .ok (.iload_n 1, 1) := by decide +kernel
theorem dd_MO_count_6 : decode bb_MO_count 6 = .ok (.ifCond .ne 10, 3) := by decide +kernel
theorem dd_MO_count_9 : decode bb_MO_count 9 = .ok (.aload_n 0, 1) := by decide +kernel
theorem dd_MO_count_10 : decode bb_MO_count 10 = .ok (.getfield 32, 3) := by decide +kernel
theorem dd_MO_count_13 : decode bb_MO_count 13 = .ok (.goto 40, 3) := by decide +kernel
theorem dd_MO_count_16 : decode bb_MO_count 16 = .ok (.iload_n 1, 1) := by decide +kernel
theorem dd_MO_count_17 : decode bb_MO_count 17 = .ok (.iconst 1, 1) := by decide +kernel
theorem dd_MO_count_18 : decode bb_MO_count 18 = .ok (.if_icmp .ne 10, 3) := by decide +kernel
theorem dd_MO_count_21 : decode bb_MO_count 21 = .ok (.aload_n 0, 1) := by decide +kernel
theorem dd_MO_count_22 : decode bb_MO_count 22 = .ok (.getfield 16, 3) := by decide +kernel
theorem dd_MO_count_25 : decode bb_MO_count 25 = .ok (.goto 28, 3) := by decide +kernel
theorem dd_MO_count_28 : decode bb_MO_count 28 = .ok (.iload_n 1, 1) := by decide +kernel
theorem dd_MO_count_29 : decode bb_MO_count 29 = .ok (.iconst 2, 1) := by decide +kernel
theorem dd_MO_count_30 : decode bb_MO_count 30 = .ok (.if_icmp .ne 10, 3) := by decide +kernel
theorem dd_MO_count_33 : decode bb_MO_count 33 = .ok (.aload_n 0, 1) := by decide +kernel
theorem dd_MO_count_34 : decode bb_MO_count 34 = .ok (.getfield 20, 3) := by decide +kernel
theorem dd_MO_count_37 : decode bb_MO_count 37 = .ok (.goto 16, 3) := by decide +kernel
theorem dd_MO_count_40 : decode bb_MO_count 40 = .ok (.iload_n 1, 1) := by decide +kernel
theorem dd_MO_count_41 : decode bb_MO_count 41 = .ok (.iconst 3, 1) := by decide +kernel
theorem dd_MO_count_42 : decode bb_MO_count 42 = .ok (.if_icmp .ne 10, 3) := by decide +kernel
theorem dd_MO_count_45 : decode bb_MO_count 45 = .ok (.aload_n 0, 1) := by decide +kernel
theorem dd_MO_count_46 : decode bb_MO_count 46 = .ok (.getfield 58, 3) := by decide +kernel
theorem dd_MO_count_49 : decode bb_MO_count 49 = .ok (.goto 4, 3) := by decide +kernel
theorem dd_MO_count_52 : decode bb_MO_count 52 = .ok (.iconst (-1), 1) := by decide +kernel
theorem dd_MO_count_53 : decode bb_MO_count 53 = .ok (.ireturn, 1) := by decide +kernel
end
section
/-! exceptions: what the tables and the statics must say, the throw itself, a callee's throw, a catch -/
def tq_SK (H H1 : Heap) : Prop := ∀ (x : Nat) (cell : Cell), H[x]? = some cell → cell.vm.isStatics = true → H1[x]? = some cell
theorem tq_SK.rf {H : Heap} : tq_SK H H := fun _ _ h _ => h
theorem tq_SK.trans {H H1 H2 : Heap} (a : tq_SK H H1) (b : tq_SK H1 H2) : tq_SK H H2 := fun x cell h hs => b x cell (a x cell h hs) hs
def tq_IAE : String := "java/lang/IllegalArgumentException"
def tq_ISE : String := "java/lang/IllegalStateException"
def tq_NSE : String := "java/util/NoSuchElementException"
/-- the words on exceptions that a contract can't carry among its own -/
def tq_xw : List Cond := [.declares (Bundle.init0 "java/lang/RuntimeException"), .declares (Bundle.init0 "java/lang/Exception"), .declares (Bundle.init0 "java/lang/Throwable"), .castable tq_IAE tq_IAE, .castable tq_ISE tq_ISE, .castable tq_NSE tq_NSE, .superclass "java/lang/Throwable" "java/lang/Object"]
def tq_sw : List (String × String) := [("UNASSIGNED_STACK", "[Ljava/lang/StackTraceElement;"), ("SUPPRESSED_SENTINEL", "Ljava/util/List;")]
def tq_no (U : State) (a b : String) : Prop := ∃ x y : ClassId, U.vm.findClass a = some x ∧ U.vm.findClass b = some y ∧ U.vm.assignable x y = false
def tq_XK (U : State) : Prop := (∀ w ∈ tq_xw, w.before #[] U = true) ∧ (∀ q ∈ tq_sw, (Cond.laysStatic "java/lang/Throwable" q.1 q.2).before #[] U = true ∧ (Cond.isRef (.static "java/lang/Throwable" q.1 q.2)).before #[] U = true) ∧ tq_no U tq_ISE tq_IAE ∧ tq_no U tq_NSE tq_IAE ∧ va_Nw (.methodLinkNest "PatternTree" 9 ⟨"PatternTree$Tree", "<init>", "()V"⟩ "PatternTree") U
theorem tq_no.moved {u U : State} {a b : String} (hvm : u.vm.Alike U.vm) (h : tq_no u a b) : tq_no U a b := by
  obtain ⟨x, y, h1, h2, h3⟩ := h
  exact ⟨x, y, by rw [hvm.findClass]; exact h1, by rw [hvm.findClass]; exact h2, by rw [hvm.assignable]; exact h3⟩
theorem tq_face {w : Cond} (h1 : w.onTables = true) (h2 : w.keepsFace = true) {s U : State} (hW : s.WarmedH U.vm) (h : w.before #[] s = true) : w.before #[] U = true := by
  have h3 : w.before #[] (s.setVm U.vm) = true := Cond.before_shiftedFace (State.Shifted.of_warmed hW) _ h2 h
  exact va_tabs h1 (rfl : (s.setVm U.vm).vm = U.vm) h3
theorem tq_stat {n d : String} {s U : State} (hvm : s.vm.Alike U.vm) (hK : tq_SK s.heap U.heap) (h : (Cond.laysStatic "java/lang/Throwable" n d).before #[] s = true ∧ (Cond.isRef (.static "java/lang/Throwable" n d)).before #[] s = true) :
    (Cond.laysStatic "java/lang/Throwable" n d).before #[] U = true ∧ (Cond.isRef (.static "java/lang/Throwable" n d)).before #[] U = true := by
  obtain ⟨h1, h2⟩ := h
  obtain ⟨c, k, i, f, a, cell, hc, hi, hst, ha, hcell, hs, hcls, hlt, hty⟩ := Cond.laysStatic_spec h1
  obtain ⟨k', hi', he⟩ := State.fieldFound?_setVm hvm hi
  have hi2 : U.fieldFound? "java/lang/Throwable" n d = some (c, k', i, f) := hi'
  have hcell' : U.heap[a]? = some cell := hK a cell hcell hs
  have ha' : k'.statics = some a := by rw [he]; exact ha
  have hty' : k'.staticTypes[f.slot]? = some f.type := by rw [he]; exact hty
  have hc' : U.vm.findClass "java/lang/Throwable" = some c := by rw [hvm.findClass]; exact hc
  obtain ⟨u, hu⟩ := Cond.staticRefV hi hst ha hcell hs h2
  refine ⟨?_, ?_⟩
  · simp [Cond.before, Cond.holds, Cond.value, hc', hi2, ha', hcell', hs, hcls, hlt, hst, hty']
  · have he2 : (Term.static "java/lang/Throwable" n d).eval #[] U none [] U = some u.v := by
      simp [Term.eval, State.fieldNamed?, hi2, hst, ha', hcell', hs, hu]
    obtain ⟨v, hv⟩ := u
    simp only [Cond.before, Cond.holds, Cond.value, he2]
    cases v <;> first | rfl | (simp [Value.isRef] at hv)
theorem tq_XK.moved {s U : State} (hW : s.WarmedH U.vm) (hK : tq_SK s.heap U.heap) (h : tq_XK s) : tq_XK U := by
  obtain ⟨h1, h2, h3, h4, h5⟩ := h
  refine ⟨fun w hw => ?_, fun q hq => tq_stat hW.alike hK (h2 q hq), h3.moved hW.alike, h4.moved hW.alike, h5.warmM hW⟩
  have hb := h1 w hw
  simp only [tq_xw, List.mem_cons, List.not_mem_nil, or_false] at hw
  rcases hw with rfl | rfl | rfl | rfl | rfl | rfl | rfl <;> exact tq_face rfl rfl hW hb
section TQX
variable {p : Program} {l : Launch} {e : Env} {R : Room} {s : State} {m : MethodId} {args : Array Value} {below : List Frame} {meth : Method} {c : Code} {H : Heap} {locs : List Loc} {cells slots : Nat} {Q : State → Prop}
/-- the note 'x is being thrown' lies over the frame g -/
def tq_X (p : Program) (l : Launch) (e : Env) (R : Room) (s : State) (m : MethodId) (args : Array Value) (below : List Frame) (meth : Method) (c : Code) (H : Heap) (locs : List Loc) (cells slots : Nat) (Q : State → Prop) (g : JFrame) (x : Addr) : Prop :=
  ∀ T : State, T.heap = H → Stand p l e R s m args below meth c T locs cells slots → ∃ t, Steps p.tables e below ((T.setTop g).pushFrame (.throwing x)) t ∧ Q t
theorem tq_athrow {T : State} (X : Stand p l e R s m args below meth c T locs cells slots) (hexec : p.tables.exec = Jvm.exec) {g : JFrame} (hg : g.method = m) {a : Addr} {rest : List Value} (hstack : g.stack = .ref a :: rest) (hdg : decode c.code g.pc = .ok (.athrow, 1))
    {target : State} (hs : Steps p.tables e below ((T.setTop { g with stack := rest }).pushFrame (.throwing a)) target) : Steps p.tables e below (T.setTop g) target := by
  subst hg
  jvm_step X.here [hexec, hdg, athrow.wp_sem, hstack]
  exact hs
/-- the constructor chain of a plain exception, and 'athrow' behind it -/
theorem tq_ctor {T : State} (X : Stand p l e R s m args below meth c T locs cells slots) (hexec : p.tables.exec = Jvm.exec) (htr : e.platform.stackTraces = false) {own cls : String} {names : List String} {ic : Nat}
    (hown : s.vm.findClass own = some m.cls) (hcls : Bundle.fit cls = true) (hnames : ∀ n ∈ names, Bundle.fit n = true)
    (h : ∀ a ∈ Bundle.ownAtoms0 own ic cls names, a.before args s = true) (hSK : tq_SK s.heap T.heap)
    {a : Addr} {cX : ClassId} {kX : Class} (hfoundX : s.vm.findClass cls = some cX) (hkX : s.vm.classes[cX]? = some kX) (hcell : T.heap[a]? = some (freshCell cX kX)) (hnew : s.heap.size ≤ a)
    {g : JFrame} (hg : g.method = m) (hsize : g.locals.size = c.maxLocals) {rest : List Value} (hstack : g.stack = .ref a :: .ref a :: rest)
    (hd6 : decode c.code g.pc = .ok (.invokespecial ic, 3)) (hd9 : decode c.code (g.pc + 3) = .ok (.athrow, 1))
    (hRframes : names.length + 3 < R.frames) (hRlocals : 2 * g.monitorRoom + ((Value.ref a :: rest).map fun v => v.category).sum + (13 * (names.length + 1) + 41) ≤ R.locals) :
    ∃ (vm' : Vm) (ce : Cell) (L : List Loc), ce.cls = cX ∧ ce.vm = .none ∧ (∀ q ∈ L, q.base = a) ∧ Stand p l e R s m args below meth c ((T.setVm vm').setCell a ce) (locs ++ L) cells slots ∧
      ∀ target, Steps p.tables e below ((((T.setVm vm').setCell a ce).setTop { g with pc := g.pc + 3, stack := rest }).pushFrame (.throwing a)) target → Steps p.tables e below (T.setTop g) target := by
  have howns : e.platform.frameOwnsMonitors = true := by rw [X.admits.platform]
  have hfin : e.platform.finalization = false := by rw [X.admits.platform]
  have hpl : e.platform.magicAccessors = ({} : Platform).magicAccessors := by rw [X.admits.platform]
  have a' : ∀ x, x ∈ Bundle.ownAtoms0 own ic cls names → x.holds args s none s [] = true := fun x hx => h x hx
  obtain ⟨TC, Z, L, LZ, Y⟩ := ThrowableC.of_atoms (args := args) howns hfin hpl (fun x hx => h x (by simp [Bundle.ownAtoms0, hx]))
  obtain ⟨P1, Ps, hlen, L1, hL, hP1m, hlink1, hlink⟩ := Bundle.chain0 (args := args) hpl Y.init0 names cls hcls hnames (fun x hx => h x (by simp [Bundle.ownAtoms0, hx]))
  have hfound : s.vm.findClass cls = some P1.m.cls := findClass_of_methodNamed hP1m
  cases Option.some.inj (hfoundX.symm.trans hfound)
  obtain ⟨c1, kX', hc1, hk, hord, -, -, hn6⟩ := Cond.instantiable_spec (a' (.instantiable cls 6) (by simp [Bundle.ownAtoms0]))
  cases Option.some.inj (hc1.symm.trans hfound)
  cases Option.some.inj (hkX.symm.trans hk)
  have hsel : ∀ y my, Cond.selects cls y y ∈ Bundle.ownAtoms0 own ic cls names → s.methodNamed? y = some my → (y.cls ≠ "java/lang/invoke/MethodHandle" ∧ y.cls ≠ "java/lang/invoke/VarHandle") → selectMethod e.platform s.vm P1.m.cls my = .method my := by
    intro y my hin hnm hyn
    obtain ⟨c2, r2, m2, q1, q2, q3, q4, -⟩ := Cond.selects_spec (a' _ hin)
    cases Option.some.inj (q1.symm.trans hfound)
    cases Option.some.inj (q2.symm.trans (State.methodFound?_of_named hnm hyn))
    cases Option.some.inj (q3.symm.trans hnm)
    rw [Launch.admits_selectMethod X.admits]; exact q4
  have hsel0 := hsel Bundle.tFill0 TC.fill0 (by simp [Bundle.ownAtoms0]) Y.fill0 (by decide)
  have hselF := hsel Bundle.tFill TC.fill (by simp [Bundle.ownAtoms0]) Y.fill (by decide)
  obtain ⟨cellS, hcS0, hiss⟩ := Y.statics
  obtain ⟨u0, hu0⟩ := Cond.staticRefV Y.unassigned L.unassignedStatic L.statics hcS0 hiss (a' (.isRef (.static Bundle.tN "UNASSIGNED_STACK" Bundle.steD)) (by simp [Bundle.ownAtoms0]))
  obtain ⟨sen, hsen⟩ := Cond.staticRefV Y.sentinel L.sentinelStatic L.statics hcS0 hiss (a' (.isRef (.static Bundle.tN "SUPPRESSED_SENTINEL" Bundle.listD)) (by simp [Bundle.ownAtoms0]))
  obtain ⟨ci198, i198, fB, hk198, hg198, ha198, hsB, -, hnB, htB, hffB⟩ := Cond.ownField (t := .object "java/lang/Object") Y.found L.cls (by decide +kernel) (a' (.fieldLink Bundle.tN 198 Bundle.tN "backtrace" "Ljava/lang/Object;") (by simp [Bundle.ownAtoms0])) (a' (.lays Bundle.tN Bundle.tN "backtrace" "Ljava/lang/Object;") (by simp [Bundle.ownAtoms0])) e.platform hpl
  have hcellS : T.heap[TC.aS]? = some cellS := hSK _ _ hcS0 hiss
  have hknownS : cellS.vm ≠ .unknown := fun hu => by rw [hu] at hiss; cases hiss
  have hneS : TC.aS ≠ a := Nat.ne_of_lt (Nat.lt_of_lt_of_le (Array.getElem?_eq_some_iff.mp hcS0).1 hnew)
  obtain ⟨tyC, dC, hdC, hdnC⟩ := Cond.laysAt hfound hk Y.cause (a' (.lays cls Bundle.tN "cause" "Ljava/lang/Throwable;") (by simp [Bundle.ownAtoms0]))
  obtain ⟨tyS, dS, hdS, hdnS⟩ := Cond.laysAt hfound hk Y.stack (a' (.lays cls Bundle.tN "stackTrace" Bundle.steD) (by simp [Bundle.ownAtoms0]))
  obtain ⟨tyP, dP, hdP, hdnP⟩ := Cond.laysAt hfound hk Y.supp (a' (.lays cls Bundle.tN "suppressedExceptions" Bundle.listD) (by simp [Bundle.ownAtoms0]))
  obtain ⟨tyB, dB, hdB, hdnB⟩ := Cond.laysAt hfound hk hffB (a' (.lays cls Bundle.tN "backtrace" "Ljava/lang/Object;") (by simp [Bundle.ownAtoms0]))
  have bC := Cond.laysApart hdB hdC hdnB hdnC (by rw [hnB, Y.causeName]; decide)
  have bS := Cond.laysApart hdB hdS hdnB hdnS (by rw [hnB, Y.stackName]; decide)
  have bP := Cond.laysApart hdB hdP hdnB hdnP (by rw [hnB, Y.suppName]; decide)
  have hskip : SkipFacts TC e.platform s (fun u => u) u0 ((preparedCellV TC.toThrowableT (freshCell P1.m.cls kX) a u0 sen).withEntry T.cur) :=
    ⟨{ ci198 := ci198, i198 := i198, fBack := fB }, ⟨hk198, hg198, ha198, hsB⟩, by
      have := fresh_default (c := P1.m.cls) tyB
      rw [htB] at this
      simpa [preparedCellV, Cell.setSlot, Cell.withEntry, Array.getElem?_setIfInBounds, bC, bS, bP, bC.symm, bS.symm, bP.symm, defaultValue] using this, fun _ _ => rfl⟩
  obtain ⟨tm, methC, cdC, kC, vm₁, hnC, -, -, -, -, -, -, -, hW₁, st1⟩ := Steps.initCold (tb := p.tables) (e := e) (below := below) (s := s) (U := T) X.here hexec X.warmed hpl hown (t := Bundle.init0 cls) rfl rfl (Bundle.fit_spec hcls).2
    (a' (.methodLink own ic (Bundle.init0 cls)) (by simp [Bundle.ownAtoms0])) (h (.instanceMethod (Bundle.init0 cls)) (by cases names <;> simp [Bundle.ownAtoms0, Bundle.chain0Atoms, Bundle.passAtoms])) (bytes := Bundle.five) (maxL := 1) (h (.code (Bundle.init0 cls) Bundle.five 1 none) (by cases names <;> simp [Bundle.ownAtoms0, Bundle.chain0Atoms, Bundle.passAtoms]))
    (f := g) hg (a := a) (rest := .ref a :: rest) hstack hd6
  cases Option.some.inj (hnC.symm.trans hP1m)
  have X₁ := X.noted hW₁
  obtain ⟨vm₂, X₂, st2⟩ := X₁.ctorPlainOffV hexec (g := { g with stack := .ref a :: rest }) hg hsize TC L Z LZ (P1 :: Ps)
    (fun P hP => by rcases List.mem_cons.mp hP with rfl | hP; exact L1; exact hL P hP) ⟨hlink1, hlink⟩ (u0 := u0) (sen := sen) (self := a) (cell := freshCell P1.m.cls kX) (cellS := cellS)
    hcell (fun _ => by simp) (by simp) rfl rfl hsel0 hselF hcellS hneS hknownS hu0 hsen
    (Takes.of_laid hk hord tyC (by rw [Y.causeType]; rfl)) (Takes.of_laid hk hord tyS (by rw [Y.stackType]; exact fits_refV_array _ u0)) (Takes.of_laid hk hord tyP (by rw [Y.suppType]; exact fits_refV_object _ sen)) Y.objLocals hskip htr [] hd6
    (by simp only [List.length_cons, hlen]; omega) (by simp only [List.length_cons, hlen]; exact hRlocals)
  rw [State.setVm_twice] at X₂ st2
  refine ⟨vm₂, _, _, rfl, rfl, ?_, X₂, fun target hs => ?_⟩
  · intro q hq
    simp only [List.mem_cons, List.not_mem_nil, or_false] at hq
    rcases hq with rfl | rfl | rfl | rfl <;> rfl
  · refine st1 _ (fun acts => ?_)
    rw [doInvoke_state]
    refine st2 _ ?_
    exact tq_athrow X₂ hexec (g := { g with stack := .ref a :: rest, pc := g.pc + 3 }) hg rfl hd9 hs
/-- 'throw new C()' of a plain exception -/
theorem tq_throw {cc : ByteArray} {pc : Nat} {ls : Array Slot} {rest : List Value} {own cls : String} {names : List String} {ix ic : Nat}
    (hfl : l.flags = pinnedFlags ++ [noTraceFlag]) (hexec : p.tables.exec = Jvm.exec) (hb : c.code = cc) (hml : ls.size = c.maxLocals) (hown : s.vm.findClass own = some m.cls)
    (hcls : Bundle.fit cls = true) (hnames : ∀ n ∈ names, Bundle.fit n = true)
    (hw : ∀ a ∈ Bundle.ownAtoms0 own ic cls names, a.before args s = true)
    (hcl : (Cond.classLink own ix cls).before args s = true) (hini : (Cond.initialized cls).before args s = true)
    (hSK : tq_SK s.heap H) (hsz : s.heap.size ≤ H.size)
    (d0 : decode cc pc = .ok (.new ix, 3)) (d3 : decode cc (pc + 3) = .ok (.dup, 1)) (d4 : decode cc (pc + 4) = .ok (.invokespecial ic, 3)) (d7 : decode cc (pc + 7) = .ok (.athrow, 1))
    (hc : cells + 1 ≤ R.cells) (hs : slots + 6 ≤ R.slots) (hRf : names.length + 3 < R.frames) (hRl : (rest.map fun v => v.category).sum + (13 * (names.length + 1) + 42) ≤ R.locals)
    (kk : ∀ (cX : ClassId) (ce : Cell) (H1 : Heap) (L : List Loc), s.vm.findClass cls = some cX → ce.cls = cX → ce.vm = .none → H1[H.size]? = some ce → H1.size = H.size + 1 → (∀ q, q < H.size → H1[q]? = H[q]?) → (∀ q ∈ L, q.base = H.size) →
      tq_X p l e R s m args below meth c H1 (locs ++ L) (cells + 1) (slots + 6) Q (F0 m (pc + 7) ls rest) H.size) :
    W p l e R s m args below meth c H locs cells slots Q (F0 m pc ls rest) := by
  refine W.newc hexec hb hown hcl (hw (.instantiable cls 6) (by simp [Bundle.ownAtoms0])) hini rfl d0 hc hs fun cX kX hfX hkX hord hn6 => ?_
  refine lv_dup (pc := pc + 3) hexec hb d3 rfl ?_
  intro T hT X
  have htr : e.platform.stackTraces = false := Launch.traces_off hfl X.admits
  have hsz1 : (H.push (freshCell cX kX)).size = H.size + 1 := by simp
  obtain ⟨vm', ce, L, e1, e2, hL, X', st⟩ := tq_ctor X hexec htr hown hcls hnames hw (T := T) (hSK.trans (fun x cell hx _ => by
      rw [hT]
      have hlt : x < H.size := (Array.getElem?_eq_some_iff.mp hx).1
      rw [Array.getElem?_push, if_neg (Nat.ne_of_lt hlt)]; exact hx)) hfX hkX (a := H.size) (by rw [hT]; simp) hsz
    (g := F0 m (pc + 3 + 1) ls (.ref H.size :: .ref H.size :: rest)) rfl hml (rest := rest) rfl (by rw [hb]; exact d4) (by rw [hb]; exact d7) hRf
    (by show 2 * 0 + _ + _ ≤ _; rw [List.map_cons, List.sum_cons, show (Value.ref H.size).category = 1 from rfl]; omega)
  have hTs : T.heap.size = H.size + 1 := by rw [hT]; exact hsz1
  obtain ⟨t, a1, b1⟩ := kk cX ce ((T.setVm vm').setCell H.size ce).heap L hfX e1 e2
    (heapAt_setCell_self (s := T.setVm vm') ce (by show H.size < T.heap.size; omega))
    ((size_setCell (T.setVm vm') H.size ce).trans hTs)
    (fun q hq => by
      rw [heapAt_setCell_ne _ (Nat.ne_of_gt hq)]
      show T.heap[q]? = _
      rw [hT, Array.getElem?_push, if_neg (Nat.ne_of_lt hq)]) hL _ rfl X'
  exact ⟨t, st t a1, b1⟩
end TQX
end
section
/-! contracts whose method may throw: tq_Met, and the calls by them -/
def tq_hd (y : MethodName) (b : ByteArray) (n : Nat) (ret : Option FieldType) : List (Nat × Nat × Nat × Nat) → Cond
  | [] => .code y b n ret
  | q :: r => .codeWith y b n ret (q :: r)
theorem tq_hd_spec {y : MethodName} {b : ByteArray} {n : Nat} {ret : Option FieldType} {hh : List (Nat × Nat × Nat × Nat)} {args : Array Value} {s : State} (h : (tq_hd y b n ret hh).before args s = true) :
    ∃ m meth c, s.methodNamed? y = some m ∧ s.vm.method? m = some meth ∧ meth.code = some c ∧ c.code = b ∧ c.maxLocals = n ∧
      c.exceptionTable.toList.map (fun h => (h.startPc, h.endPc, h.handlerPc, h.catchType)) = hh ∧ meth.sig.returnType = ret ∧ meth.locks = false ∧ parseMethodDescriptor y.desc = some meth.sig := by
  cases hh with
  | nil =>
    obtain ⟨m, hn⟩ := Cond.code_named h
    obtain ⟨meth, c, h1, h2, h3, h4, h5, h6, h7, h8⟩ := Cond.code_spec hn h
    refine ⟨m, meth, c, hn, h1, h2, h3, h4, ?_, h5, h6, h8⟩
    have h0 : c.exceptionTable.size = 0 := by simpa [Array.isEmpty] using h7
    have h9 : c.exceptionTable.toList = [] := List.eq_nil_of_length_eq_zero (by simpa using h0)
    rw [h9]; rfl
  | cons q r => exact Cond.codeWith_spec h
def tq_Fr (first t : State) (L : List Loc) (k n : Nat) : Prop := first.WarmedH t.vm ∧ first.sameButNew ({ t with vm := first.vm } : State) L k n
def tq_Met (l : Launch) (y : MethodName) (ws : List Cond) (rm : Room) (Pc : Array Value → State → Prop) (Qc : Array Value → State → Outcome → State → Prop) (mc ms : Nat) (free : Addr → Prop) : Prop :=
  MetFree l y (headSpec ws rm) Pc (fun _ _ _ _ _ => True) (fun a st o t => Qc a st o t ∧ ∃ L, tq_Fr st t L mc ms ∧ ∀ q ∈ L, free q.base)
def tq_MQ (below : List Frame) (Qc : Array Value → State → Outcome → State → Prop) (a : Array Value) (s : State) (mc ms : Nat) (free : Addr → Prop) : State → Prop := fun t =>
  ∃ o, t.status = .running ∧ Ended t below o ∧ Qc a s o t ∧ ∃ L, tq_Fr s t L mc ms ∧ ∀ q ∈ L, free q.base
theorem tq_MQ.of {below : List Frame} {Qc : Array Value → State → Outcome → State → Prop} {a : Array Value} {s : State} {mc ms : Nat} {free : Addr → Prop} {t : State} (h : MQ below Qc a s mc ms free t) : tq_MQ below Qc a s mc ms free t := by
  obtain ⟨o, h1, h2, h3, L, h4, h5⟩ := h
  exact ⟨o, h1, h2, h3, L, h4.2, h5⟩
section TQM
variable {p : Program} {l : Launch} {e : Env} {R : Room} {s : State} {m : MethodId} {args : Array Value} {below : List Frame} {meth : Method} {c : Code} {H : Heap} {locs : List Loc} {cells slots : Nat} {Q : State → Prop}
theorem tq_mono {Q' : State → Prop} {g : JFrame} (h : ∀ t, Q t → Q' t) (k : W p l e R s m args below meth c H locs cells slots Q g) : W p l e R s m args below meth c H locs cells slots Q' g := by
  intro T hT X
  obtain ⟨t, a, b⟩ := k T hT X
  exact ⟨t, a, h t b⟩
theorem tq_Met.ofW {y : MethodName} {ws ws' : List Cond} {rm : Room} {Pc : Array Value → State → Prop} {Qc : Array Value → State → Outcome → State → Prop} {mc ms : Nat} {free : Addr → Prop} {cc : ByteArray} {maxL : Nat} {ret : Option FieldType} {hh : List (Nat × Nat × Nat × Nat)}
    (hy : plainName y.cls = true) (hw : ws = tq_hd y cc maxL ret hh :: ws')
    (body : ∀ p e s m args below meth c s₁, BodyLoose p l y (headSpec ws rm) cc maxL ret e s m args below meth c s₁ → c.maxLocals = maxL → c.exceptionTable.toList.map (fun h => (h.startPc, h.endPc, h.handlerPc, h.catchType)) = hh → Pc args s →
      W p l e (headSpec ws rm).room s m args below meth c s.heap [] 0 0 (tq_MQ below Qc args s mc ms free) (entryFrame m args maxL)) : tq_Met l y ws rm Pc Qc mc ms free := by
  refine MetFree.of_bodyS (code := cc) (maxLocals := maxL) (ret := ret) hy ?_ ?_
  · intro args s m h hn
    obtain ⟨m9, meth, c, hn9, h1, h2, h3, h4, -, h5, h6, -⟩ := tq_hd_spec (atoms_spec (ws := ws) h _ (by rw [hw]; exact List.mem_cons_self))
    cases hn.symm.trans hn9
    exact ⟨meth, c, h1, h2, h3, h4, h5, h6⟩
  · intro p e s m args below meth c s₁ B hml hP _
    have hh0 : s₁.heap = s.heap := by rw [B.state]; rfl
    have ht : c.exceptionTable.toList.map (fun h => (h.startPc, h.endPc, h.handlerPc, h.catchType)) = hh := by
      obtain ⟨m9, meth9, c9, hn9, h1, h2, -, -, h5, -⟩ := tq_hd_spec (atoms_spec (ws := ws) B.pre _ (by rw [hw]; exact List.mem_cons_self))
      cases B.named.symm.trans hn9
      cases B.method.symm.trans h1
      cases (Stand.of_body B).code.symm.trans h2
      exact h5
    obtain ⟨t, a1, o, b1, b2, b3⟩ := body p e s m args below meth c s₁ B hml ht hP s₁ hh0 (Stand.of_body B)
    exact ⟨t, o, a1, b1, b2, ⟨b3.1, b3.2⟩⟩
theorem tq_run {T : State} (X : Stand p l e R s m args below meth c T locs cells slots) {y : MethodName} {ws : List Cond} {rm : Room} {Pc : Array Value → State → Prop} {Qc : Array Value → State → Outcome → State → Prop} {mc ms : Nat} {free : Addr → Prop} {bytes : ByteArray} {maxL : Nat} {ret : Option FieldType} {hh : List (Nat × Nat × Nat × Nat)}
    (hM : tq_Met l y ws rm Pc Qc mc ms free) (hws : ∀ w ∈ ws, ∀ a', w.before a' T = true) (hhd : tq_hd y bytes maxL ret hh ∈ ws) (hini : ∀ a', (Cond.initialized y.cls).before a' T = true)
    (hrc : rm.cells = mc) (hrs : rm.slots = ms) (hframes : rm.frames + 1 ≤ R.frames) {g : JFrame} (hg : g.method = m) (hsize : g.locals.size = c.maxLocals)
    (hlocals : 2 * g.monitorRoom + (g.stack.map fun v => v.category).sum + (maxL + 11) + rm.locals ≤ R.locals) (hcells : cells + mc ≤ R.cells) (hslots : slots + ms ≤ R.slots)
    {ig : Instr} {len : Nat} (hdg : decode c.code g.pc = .ok (ig, len)) {mk : MethodId} (hn : T.methodNamed? y = some mk) {a : Array Value} (hP : Pc a (T.calling g mk a)) :
    ∃ (o : Outcome) (t T' : State) (L : List Loc), Steps p.tables e below (doInvoke e (T.setTop g) [] mk a).1 t ∧ Stand p l e R s m args below meth c T' (locs ++ L) (cells + mc) (slots + ms) ∧ (∀ q ∈ L, free q.base) ∧ Qc a (T.calling g mk a) o t ∧ T'.heap = t.heap ∧ T'.vm = t.vm ∧
      ((∃ v, o = .returned v ∧ t = T'.setTop { g with pc := g.pc + len, stack := v.toList ++ g.stack }) ∨ (∃ x, o = .threw x ∧ t = (T'.setTop g).pushFrame (.throwing x))) := by
  obtain ⟨m9, methY, cY, hn9, hmY, hcY, -, hlY, -⟩ := tq_hd_spec (hws _ hhd a)
  cases hn.symm.trans hn9
  obtain ⟨kY, hkY, -⟩ := className_of_methodNamed hn
  have hinitY : kY.init = .initialized := Cond.initialized_spec (findClass_of_methodNamed hn) hkY (hini a)
  have h : At T g.method c below := by rw [hg]; exact X.here
  have happ : (headSpec ws rm).appliesLoose y e.platform (T.calling g mk a) = true :=
    Spec.appliesLoose_calling (g := g) h hdg hn hkY hinitY
      (X.room_calling (g := g) (R' := (headSpec ws rm).room) hsize hmY hcY hframes (by rw [hlY]; exact hlocals) (by rw [show (headSpec ws rm).room.cells = mc from hrc]; exact hcells) (by rw [show (headSpec ws rm).room.slots = ms from hrs]; exact hslots)) (atoms_intro fun w hw => hws w hw _)
  obtain ⟨mid, hmid⟩ := h.above
  have hfr : (T.setTop g).frames = (.java g :: mid) ++ below := by rw [State.frames_setTop' g h.top, hmid]; rfl
  obtain ⟨o, t, hsteps, -, hend, hq, L, ⟨hW2, hsame⟩, hL⟩ := Steps.callFree hM p X.admits X.cas X.clock (acts := []) hfr happ hP trivial
  rw [State.frames_setTop' g h.top, X.tail] at hend
  cases o with
  | returned v =>
    obtain ⟨T', X', -, -, ht⟩ := X.outOf hg hdg hend hW2 hsame
    exact ⟨_, t, T', L, hsteps, X', hL, hq, by rw [ht]; simp [State.setTop, State.modifyTopJava], by rw [ht]; simp [State.setTop, State.modifyTopJava], Or.inl ⟨v, rfl, ht⟩⟩
  | threw x =>
    obtain ⟨T', X', -, -, ht⟩ := X.outOfThrown hg hend hW2 hsame
    exact ⟨_, t, T', L, hsteps, X', hL, hq, by rw [ht]; exact (Stand.throwing_heap T' g x).symm, by rw [ht]; exact (Stand.throwing_vm T' g x).symm, Or.inr ⟨x, rfl, ht⟩⟩
/-- nothing here catches: the method throws -/
theorem tq_leave {Qc : Array Value → State → Outcome → State → Prop} {free : Addr → Prop} {g : JFrame} {x : Addr} (hg : g.method = m) (hlk : g.locked = none) (hen : g.entered = []) (hlocks : meth.locks = false) (hout : ∀ y ∈ c.exceptionTable.toList, covers y g.pc = false)
    (hq : ∀ t : State, t.heap = H → s.WarmedH t.vm → Qc args s (.threw x) t) (hf : ∀ q ∈ locs, free q.base) {mc ms : Nat} (hc : cells ≤ mc) (hs : slots ≤ ms) : tq_X p l e R s m args below meth c H locs cells slots (tq_MQ below Qc args s mc ms free) g x := by
  intro T hT X
  obtain ⟨h1, h2, h3, h4, h5⟩ := (stand_widen X hc hs).leaveThrown x hg hlk hen hout hlocks
  exact ⟨_, h1, _, h2, h3, hq _ hT h4, locs, ⟨h4, h5⟩, hf⟩
end TQM
end
section
/-! a handler whose catch type may be cold -/
section TQG
variable {E : CtlPost} {e : Env} {d : Bool} {acts : List Action} {S : State} {f : JFrame} {a : Addr} {Q : Handler → Pre}
theorem tq_go {x : ExceptionTableEntry} {t : List ExceptionTableEntry} {cT : ClassId} {cell : Cell} (hx : covers x f.pc = true) (h0 : x.catchType ≠ 0)
    (hl : S.vm.ClassLinks e.platform f.method.cls x.catchType cT) (hcell : S.heap[a]? = some cell) (hobj : ∀ k, cell.vm ≠ .statics k) (hk : ∃ k, S.vm.classes[cell.cls]? = some k) :
    wp (findHandler.go f a (x :: t)) Q E e d acts S ↔ if S.vm.assignable cell.cls cT = true then Q (.found x.handlerPc) d acts (S.setVm (S.vm.noted f.method.cls x.catchType (.cls cT))) else wp (findHandler.go f a t) Q E e d acts (S.setVm (S.vm.noted f.method.cls x.catchType (.cls cT))) := by
  simp only [covers] at hx
  obtain ⟨dk, _, _, kt, hd, _, _, _, _, hkt, _, hopen⟩ := hl.here
  obtain ⟨ha, ht⟩ := (resolveClass_links e.toSetting hl).op (op := VmOp.resolveClass f.method.cls x.catchType) rfl
  have hal : S.vm.Alike (S.vm.noted f.method.cls x.catchType (.cls cT)) := (Vm.Alike.refl S.vm).noted _ _ _
  obtain ⟨k1, hk1⟩ := hk
  obtain ⟨k1', hk1', -⟩ := hal.2.2 _ _ hk1
  obtain ⟨k2', hk2', -⟩ := hal.2.2 _ _ hkt
  rw [← hal.assignable]
  cases hfit : (S.vm.noted f.method.cls x.catchType (.cls cT)).assignable cell.cls cT <;>
    simp [findHandler.go, hx, h0, ha, ht, hcell, hobj, hk1', hk2', hfit, VmOp.dirties, VmOp.acts]
theorem tq_stepCatch {r : List Frame} {pc : Nat} {vm' : Vm} (hfind : ∀ (Q : Handler → Pre) (E : CtlPost) (d : Bool) (acts : List Action), wp (findHandler f a) Q E e d acts S ↔ Q (.found pc) d acts (S.setVm vm')) :
    (stepThrowing e S a (.java f :: r)).Is ((S.setVm vm').setFrames (.java { f with pc := pc, stack := [.ref a] } :: r)) [] := by
  simp only [stepThrowing, searchFrame, vmDo]
  generalize hr : Sem.go _ e false [] S = res
  obtain ⟨as, rfl, ha⟩ := Sem.eq_ok_of hr (a := Handler.found pc) (s' := S.setVm vm') (acts' := []) (by simp [hfind _ _ _ _])
  exact ⟨rfl, ha⟩
end TQG
def tq_xf (C : String) (x : Addr) (s : State) (H : Heap) : Prop := ∃ cell : Cell, H[x]? = some cell ∧ cell.vm.isStatics = false ∧ s.vm.findClass C = some cell.cls
section TQC
variable {p : Program} {l : Launch} {e : Env} {R : Room} {s : State} {m : MethodId} {args : Array Value} {below : List Frame} {meth : Method} {c : Code} {H : Heap} {locs : List Loc} {cells slots : Nat} {Q : State → Prop}
theorem tq_caught {g : JFrame} {x : Addr} {pc : Nat} (hg : g.method = m)
    (hfind : ∀ S : State, S.heap = H → s.WarmedH S.vm → S.vm.method? g.method = some meth → ∃ vm', s.WarmedH vm' ∧ ∀ (Q : Handler → Pre) (E : CtlPost) (d : Bool) (acts : List Action), wp (findHandler g x) Q E e d acts S ↔ Q (.found pc) d acts (S.setVm vm'))
    (kk : W p l e R s m args below meth c H locs cells slots Q { g with pc := pc, stack := [.ref x] }) : tq_X p l e R s m args below meth c H locs cells slots Q g x := by
  intro T hT X
  have h : At T g.method c below := by rw [hg]; exact X.here
  obtain ⟨vm', hW', hf⟩ := hfind ((T.setTop g).pushFrame (.throwing x)) ((Stand.throwing_heap T g x).trans hT) (by rw [Stand.throwing_vm]; exact X.warmed) (by rw [Stand.throwing_vm, hg]; exact X.method')
  obtain ⟨t, a1, b1⟩ := kk (T.setVm vm') hT (X.noted hW')
  refine ⟨t, ?_, b1⟩
  obtain ⟨hgo, hw⟩ := h.throwing x
  refine Steps.head hgo hw ?_
  rw [stepThread_throwing (frames_entered h.top _), (tq_stepCatch hf).1]
  obtain ⟨g₀, hg0⟩ := Option.isSome_iff_exists.mp h.top
  obtain ⟨r, hr⟩ := State.topJava?_eq_some.mp hg0
  have hr' : (T.setVm vm').frames = .java g₀ :: r := hr
  rw [State.setTop_of_frames _ hr'] at a1
  have e1 : ∀ (F G : List Frame), ((T.setFrames F).setVm vm').setFrames G = (T.setVm vm').setFrames G := fun F G => by
    have h1 : (T.setFrames F).setVm vm' = (T.setVm vm').setFrames F := rfl
    rw [h1, State.setFrames_setFrames]
  rw [hr, List.tail_cons, State.setTop_of_frames _ hr, State.pushFrame, State.setFrames_setFrames, e1]
  exact a1
/-- the first row of the table takes it -/
theorem tq_catch1 {g : JFrame} {x : Addr} {own C : String} {sp ep hp ct : Nat} {hh : List (Nat × Nat × Nat × Nat)} (hcode : meth.code = some c) (hpl : e.platform.magicAccessors = ({} : Platform).magicAccessors) (hg : g.method = m) (hown : s.vm.findClass own = some m.cls)
    (htab : c.exceptionTable.toList.map (fun h => (h.startPc, h.endPc, h.handlerPc, h.catchType)) = (sp, ep, hp, ct) :: hh) (hcov : sp ≤ g.pc ∧ g.pc < ep) (h0 : ct ≠ 0)
    (hlink : (Cond.classLink own ct C).before args s = true) (hcast : (Cond.castable C C).before args s = true) (hx : tq_xf C x s H)
    (kk : W p l e R s m args below meth c H locs cells slots Q { g with pc := hp, stack := [.ref x] }) : tq_X p l e R s m args below meth c H locs cells slots Q g x := by
  obtain ⟨cell, h1, h2, h3⟩ := hx
  obtain ⟨cT, hcT, hcl⟩ := Cond.classLink_spec hown hlink e.platform hpl
  cases h3.symm.trans hcT
  obtain ⟨c3, c4, q1, q2, hasg⟩ := Cond.castable_spec hcast
  cases h3.symm.trans q1
  cases h3.symm.trans q2
  obtain ⟨dk, _, _, kt, hd, _, _, _, _, hkt, _, hopen⟩ := hcl.here
  rcases htl : c.exceptionTable.toList with _ | ⟨y, ys⟩
  · rw [htl] at htab; cases htab
  rw [htl, List.map_cons] at htab
  injection htab with hy hys
  injection hy with y1 hy
  injection hy with y2 hy
  injection hy with y3 y4
  subst hg
  refine tq_caught (pc := hp) rfl (fun S hS hW hm => ?_) kk
  obtain ⟨k', hk', -⟩ := hW.alike.2.2 _ _ hkt
  refine ⟨S.vm.noted g.method.cls y.catchType (.cls cell.cls), hW.noted hd (by rw [y4]; exact hopen) (by rw [y4]; exact State.rightAt_cls hcl), fun Q E d acts => ?_⟩
  rw [W.findHandler_eq hm hcode, htl, tq_go (cell := cell) (cT := cell.cls) (by simp [covers, y1, y2, hcov.1, hcov.2]) (by rw [y4]; exact h0) (by rw [y4]; exact hW.classLinks hcl) (by rw [hS]; exact h1) (VmData.ne_statics_of h2) ⟨k', hk'⟩, if_pos (by rw [hW.alike.assignable]; exact hasg), y3]
/-- the first row passes it, the second takes it -/
theorem tq_catch2 {g : JFrame} {x : Addr} {own C N : String} {sp ep hp ct sp2 ep2 hp2 ct2 : Nat} {hh : List (Nat × Nat × Nat × Nat)} (hcode : meth.code = some c) (hpl : e.platform.magicAccessors = ({} : Platform).magicAccessors) (hg : g.method = m) (hown : s.vm.findClass own = some m.cls)
    (htab : c.exceptionTable.toList.map (fun h => (h.startPc, h.endPc, h.handlerPc, h.catchType)) = (sp, ep, hp, ct) :: (sp2, ep2, hp2, ct2) :: hh) (hcov : sp ≤ g.pc ∧ g.pc < ep) (h0 : ct ≠ 0) (hcov2 : sp2 ≤ g.pc ∧ g.pc < ep2) (h02 : ct2 ≠ 0)
    (hlink1 : (Cond.classLink own ct N).before args s = true) (hno : tq_no s C N) (hlink : (Cond.classLink own ct2 C).before args s = true) (hcast : (Cond.castable C C).before args s = true) (hx : tq_xf C x s H)
    (kk : W p l e R s m args below meth c H locs cells slots Q { g with pc := hp2, stack := [.ref x] }) : tq_X p l e R s m args below meth c H locs cells slots Q g x := by
  obtain ⟨cell, h1, h2, h3⟩ := hx
  obtain ⟨cT, hcT, hcl⟩ := Cond.classLink_spec hown hlink e.platform hpl
  obtain ⟨cN, hcN, hclN⟩ := Cond.classLink_spec hown hlink1 e.platform hpl
  cases h3.symm.trans hcT
  obtain ⟨c3, c4, q1, q2, hasg⟩ := Cond.castable_spec hcast
  cases h3.symm.trans q1
  cases h3.symm.trans q2
  obtain ⟨z1, z2, n1, n2, n3⟩ := hno
  cases h3.symm.trans n1
  cases hcN.symm.trans n2
  obtain ⟨dk, _, _, kt, hd, _, _, _, _, hkt, _, hopen⟩ := hcl.here
  obtain ⟨dkN, _, _, ktN, hdN, _, _, _, _, hktN, _, hopenN⟩ := hclN.here
  rcases htl : c.exceptionTable.toList with _ | ⟨y, ys⟩
  · rw [htl] at htab; cases htab
  rw [htl, List.map_cons] at htab
  injection htab with hy hys
  injection hy with y1 hy
  injection hy with y2 hy
  injection hy with y3 y4
  rcases ys with _ | ⟨w, ws⟩
  · cases hys
  rw [List.map_cons] at hys
  injection hys with hw hws
  injection hw with w1 hw
  injection hw with w2 hw
  injection hw with w3 w4
  subst hg
  refine tq_caught (pc := hp2) rfl (fun S hS hW hm => ?_) kk
  obtain ⟨k', hk', -⟩ := hW.alike.2.2 _ _ hkt
  have hW1 : s.WarmedH (S.vm.noted g.method.cls y.catchType (.cls cN)) := hW.noted hdN (by rw [y4]; exact hopenN) (by rw [y4]; exact State.rightAt_cls hclN)
  obtain ⟨k2, hk2, -⟩ := hW1.alike.2.2 _ _ hkt
  refine ⟨(S.vm.noted g.method.cls y.catchType (.cls cN)).noted g.method.cls w.catchType (.cls cell.cls), hW1.noted hd (by rw [w4]; exact hopen) (by rw [w4]; exact State.rightAt_cls hcl), fun Q E d acts => ?_⟩
  rw [W.findHandler_eq hm hcode, htl, tq_go (cell := cell) (cT := cN) (by simp [covers, y1, y2, hcov.1, hcov.2]) (by rw [y4]; exact h0) (by rw [y4]; exact hW.classLinks hclN) (by rw [hS]; exact h1) (VmData.ne_statics_of h2) ⟨k', hk'⟩, if_neg (by rw [hW.alike.assignable, n3]; decide),
    tq_go (S := S.setVm (S.vm.noted g.method.cls y.catchType (.cls cN))) (cell := cell) (cT := cell.cls) (by simp [covers, w1, w2, hcov2.1, hcov2.2]) (by rw [w4]; exact h02) (by rw [w4]; exact hW1.classLinks hcl) (by show S.heap[x]? = _; rw [hS]; exact h1) (VmData.ne_statics_of h2) ⟨k2, hk2⟩, if_pos (by show (S.vm.noted g.method.cls y.catchType (.cls cN)).assignable _ _ = true; rw [hW1.alike.assignable]; exact hasg), w3]
  rfl
end TQC
end
section
/-! the classes, the worlds, the contracts -/
abbrev R_PT : String := "PatternTree"
abbrev R_TR : String := "PatternTree$Tree"
abbrev R_MO : String := "PatternTreeModel"
def F_PT : u_T := fun k => match k with
  | 0 => ("PatternTree", "tree", "LPatternTree$Tree;", true)
  | 1 => ("PatternTree", "grown", "Z", false)
  | _ => ("PatternTree", "clash", "I", false)
def t_PT : Nat → FieldType := fun k => match k with
  | 0 => .object "PatternTree$Tree"
  | 1 => .boolean
  | _ => .int
def F_TR : u_T := fun k => match k with
  | 0 => ("PatternTree$Tree", "length", "I", false)
  | 1 => ("PatternTree$Tree", "ops", "I", false)
  | 2 => ("PatternTree$Tree", "care", "[J", true)
  | 3 => ("PatternTree$Tree", "want", "[J", true)
  | 4 => ("PatternTree$Tree", "bit", "[I", true)
  | 5 => ("PatternTree$Tree", "left", "[I", true)
  | 6 => ("PatternTree$Tree", "right", "[I", true)
  | 7 => ("PatternTree$Tree", "nodes", "I", false)
  | 8 => ("PatternTree$Tree", "listed", "[I", true)
  | 9 => ("PatternTree$Tree", "listedMany", "I", false)
  | _ => ("PatternTree$Tree", "pile", "[I", true)
def t_TR : Nat → FieldType := fun k => match k with
  | 0 => .int
  | 1 => .int
  | 2 => .array .long
  | 3 => .array .long
  | 4 => .array .int
  | 5 => .array .int
  | 6 => .array .int
  | 7 => .int
  | 8 => .array .int
  | 9 => .int
  | _ => .array .int
def F_MO : u_T := fun k => match k with
  | 0 => ("PatternTreeModel", "care", "[J", true)
  | 1 => ("PatternTreeModel", "want", "[J", true)
  | 2 => ("PatternTreeModel", "many", "I", false)
  | 3 => ("PatternTreeModel", "length", "I", false)
  | 4 => ("PatternTreeModel", "clash", "I", false)
  | 5 => ("PatternTreeModel", "beyond", "I", false)
  | _ => ("PatternTreeModel", "thrown", "I", false)
def t_MO : Nat → FieldType := fun k => match k with
  | 0 => .array .long
  | 1 => .array .long
  | 2 => .int
  | 3 => .int
  | 4 => .int
  | 5 => .int
  | _ => .int
theorem n_PT : ∀ a, a < 3 → ∀ b, b < 3 → a ≠ b → (F_PT a).2.1 ≠ (F_PT b).2.1 := by decide +kernel
theorem t_PT_ok : ∀ k, k < 3 → parseFieldDescriptor (F_PT k).2.2.1 = some (t_PT k) := by decide +kernel
theorem n_TR : ∀ a, a < 11 → ∀ b, b < 11 → a ≠ b → (F_TR a).2.1 ≠ (F_TR b).2.1 := by decide +kernel
theorem t_TR_ok : ∀ k, k < 11 → parseFieldDescriptor (F_TR k).2.2.1 = some (t_TR k) := by decide +kernel
theorem n_MO : ∀ a, a < 7 → ∀ b, b < 7 → a ≠ b → (F_MO a).2.1 ≠ (F_MO b).2.1 := by decide +kernel
theorem t_MO_ok : ∀ k, k < 7 → parseFieldDescriptor (F_MO k).2.2.1 = some (t_MO k) := by decide +kernel
theorem tt_all {ws : List Cond} (is : List Nat) (h : ws = is.filterMap (fun i => tables_1[i]?)) (hg : ws.all goodWord = true) : ∀ w ∈ ws, w ∈ TT := by
  intro w hw
  have hg' := List.all_eq_true.mp hg w hw
  rw [h] at hw
  obtain ⟨i, -, hi⟩ := List.mem_filterMap.mp hw
  exact tt_tab i hi hg'
theorem in_PT : ∀ w ∈ u_ws R_PT F_PT 3, w ∈ TT := tt_all [70, 72, 74] (by decide +kernel) (by decide +kernel)
theorem in_TR : ∀ w ∈ u_ws R_TR F_TR 11, w ∈ TT := tt_all [42, 44, 46, 48, 50, 52, 54, 56, 58, 60, 62] (by decide +kernel) (by decide +kernel)
theorem in_MO : ∀ w ∈ u_ws R_MO F_MO 7, w ∈ TT := tt_all [337, 339, 341, 343, 345, 347, 349] (by decide +kernel) (by decide +kernel)
abbrev classes : List vw_C := [(R_PT, F_PT, 3), (R_TR, F_TR, 11), (R_MO, F_MO, 7)]
abbrev tys (cI cL : ClassId) : List (ClassId × FieldType) := [(cI, .int), (cL, .long)]
/-- the tree's inside: nodes, listedMany, bit, left, right, listed, pile -/
abbrev ZT : Type := Nat × Nat × (Nat → Int32) × (Nat → Int32) × (Nat → Int32) × (Nat → Int32) × (Nat → Int32)
abbrev wX (cI cL : ClassId) (h : Nat → Nat) (g cl : Int32) (len n : Nat) (ca wa : Nat → Int64) (z : ZT) : va_W :=
  [(h 0, .inr (0, [.ref (h 1), .int g, .int cl])),
   (h 1, .inr (1, [.int (nI len), .int (nI n), .ref (h 2), .ref (h 3), .ref (h 4), .ref (h 5), .ref (h 6), .int (nI z.1), .ref (h 7), .int (nI z.2.1), .ref (h 8)])),
   (h 2, .inl (cL, 512, .inr (.inl ca))), (h 3, .inl (cL, 512, .inr (.inl wa))),
   (h 4, .inl (cI, 2048, .inl z.2.2.1)), (h 5, .inl (cI, 2048, .inl z.2.2.2.1)), (h 6, .inl (cI, 2048, .inl z.2.2.2.2.1)), (h 7, .inl (cI, 8192, .inl z.2.2.2.2.2.1)), (h 8, .inl (cI, 33792, .inl z.2.2.2.2.2.2))]
abbrev wM (cL : ClassId) (h : Nat → Nat) (len n : Nat) (cl be th : Int32) (ca wa : Nat → Int64) : va_W :=
  [(h 0, .inr (2, [.ref (h 1), .ref (h 2), .int (nI n), .int (nI len), .int cl, .int be, .int th])), (h 1, .inl (cL, 512, .inr (.inl ca))), (h 2, .inl (cL, 512, .inr (.inl wa)))]
/-! call sites -/
def vSite (own C : String) (ix n : Nat) (y : MethodName) (hd : Cond) : Prop := Cond.methodLink own ix y ∈ TT ∧ Cond.instanceMethod y ∈ TT ∧ Cond.selects C y y ∈ TT ∧ Cond.initialized y.cls ∈ TT ∧ hd ∈ TT ∧ (y.cls ≠ "java/lang/invoke/MethodHandle" ∧ y.cls ≠ "java/lang/invoke/VarHandle" ∧ (parseMethodDescriptor y.desc).map (fun d => d.parameters.length) = some n)
def sSite (own : String) (ix n : Nat) (y : MethodName) (hd : Cond) : Prop := Cond.methodLink own ix y ∈ TT ∧ Cond.static y ∈ TT ∧ Cond.initialized y.cls ∈ TT ∧ hd ∈ TT ∧ (y.cls ≠ "java/lang/invoke/MethodHandle" ∧ y.cls ≠ "java/lang/invoke/VarHandle" ∧ (parseMethodDescriptor y.desc).map (fun d => d.parameters.length) = some n)
theorem tq_goodIn {w : Cond} (h : w ∈ TT) : GoodIn TT (w :: TT) := fun x hx => by
  rcases List.mem_cons.mp hx with rfl | h2
  · exact tt_good _ h
  · exact tt_good _ h2
/-! methods that only read -/
def RdI (l : Launch) (y : MethodName) (b : ByteArray) (nL : Nat) (ret : Option FieldType) (rm : Room) (D : va_G) (cI cL : ClassId) (av : List Value) (w : va_W) (post : Int32 → Prop) : Prop :=
  Met l y (Cond.code y b nL ret :: TT) rm (va_Pc av (fun U => va_P D classes w U.heap ∧ va_K D classes (tys cI cL) U)) (vp_Si post) 0 0 (fun _ => False)
def RdL (l : Launch) (y : MethodName) (b : ByteArray) (nL : Nat) (ret : Option FieldType) (rm : Room) (D : va_G) (cI cL : ClassId) (av : List Value) (w : va_W) (post : Int64 → Prop) : Prop :=
  Met l y (Cond.code y b nL ret :: TT) rm (va_Pc av (fun U => va_P D classes w U.heap ∧ va_K D classes (tys cI cL) U)) (vp_Sl post) 0 0 (fun _ => False)
theorem tq_blind {D : va_G} {cI cL : ClassId} {av : List Value} {w : va_W} : FrameBlind (va_Pc av (fun U => va_P D classes w U.heap ∧ va_K D classes (tys cI cL) U)) :=
  fun a U g mk q => ⟨q.1, q.2.1, va_K.moved (u := U) (U := U.calling g mk a) (Vm.Alike.refl U.vm) q.2.2⟩
section RDX
variable {l : Launch} {y : MethodName} {b : ByteArray} {nL : Nat} {rm : Room} {D : va_G} {cI cL : ClassId} {av : List Value} {w : va_W}
theorem RdI.mk {ty : FieldType} {post : Int32 → Prop} (hy : plainName y.cls = true) (hsz : (lg_sl av).length ≤ nL)
    (body : ∀ (p : Program) (e : Env) (s : State) (m : MethodId) (below : List Frame) (meth : Method) (c : Code) (Q : State → Prop), p.tables.exec = Jvm.exec → c.code = b → c.maxLocals = nL → s.vm.findClass y.cls = some m.cls → (∀ w ∈ TT, w.before av.toArray s = true) → va_K D classes (tys cI cL) s → va_P D classes w s.heap →
      (∀ (pc : Nat) (ls : Array Slot) (r : Int32), post r → narrow ty (.int r) = .int r → decode b pc = .ok (.ireturn, 1) → W p l e rm s m av.toArray below meth c s.heap [] 0 0 Q (F0 m pc ls [.int r])) →
      ∀ ls : Array Slot, lv_has ls nL (lv_args 0 av) → W p l e rm s m av.toArray below meth c s.heap [] 0 0 Q (F0 m 0 ls [])) : RdI l y b nL (some ty) rm D cI cL av w post := by
  refine Met.ofW (cc := b) (maxL := nL) (ret := some ty) hy rfl ?_
  intro p e s m args below meth c s₁ B hml hv
  obtain ⟨rfl, hP, hK⟩ := hv
  have hlocks := B.notSynchronized
  have hr := B.returns
  rw [lg_entry_eq]
  exact body p e s m below meth c _ B.exec B.bytes hml (findClass_of_methodNamed B.named) (fun w hw => atoms_spec B.pre w (List.mem_cons_of_mem _ hw)) hK hP
    (fun pc ls r hp hn hd => W.zret B.exec B.bytes hr hn (fun t ht hW => ⟨r, rfl, hp, ht⟩) (fun q hq => by cases hq) hd hlocks) _ (lv_entry av hsz)
theorem RdL.mk {post : Int64 → Prop} (hy : plainName y.cls = true) (hsz : (lg_sl av).length ≤ nL)
    (body : ∀ (p : Program) (e : Env) (s : State) (m : MethodId) (below : List Frame) (meth : Method) (c : Code) (Q : State → Prop), p.tables.exec = Jvm.exec → c.code = b → c.maxLocals = nL → s.vm.findClass y.cls = some m.cls → (∀ w ∈ TT, w.before av.toArray s = true) → va_K D classes (tys cI cL) s → va_P D classes w s.heap →
      (∀ (pc : Nat) (ls : Array Slot) (r : Int64), post r → decode b pc = .ok (.lreturn, 1) → W p l e rm s m av.toArray below meth c s.heap [] 0 0 Q (F0 m pc ls [.long r])) →
      ∀ ls : Array Slot, lv_has ls nL (lv_args 0 av) → W p l e rm s m av.toArray below meth c s.heap [] 0 0 Q (F0 m 0 ls [])) : RdL l y b nL (some .long) rm D cI cL av w post := by
  refine Met.ofW (cc := b) (maxL := nL) (ret := some .long) hy rfl ?_
  intro p e s m args below meth c s₁ B hml hv
  obtain ⟨rfl, hP, hK⟩ := hv
  have hlocks := B.notSynchronized
  have hr := B.returns
  rw [lg_entry_eq]
  exact body p e s m below meth c _ B.exec B.bytes hml (findClass_of_methodNamed B.named) (fun w hw => atoms_spec B.pre w (List.mem_cons_of_mem _ hw)) hK hP
    (fun pc ls r hp hd => W.lret B.exec B.bytes hr (fun t ht hW => ⟨r, rfl, hp, ht⟩) (fun q hq => by cases hq) hd hlocks) _ (lv_entry av hsz)
end RDX
section RDC
variable {p : Program} {l : Launch} {e : Env} {R : Room} {s : State} {m : MethodId} {args : Array Value} {below : List Frame} {meth : Method} {c : Code} {H : Heap} {locs : List Loc} {cells slots : Nat} {Q : State → Prop}
variable {y : MethodName} {b' cc : ByteArray} {nL' nL pc : Nat} {ret' : Option FieldType} {rm' : Room} {D : va_G} {cI cL : ClassId} {As rest st0 : List Value} {w0 : va_W} {own C : String} {ix n a : Nat} {ls : Array Slot}
theorem RdI.callV {post : Int32 → Prop} (hM : RdI l y b' nL' ret' rm' D cI cL (.ref a :: As) w0 post) (st : vSite own C ix n y (.code y b' nL' ret')) (S : CallFix p m c cc nL s args TT own) (hK : va_K D classes (tys cI cL) s) (hP : va_P D classes w0 H) (q0 : Nat) {ci : Nat} {fs : List Value} {T : u_T} {N : Nat}
    (he : w0[q0]? = some (a, .inr (ci, fs))) (hc : classes[ci]? = some (C, T, N)) (hz : rm'.cells = 0 ∧ rm'.slots = 0) (hR : rm'.frames + 1 ≤ R.frames ∧ 8 + (nL' + 11) + rm'.locals ≤ R.locals) (hn : As.length = n) (hsize : ls.size = nL) (hstack : st0 = As.reverse ++ .ref a :: rest) (hW : (rest.map fun v => v.category).sum ≤ 8)
    (hdg : decode cc pc = .ok (.invokevirtual ix, 3)) (hf : cells ≤ R.cells ∧ slots ≤ R.slots) (kk : ∀ r : Int32, post r → W p l e R s m args below meth c H locs cells slots Q (F0 m (pc + 3) ls (.int r :: rest))) : W p l e R s m args below meth c H locs cells slots Q (F0 m pc ls st0) := by
  obtain ⟨s1, s2, s3, s4, s5, s6⟩ := st
  have hT := S.2.2.2.2
  exact vp_callSi (W.runV S hM ⟨callB_of n hT (tq_goodIn s5) rfl hz.1 hz.2 (hT _ s4) (hT _ s1) s6 hR, hT _ s2, hT _ s3⟩ ⟨tq_blind, va_recv hK hP hc he, fun U hU hW' => ⟨rfl, by rw [hU]; exact hP, va_K.moved hW'.alike hK⟩⟩ rfl hn hsize hstack (lv_room hW) hdg ⟨hf.1, hf.2⟩) kk
theorem RdL.callV {post : Int64 → Prop} (hM : RdL l y b' nL' ret' rm' D cI cL (.ref a :: As) w0 post) (st : vSite own C ix n y (.code y b' nL' ret')) (S : CallFix p m c cc nL s args TT own) (hK : va_K D classes (tys cI cL) s) (hP : va_P D classes w0 H) (q0 : Nat) {ci : Nat} {fs : List Value} {T : u_T} {N : Nat}
    (he : w0[q0]? = some (a, .inr (ci, fs))) (hc : classes[ci]? = some (C, T, N)) (hz : rm'.cells = 0 ∧ rm'.slots = 0) (hR : rm'.frames + 1 ≤ R.frames ∧ 8 + (nL' + 11) + rm'.locals ≤ R.locals) (hn : As.length = n) (hsize : ls.size = nL) (hstack : st0 = As.reverse ++ .ref a :: rest) (hW : (rest.map fun v => v.category).sum ≤ 8)
    (hdg : decode cc pc = .ok (.invokevirtual ix, 3)) (hf : cells ≤ R.cells ∧ slots ≤ R.slots) (kk : ∀ r : Int64, post r → W p l e R s m args below meth c H locs cells slots Q (F0 m (pc + 3) ls (.long r :: rest))) : W p l e R s m args below meth c H locs cells slots Q (F0 m pc ls st0) := by
  obtain ⟨s1, s2, s3, s4, s5, s6⟩ := st
  have hT := S.2.2.2.2
  exact vp_callSl (W.runV S hM ⟨callB_of n hT (tq_goodIn s5) rfl hz.1 hz.2 (hT _ s4) (hT _ s1) s6 hR, hT _ s2, hT _ s3⟩ ⟨tq_blind, va_recv hK hP hc he, fun U hU hW' => ⟨rfl, by rw [hU]; exact hP, va_K.moved hW'.alike hK⟩⟩ rfl hn hsize hstack (lv_room hW) hdg ⟨hf.1, hf.2⟩) kk
theorem RdI.callS {post : Int32 → Prop} (hM : RdI l y b' nL' ret' rm' D cI cL As w0 post) (st : sSite own ix n y (.code y b' nL' ret')) (S : CallFix p m c cc nL s args TT own) (hK : va_K D classes (tys cI cL) s) (hP : va_P D classes w0 H)
    (hz : rm'.cells = 0 ∧ rm'.slots = 0) (hR : rm'.frames + 1 ≤ R.frames ∧ 8 + (nL' + 11) + rm'.locals ≤ R.locals) (hn : As.length = n) (hsize : ls.size = nL) (hstack : st0 = As.reverse ++ rest) (hW : (rest.map fun v => v.category).sum ≤ 8)
    (hdg : decode cc pc = .ok (.invokestatic ix, 3)) (hf : cells ≤ R.cells ∧ slots ≤ R.slots) (kk : ∀ r : Int32, post r → W p l e R s m args below meth c H locs cells slots Q (F0 m (pc + 3) ls (.int r :: rest))) : W p l e R s m args below meth c H locs cells slots Q (F0 m pc ls st0) := by
  obtain ⟨s1, s2, s4, s5, s6⟩ := st
  have hT := S.2.2.2.2
  exact vp_callSi (W.runS S hM ⟨callB_of n hT (tq_goodIn s5) rfl hz.1 hz.2 (hT _ s4) (hT _ s1) s6 hR, hT _ s2⟩ ⟨tq_blind, fun U hU hW' => ⟨rfl, by rw [hU]; exact hP, va_K.moved hW'.alike hK⟩⟩ rfl hn hsize hstack (lv_room hW) hdg ⟨hf.1, hf.2⟩) kk
theorem RdL.callS {post : Int64 → Prop} (hM : RdL l y b' nL' ret' rm' D cI cL As w0 post) (st : sSite own ix n y (.code y b' nL' ret')) (S : CallFix p m c cc nL s args TT own) (hK : va_K D classes (tys cI cL) s) (hP : va_P D classes w0 H)
    (hz : rm'.cells = 0 ∧ rm'.slots = 0) (hR : rm'.frames + 1 ≤ R.frames ∧ 8 + (nL' + 11) + rm'.locals ≤ R.locals) (hn : As.length = n) (hsize : ls.size = nL) (hstack : st0 = As.reverse ++ rest) (hW : (rest.map fun v => v.category).sum ≤ 8)
    (hdg : decode cc pc = .ok (.invokestatic ix, 3)) (hf : cells ≤ R.cells ∧ slots ≤ R.slots) (kk : ∀ r : Int64, post r → W p l e R s m args below meth c H locs cells slots Q (F0 m (pc + 3) ls (.long r :: rest))) : W p l e R s m args below meth c H locs cells slots Q (F0 m pc ls st0) := by
  obtain ⟨s1, s2, s4, s5, s6⟩ := st
  have hT := S.2.2.2.2
  exact vp_callSl (W.runS S hM ⟨callB_of n hT (tq_goodIn s5) rfl hz.1 hz.2 (hT _ s4) (hT _ s1) s6 hR, hT _ s2⟩ ⟨tq_blind, fun U hU hW' => ⟨rfl, by rw [hU]; exact hP, va_K.moved hW'.alike hK⟩⟩ rfl hn hsize hstack (lv_room hW) hdg ⟨hf.1, hf.2⟩) kk
end RDC
end
section
/-! methods that write, or may throw -/
abbrev tq_Pm (D : va_G) (cI cL : ClassId) (w0 : va_W) (sz : Nat) (av : List Value) : Array Value → State → Prop := va_Pc av (fun U => U.heap.size = sz ∧ va_P D classes w0 U.heap ∧ va_K D classes (tys cI cL) U ∧ va_D (fun _ => True) w0 ∧ tq_XK U)
def tq_Qm {S : Type} (D : va_G) (A : Nat → Prop) (wf : S → va_W) (post : Option Value → S → Prop) (pex : String → S → Prop) : Array Value → State → Outcome → State → Prop := fun _ st o t =>
  (∃ u : S, ((∃ v, o = .returned v ∧ post v u) ∨ (∃ x C, o = .threw x ∧ pex C u ∧ tq_xf C x t t.heap)) ∧ va_P D classes (wf u) t.heap ∧ va_D A (wf u)) ∧ va_F A st t
def MT {S : Type} (l : Launch) (y : MethodName) (b : ByteArray) (nL : Nat) (ret : Option FieldType) (hh : List (Nat × Nat × Nat × Nat)) (rm : Room) (D : va_G) (cI cL : ClassId) (av : List Value) (w0 : va_W) (wf : S → va_W) (post : Option Value → S → Prop) (pex : String → S → Prop) : Prop :=
  ∀ sz : Nat, tq_Met l y (tq_hd y b nL ret hh :: TT) rm (tq_Pm D cI cL w0 sz av) (tq_Qm D (va_A w0 sz) wf post pex) rm.cells rm.slots (va_A w0 sz)
/-- a method that answers an int (a long, nothing), and how -/
def pI {S : Type} (f : Int32 → S → Prop) : Option Value → S → Prop := fun v u => ∃ r, v = some (.int r) ∧ f r u
def pL {S : Type} (f : Int64 → S → Prop) : Option Value → S → Prop := fun v u => ∃ r, v = some (.long r) ∧ f r u
def pV {S : Type} (f : S → Prop) : Option Value → S → Prop := fun v u => v = none ∧ f u
def nx {S : Type} : String → S → Prop := fun _ _ => False
theorem tq_cellvm {D : va_G} {q : Nat × va_E} {H : Heap} {cell : Cell} (h : va_at D classes q H) (hc : H[q.1]? = some cell) : cell.vm.isStatics = false := by
  obtain ⟨a, e⟩ := q
  cases e with
  | inl x =>
    have h1 : H[a]? = some (vp_cell x.1 x.2) := h
    cases hc.symm.trans h1
    obtain ⟨cA, n, f⟩ := x
    rcases f with f | f | f | f | f <;> rfl
  | inr o =>
    obtain ⟨r, h1, cl, q1, q2, q3, -⟩ := h
    cases hc.symm.trans q1
    rw [q3]; rfl
theorem tq_SK.of {D : va_G} {w0 : va_W} {H0 H : Heap} {locs : List Loc} (hP : va_P D classes w0 H0) (hS : va_S (va_A w0 H0.size) H0 H locs) : tq_SK H0 H := by
  intro x cell hx hs
  have hlt : x < H0.size := (Array.getElem?_eq_some_iff.mp hx).1
  rw [hS.2.1 x hlt (fun hA => ?_)]
  · exact hx
  · rcases hA with ⟨k, e, hk⟩ | h
    · have h2 := tq_cellvm (hP k _ hk) hx
      rw [h2] at hs; cases hs
    · omega
section MTX
variable {l : Launch} {y : MethodName} {b : ByteArray} {nL : Nat} {rm : Room} {D : va_G} {cI cL : ClassId} {av : List Value} {w0 : va_W} {hh : List (Nat × Nat × Nat × Nat)} {S : Type} {wf : S → va_W} {post : Option Value → S → Prop} {pex : String → S → Prop}
/-- what a body is given -/
abbrev tq_B (p : Program) (e : Env) (s : State) (m : MethodId) (meth : Method) (c : Code) (A : Nat → Prop) (y : MethodName) (b : ByteArray) (nL : Nat) (hh : List (Nat × Nat × Nat × Nat)) (D : va_G) (cI cL : ClassId) (av : List Value) (w0 : va_W) : Prop :=
  p.tables.exec = Jvm.exec ∧ c.code = b ∧ c.maxLocals = nL ∧ s.vm.findClass y.cls = some m.cls ∧ (∀ w ∈ TT, w.before av.toArray s = true) ∧ va_K D classes (tys cI cL) s ∧ tq_XK s ∧ (∀ (H : Heap) (locs : List Loc), va_S A s.heap H locs → tq_SK s.heap H) ∧ (∀ q, s.heap.size ≤ q → A q) ∧ va_P D classes w0 s.heap ∧ va_D A w0 ∧ va_S A s.heap s.heap [] ∧
  c.exceptionTable.toList.map (fun h => (h.startPc, h.endPc, h.handlerPc, h.catchType)) = hh ∧ meth.code = some c ∧ e.platform.magicAccessors = ({} : Platform).magicAccessors
theorem MT.mk0 {ret : Option FieldType} (hy : plainName y.cls = true) (hsz : (lg_sl av).length ≤ nL)
    (body : ∀ (p : Program) (e : Env) (s : State) (m : MethodId) (below : List Frame) (meth : Method) (c : Code) (A : Nat → Prop), meth.locks = false → meth.sig.returnType = ret → tq_B p e s m meth c A y b nL hh D cI cL av w0 →
      ∀ ls : Array Slot, lv_has ls nL (lv_args 0 av) → W p l e rm s m av.toArray below meth c s.heap [] 0 0 (tq_MQ below (tq_Qm D A wf post pex) av.toArray s rm.cells rm.slots A) (F0 m 0 ls [])) : MT l y b nL ret hh rm D cI cL av w0 wf post pex := by
  intro sz
  refine tq_Met.ofW (cc := b) (maxL := nL) (ret := ret) (hh := hh) hy rfl ?_
  intro p e s m args below meth c s₁ B hml htab hv
  obtain ⟨rfl, hsz0, hP, hK, hD0, hX⟩ := hv
  subst hsz0
  have hD := hD0.self (sz := s.heap.size)
  rw [lg_entry_eq]
  refine body p e s m below meth c _ B.notSynchronized B.returns ⟨B.exec, B.bytes, hml, findClass_of_methodNamed B.named, fun w hw => atoms_spec B.pre w (List.mem_cons_of_mem _ hw), hK, hX, fun H locs hS => tq_SK.of hP hS, fun q h => Or.inr h, hP, hD, va_S.rf, htab, (Stand.of_body B).code, by rw [B.admits.platform]⟩ _ (lv_entry av hsz)
/-- how a body may end -/
abbrev tq_lv (p : Program) (l : Launch) (e : Env) (rm : Room) (s : State) (m : MethodId) (av : List Value) (below : List Frame) (meth : Method) (c : Code) (A : Nat → Prop) (D : va_G) (wf : S → va_W) (pex : String → S → Prop) (Q : State → Prop) : Prop :=
  ∀ (x : Addr) (C : String) (u : S) (H : Heap) (locs : List Loc) (cl sl pc : Nat) (ls : Array Slot) (st : List Value), c.exceptionTable.toList = [] → pex C u → tq_xf C x s H → va_P D classes (wf u) H → va_D A (wf u) → va_S A s.heap H locs → cl ≤ rm.cells → sl ≤ rm.slots → tq_X p l e rm s m av.toArray below meth c H locs cl sl Q (F0 m pc ls st) x
theorem tq_lv.of {p : Program} {e : Env} {s : State} {m : MethodId} {below : List Frame} {meth : Method} {c : Code} {A : Nat → Prop} (hlocks : meth.locks = false) :
    tq_lv p l e rm s m av below meth c A D wf pex (tq_MQ below (tq_Qm D A wf post pex) av.toArray s rm.cells rm.slots A) := by
  intro x C u H locs cl sl pc ls st htab hp hx hP hD hS hc hs
  refine tq_leave (g := F0 m pc ls st) rfl rfl rfl hlocks (fun y hy => by rw [htab] at hy; cases hy) (fun t ht hW => ⟨⟨u, Or.inr ⟨x, C, rfl, hp, ?_⟩, by rw [ht]; exact hP, hD⟩, hS.F ht⟩) hS.2.2 hc hs
  obtain ⟨cell, h1, h2, h3⟩ := hx
  exact ⟨cell, by rw [ht]; exact h1, h2, by rw [hW.alike.findClass]; exact h3⟩
theorem MT.mkI {ty : FieldType} {f : Int32 → S → Prop} (hy : plainName y.cls = true) (hsz : (lg_sl av).length ≤ nL)
    (body : ∀ (p : Program) (e : Env) (s : State) (m : MethodId) (below : List Frame) (meth : Method) (c : Code) (A : Nat → Prop) (Q : State → Prop), tq_B p e s m meth c A y b nL hh D cI cL av w0 →
      (∀ (r : Int32) (u : S) (H : Heap) (locs : List Loc) (cl sl pc : Nat) (ls : Array Slot), f r u → va_P D classes (wf u) H → va_D A (wf u) → va_S A s.heap H locs → cl ≤ rm.cells → sl ≤ rm.slots → narrow ty (.int r) = .int r → decode b pc = .ok (.ireturn, 1) → W p l e rm s m av.toArray below meth c H locs cl sl Q (F0 m pc ls [.int r])) →
      tq_lv p l e rm s m av below meth c A D wf pex Q → ∀ ls : Array Slot, lv_has ls nL (lv_args 0 av) → W p l e rm s m av.toArray below meth c s.heap [] 0 0 Q (F0 m 0 ls [])) : MT l y b nL (some ty) hh rm D cI cL av w0 wf (pI f) pex := by
  refine MT.mk0 hy hsz fun p e s m below meth c A hlocks hr B ls hl => ?_
  refine body p e s m below meth c A _ B (fun r u H locs cl sl pc ls hf hP hD hS hc hs hn hd => ?_) (tq_lv.of hlocks) ls hl
  refine W.widen (k := rm.cells) (n := rm.slots) hc hs (tq_mono (fun t h => tq_MQ.of h) (W.zret B.1 B.2.1 hr hn (fun t ht hW => ⟨⟨u, Or.inl ⟨_, rfl, r, rfl, hf⟩, by rw [ht]; exact hP, hD⟩, hS.F ht⟩) hS.2.2 hd hlocks))
theorem MT.mkL {f : Int64 → S → Prop} (hy : plainName y.cls = true) (hsz : (lg_sl av).length ≤ nL)
    (body : ∀ (p : Program) (e : Env) (s : State) (m : MethodId) (below : List Frame) (meth : Method) (c : Code) (A : Nat → Prop) (Q : State → Prop), tq_B p e s m meth c A y b nL hh D cI cL av w0 →
      (∀ (r : Int64) (u : S) (H : Heap) (locs : List Loc) (cl sl pc : Nat) (ls : Array Slot), f r u → va_P D classes (wf u) H → va_D A (wf u) → va_S A s.heap H locs → cl ≤ rm.cells → sl ≤ rm.slots → decode b pc = .ok (.lreturn, 1) → W p l e rm s m av.toArray below meth c H locs cl sl Q (F0 m pc ls [.long r])) →
      tq_lv p l e rm s m av below meth c A D wf pex Q → ∀ ls : Array Slot, lv_has ls nL (lv_args 0 av) → W p l e rm s m av.toArray below meth c s.heap [] 0 0 Q (F0 m 0 ls [])) : MT l y b nL (some .long) hh rm D cI cL av w0 wf (pL f) pex := by
  refine MT.mk0 hy hsz fun p e s m below meth c A hlocks hr B ls hl => ?_
  refine body p e s m below meth c A _ B (fun r u H locs cl sl pc ls hf hP hD hS hc hs hd => ?_) (tq_lv.of hlocks) ls hl
  refine W.widen (k := rm.cells) (n := rm.slots) hc hs (tq_mono (fun t h => tq_MQ.of h) (W.lret B.1 B.2.1 hr (fun t ht hW => ⟨⟨u, Or.inl ⟨_, rfl, r, rfl, hf⟩, by rw [ht]; exact hP, hD⟩, hS.F ht⟩) hS.2.2 hd hlocks))
theorem MT.mkV {f : S → Prop} (hy : plainName y.cls = true) (hsz : (lg_sl av).length ≤ nL)
    (body : ∀ (p : Program) (e : Env) (s : State) (m : MethodId) (below : List Frame) (meth : Method) (c : Code) (A : Nat → Prop) (Q : State → Prop), tq_B p e s m meth c A y b nL hh D cI cL av w0 →
      (∀ (u : S) (H : Heap) (locs : List Loc) (cl sl pc : Nat) (ls : Array Slot), f u → va_P D classes (wf u) H → va_D A (wf u) → va_S A s.heap H locs → cl ≤ rm.cells → sl ≤ rm.slots → decode b pc = .ok (.return_, 1) → W p l e rm s m av.toArray below meth c H locs cl sl Q (F0 m pc ls [])) →
      tq_lv p l e rm s m av below meth c A D wf pex Q → ∀ ls : Array Slot, lv_has ls nL (lv_args 0 av) → W p l e rm s m av.toArray below meth c s.heap [] 0 0 Q (F0 m 0 ls [])) : MT l y b nL none hh rm D cI cL av w0 wf (pV f) pex := by
  refine MT.mk0 hy hsz fun p e s m below meth c A hlocks hr B ls hl => ?_
  refine body p e s m below meth c A _ B (fun u H locs cl sl pc ls hf hP hD hS hc hs hd => ?_) (tq_lv.of hlocks) ls hl
  refine W.widen (k := rm.cells) (n := rm.slots) hc hs (tq_mono (fun t h => tq_MQ.of h) (W.vret B.1 B.2.1 hr (fun t ht hW => ⟨⟨u, Or.inl ⟨_, rfl, rfl, hf⟩, by rw [ht]; exact hP, hD⟩, hS.F ht⟩) hS.2.2 hd hlocks))
end MTX
section MTC
variable {p : Program} {l : Launch} {e : Env} {R : Room} {s : State} {m : MethodId} {args : Array Value} {below : List Frame} {meth : Method} {c : Code} {H : Heap} {locs : List Loc} {cells slots : Nat} {Q : State → Prop}
variable {y : MethodName} {b' cc : ByteArray} {nL' nL pc : Nat} {ret' : Option FieldType} {hh' : List (Nat × Nat × Nat × Nat)} {rm' : Room} {D : va_G} {cI cL : ClassId} {As rest st0 : List Value} {w0 ws wr : va_W} {own C : String} {ix n a : Nat} {ls : Array Slot} {A0 : Nat → Prop}
variable {S : Type} {wf : S → va_W} {post : Option Value → S → Prop} {pex : String → S → Prop}
theorem tq_blindM {w0 : va_W} {sz : Nat} {av : List Value} : FrameBlind (tq_Pm D cI cL w0 sz av) :=
  fun a U g mk q => ⟨q.1, q.2.1, q.2.2.1, va_K.moved (u := U) (U := U.calling g mk a) (Vm.Alike.refl U.vm) q.2.2.2.1, q.2.2.2.2.1, tq_XK.moved (s := U) (U := U.calling g mk a) (State.WarmedH.refl U) tq_SK.rf q.2.2.2.2.2⟩
/-- behind the instruction that calls -/
theorem MT.after {T : State} {g' : JFrame} {av : List Value} (X : Stand p l e R s m args below meth c T locs cells slots) (hT : T.heap = H) (hM : MT l y b' nL' ret' hh' rm' D cI cL av w0 wf post pex) (hT9 : ∀ w ∈ TT, w.before args s = true) (hhd : tq_hd y b' nL' ret' hh' ∈ TT) (hini : Cond.initialized y.cls ∈ TT)
    (hK : va_K D classes (tys cI cL) s) (hX : tq_XK s) (hSK : tq_SK s.heap H) (hP : va_P D classes ws H) (hD : va_D A0 ws) (hS : va_S A0 s.heap H locs) (hA : ∀ q, s.heap.size ≤ q → A0 q)
    (isC isR : List Nat) (hC : isC.map (fun i => ws[i]?) = w0.map some) (hCp : isC.filterMap (fun i => ws[i]?) = w0) (hRr : isR.map (fun i => ws[i]?) = wr.map some) (hnC : va_nd isC = true) (hnR : va_nd isR = true) (hdis : ∀ i ∈ isR, i ∉ isC)
    (hR : rm'.frames + 1 ≤ R.frames ∧ 8 + (nL' + 11) + rm'.locals ≤ R.locals) (hg' : g' = F0 m pc ls rest) (hsize : ls.size = c.maxLocals) (hW : (rest.map fun v => v.category).sum ≤ 8) (hf : cells + rm'.cells ≤ R.cells ∧ slots + rm'.slots ≤ R.slots)
    {ig : Instr} (hdg : decode c.code pc = .ok (ig, 3)) {mk : MethodId} (hn : T.methodNamed? y = some mk)
    (kr : ∀ (v : Option Value) (u : S) (H1 : Heap) (locs1 : List Loc), post v u → va_P D classes (wr ++ wf u) H1 → va_D A0 (wr ++ wf u) → va_S A0 s.heap H1 locs1 → W p l e R s m args below meth c H1 locs1 (cells + rm'.cells) (slots + rm'.slots) Q (F0 m (pc + 3) ls (v.toList ++ rest)))
    (kx : ∀ (x : Addr) (C : String) (u : S) (H1 : Heap) (locs1 : List Loc), pex C u → tq_xf C x s H1 → va_P D classes (wr ++ wf u) H1 → va_D A0 (wr ++ wf u) → va_S A0 s.heap H1 locs1 → tq_X p l e R s m args below meth c H1 locs1 (cells + rm'.cells) (slots + rm'.slots) Q (F0 m pc ls rest) x) :
    ∃ t, Steps p.tables e below (doInvoke e (T.setTop g') [] mk av.toArray).1 t ∧ Q t := by
  subst hg'
  have hws : ∀ w ∈ tq_hd y b' nL' ret' hh' :: TT, ∀ a', w.before a' T = true := fun w hw a' => by
    have hg := tq_goodIn hhd w hw
    exact word_at X.warmed hg.2 (hT9 w hg.1)
  have hPc := hP.sub (ws' := w0) isC hCp
  have hDc := hD.sub (ws' := w0) isC hnC hC
  have hFc := va_free (wc := w0) hD hS hA isC hC
  have hXT : tq_XK T := hX.moved X.warmed (by rw [hT]; exact hSK)
  obtain ⟨o, t, T', L, hst, X', hL, ⟨⟨u, hres, hP1, hD1⟩, hF1⟩, e1, e2, hend⟩ := tq_run X (hM T.heap.size) hws (List.mem_cons_self ..) (fun a' => word_at X.warmed (tt_good _ hini).2 (hT9 _ hini)) rfl rfl hR.1 (g := F0 m pc ls rest) rfl hsize
    (by show 2 * 0 + (rest.map fun v => v.category).sum + _ + _ ≤ _; omega) hf.1 hf.2 hdg hn (a := av.toArray) (tq_blindM _ _ _ _ ⟨rfl, rfl, by rw [hT]; exact hPc, va_K.moved X.warmed.alike hK, hDc.weaken (fun _ _ _ _ => trivial), hXT⟩)
  have hh0 : (T.calling (F0 m pc ls rest) mk av.toArray).heap = H := hT
  obtain ⟨hz, hk⟩ := hF1
  rw [hh0] at hz hk
  rw [hT] at hk hD1 hL
  rw [← e1] at hz hk hP1
  obtain ⟨hP2, hD2⟩ := va_join (wr := wr) (w1 := wf u) hP hD isC isR hC hRr hnR hdis hk hFc hP1 hD1
  have hS2 : va_S A0 s.heap T'.heap (locs ++ L) := ⟨Nat.le_trans hS.1 hz, fun q h1 h2 => by rw [hk q (Nat.lt_of_lt_of_le h1 hS.1) (fun z => h2 (hFc q z))]; exact hS.2.1 q h1 h2, fun q hq => by
      rcases List.mem_append.mp hq with h | h
      · exact hS.2.2 q h
      · exact hFc _ (hL q h)⟩
  rcases hres with ⟨v, rfl, hpost⟩ | ⟨x, C, rfl, hpx, hxf⟩
  · rcases hend with ⟨v', hv, ht⟩ | ⟨x, hv, ht⟩
    · cases hv
      obtain ⟨t2, a1, b1⟩ := kr v u T'.heap (locs ++ L) hpost hP2 hD2 hS2 T' rfl X'
      rw [ht] at hst
      exact ⟨t2, hst.trans a1, b1⟩
    · cases hv
  · rcases hend with ⟨v', hv, ht⟩ | ⟨x', hv, ht⟩
    · cases hv
    · cases hv
      obtain ⟨cell, h1, h2, h3⟩ := hxf
      obtain ⟨t2, a1, b1⟩ := kx x C u T'.heap (locs ++ L) hpx ⟨cell, by rw [e1]; exact h1, h2, by rw [← X'.warmed.alike.findClass, e2]; exact h3⟩ hP2 hD2 hS2 T' rfl X'
      rw [ht] at hst
      exact ⟨t2, hst.trans a1, b1⟩
end MTC
end
section
/-! calls by such contracts -/
theorem tq_sm (w : va_W) : (List.range w.length).map (fun i => w[i]?) = w.map some := by
  apply List.ext_getElem?
  intro i
  by_cases h : i < w.length
  · simp [h]
  · simp [h]
theorem tq_sf (w : va_W) : (List.range w.length).filterMap (fun i => w[i]?) = w := by
  have h := congrArg (List.filterMap id) (tq_sm w)
  simpa [List.filterMap_map, Function.comp_def] using h
theorem tq_ndr : ∀ n : Nat, va_nd (List.range n) = true := by
  have key : ∀ l : List Nat, l.Nodup → va_nd l = true := by
    intro l
    induction l with
    | nil => intro _; rfl
    | cons a l ih =>
      intro h
      rw [List.nodup_cons] at h
      simp [va_nd, h.1, ih h.2]
  exact fun n => key _ List.nodup_range
section MTD
variable {p : Program} {l : Launch} {e : Env} {R : Room} {s : State} {m : MethodId} {args : Array Value} {below : List Frame} {meth : Method} {c : Code} {H : Heap} {locs : List Loc} {cells slots : Nat} {Q : State → Prop}
variable {y : MethodName} {b' cc : ByteArray} {nL' nL pc : Nat} {ret' : Option FieldType} {hh' : List (Nat × Nat × Nat × Nat)} {rm' : Room} {D : va_G} {cI cL : ClassId} {As rest st0 : List Value} {w0 ws wr : va_W} {own C : String} {ix n a : Nat} {ls : Array Slot} {A0 : Nat → Prop}
variable {S : Type} {wf : S → va_W} {post : Option Value → S → Prop} {pex : String → S → Prop}
abbrev tq_K (s : State) (H : Heap) (locs : List Loc) (D : va_G) (cI cL : ClassId) (A0 : Nat → Prop) (ws : va_W) : Prop := va_K D classes (tys cI cL) s ∧ tq_XK s ∧ tq_SK s.heap H ∧ va_P D classes ws H ∧ va_D A0 ws ∧ va_S A0 s.heap H locs ∧ ∀ q, s.heap.size ≤ q → A0 q
abbrev tq_J (ws w0 wr : va_W) (isC isR : List Nat) : Prop := isC.map (fun i => ws[i]?) = w0.map some ∧ isC.filterMap (fun i => ws[i]?) = w0 ∧ isR.map (fun i => ws[i]?) = wr.map some ∧ va_nd isC = true ∧ va_nd isR = true ∧ ∀ i ∈ isR, i ∉ isC
theorem tq_J.same (w : va_W) : tq_J w w [] (List.range w.length) [] := ⟨tq_sm w, tq_sf w, rfl, tq_ndr _, rfl, fun _ h => by cases h⟩
theorem MT.callV (hM : MT l y b' nL' ret' hh' rm' D cI cL (.ref a :: As) w0 wf post pex) (st : vSite own C ix n y (tq_hd y b' nL' ret' hh')) (F : CallFix p m c cc nL s args TT own) (K : tq_K s H locs D cI cL A0 ws) {isC isR : List Nat} (J : tq_J ws w0 wr isC isR)
    (q0 : Nat) {ci : Nat} {fs : List Value} {T : u_T} {N : Nat} (he : w0[q0]? = some (a, .inr (ci, fs))) (hc : classes[ci]? = some (C, T, N)) (hR : rm'.frames + 1 ≤ R.frames ∧ 8 + (nL' + 11) + rm'.locals ≤ R.locals) (hn : As.length = n) (hsize : ls.size = nL) (hstack : st0 = As.reverse ++ .ref a :: rest) (hW : (rest.map fun v => v.category).sum ≤ 8)
    (hdg : decode cc pc = .ok (.invokevirtual ix, 3)) (hf : cells + rm'.cells ≤ R.cells ∧ slots + rm'.slots ≤ R.slots)
    (kr : ∀ (v : Option Value) (u : S) (H1 : Heap) (locs1 : List Loc), post v u → va_P D classes (wr ++ wf u) H1 → va_D A0 (wr ++ wf u) → va_S A0 s.heap H1 locs1 → W p l e R s m args below meth c H1 locs1 (cells + rm'.cells) (slots + rm'.slots) Q (F0 m (pc + 3) ls (v.toList ++ rest)))
    (kx : ∀ (x : Addr) (C : String) (u : S) (H1 : Heap) (locs1 : List Loc), pex C u → tq_xf C x s H1 → va_P D classes (wr ++ wf u) H1 → va_D A0 (wr ++ wf u) → va_S A0 s.heap H1 locs1 → tq_X p l e R s m args below meth c H1 locs1 (cells + rm'.cells) (slots + rm'.slots) Q (F0 m pc ls rest) x) :
    W p l e R s m args below meth c H locs cells slots Q (F0 m pc ls st0) := by
  obtain ⟨s1, s2, s3, s4, s5, hy1, hy2, hlen⟩ := st
  obtain ⟨hx, hb, hml, hown, hT9⟩ := F
  obtain ⟨hK, hX, hSK, hP, hD, hS, hA⟩ := K
  obtain ⟨j1, j2, j3, j4, j5, j6⟩ := J
  intro T9 hT X
  have hPc := hP.sub (ws' := w0) isC j2
  obtain ⟨cellB, hcB, hoB, hclB⟩ := va_recv hK hPc hc he
  obtain ⟨mk, methM, hnamed, hmethM, hstM, habM⟩ := Cond.instanceMethod_spec (hT9 _ s2)
  obtain ⟨m9, methM', cM, hn9, hmethM', -, -, -, -, -, -, hsigM⟩ := tq_hd_spec (hT9 _ s5)
  cases hnamed.symm.trans hn9
  cases hmethM.symm.trans hmethM'
  obtain ⟨c2, r2, m2, q1, q2, q3, q4, kP, hkP, hkPi⟩ := Cond.selects_spec (hT9 _ s3)
  cases hclB.symm.trans q1
  cases (State.methodFound?_of_named hnamed ⟨hy1, hy2⟩).symm.trans q2
  cases hnamed.symm.trans q3
  have hselP : selectMethod e.platform s.vm cellB.cls mk = .method mk := by rw [Launch.admits_selectMethod X.admits]; exact q4
  rw [hsigM] at hlen
  obtain ⟨vm₁, X₁, hstep₁⟩ := X.invokevirtual hx hown (hT9 _ s1) hnamed hmethM hstM hkP hkPi ⟨hy1, hy2⟩ (a := a) (cell := cellB) (by rw [hT]; exact hcB)
    (fun z h => by rw [h] at hoB; cases hoB) hselP hmethM habM hkP hkPi (g := F0 m pc ls st0) rfl (argsL := As) (rest := rest) (hn.trans (Option.some.inj hlen).symm) hstack (by rw [hb]; exact hdg)
  obtain ⟨t, a1, b1⟩ := MT.after X₁ hT hM hT9 s5 s4 hK hX hSK hP hD hS hA isC isR j1 j2 j3 j4 j5 j6 hR (g' := F0 m pc ls rest) rfl (hsize.trans hml.symm) hW hf (ig := .invokevirtual ix) (by rw [hb]; exact hdg) (X₁.named hnamed) kr kx
  exact ⟨t, hstep₁ _ fun acts => by rw [doInvoke_state]; exact a1, b1⟩
theorem MT.callS (hM : MT l y b' nL' ret' hh' rm' D cI cL As w0 wf post pex) (st : sSite own ix n y (tq_hd y b' nL' ret' hh')) (F : CallFix p m c cc nL s args TT own) (K : tq_K s H locs D cI cL A0 ws) {isC isR : List Nat} (J : tq_J ws w0 wr isC isR)
    (hR : rm'.frames + 1 ≤ R.frames ∧ 8 + (nL' + 11) + rm'.locals ≤ R.locals) (hn : As.length = n) (hsize : ls.size = nL) (hstack : st0 = As.reverse ++ rest) (hW : (rest.map fun v => v.category).sum ≤ 8)
    (hdg : decode cc pc = .ok (.invokestatic ix, 3)) (hf : cells + rm'.cells ≤ R.cells ∧ slots + rm'.slots ≤ R.slots)
    (kr : ∀ (v : Option Value) (u : S) (H1 : Heap) (locs1 : List Loc), post v u → va_P D classes (wr ++ wf u) H1 → va_D A0 (wr ++ wf u) → va_S A0 s.heap H1 locs1 → W p l e R s m args below meth c H1 locs1 (cells + rm'.cells) (slots + rm'.slots) Q (F0 m (pc + 3) ls (v.toList ++ rest)))
    (kx : ∀ (x : Addr) (C : String) (u : S) (H1 : Heap) (locs1 : List Loc), pex C u → tq_xf C x s H1 → va_P D classes (wr ++ wf u) H1 → va_D A0 (wr ++ wf u) → va_S A0 s.heap H1 locs1 → tq_X p l e R s m args below meth c H1 locs1 (cells + rm'.cells) (slots + rm'.slots) Q (F0 m pc ls rest) x) :
    W p l e R s m args below meth c H locs cells slots Q (F0 m pc ls st0) := by
  obtain ⟨s1, s2, s4, s5, hy1, hy2, hlen⟩ := st
  obtain ⟨hx, hb, hml, hown, hT9⟩ := F
  obtain ⟨hK, hX, hSK, hP, hD, hS, hA⟩ := K
  obtain ⟨j1, j2, j3, j4, j5, j6⟩ := J
  intro T9 hT X
  obtain ⟨mk, methM, cM, hnamed, hmethM, -, -, -, -, -, -, hsigM⟩ := tq_hd_spec (hT9 _ s5)
  have hstatic : methM.isStatic = true := Cond.static_spec hnamed hmethM (hT9 _ s2)
  obtain ⟨kP, hkP, -⟩ := className_of_methodNamed hnamed
  have hinitP : kP.init = .initialized := Cond.initialized_spec (findClass_of_methodNamed hnamed) hkP (hT9 _ s4)
  rw [hsigM] at hlen
  obtain ⟨vm₁, X₁, hstep₁⟩ := X.invokestatic hx hown (hT9 _ s1) hnamed hmethM hstatic hkP hinitP ⟨hy1, hy2⟩ (g := F0 m pc ls st0) rfl (argsL := As) (rest := rest) (hn.trans (Option.some.inj hlen).symm) hstack (by rw [hb]; exact hdg)
  obtain ⟨t, a1, b1⟩ := MT.after X₁ hT hM hT9 s5 s4 hK hX hSK hP hD hS hA isC isR j1 j2 j3 j4 j5 j6 hR (g' := F0 m pc ls rest) rfl (hsize.trans hml.symm) hW hf (ig := .invokestatic ix) (by rw [hb]; exact hdg) (X₁.named hnamed) kr kx
  exact ⟨t, hstep₁ _ fun acts => by rw [doInvoke_state]; exact a1, b1⟩
end MTD
end
section
/-! instruction rows by naturals; long compares -/
section TQR
variable {p : Program} {l : Launch} {e : Env} {R : Room} {s : State} {m : MethodId} {args : Array Value} {below : List Frame} {meth : Method} {c : Code} {H : Heap} {locs : List Loc} {cells slots : Nat} {Q : State → Prop}
variable {cc : ByteArray} {pc : Nat} {ls : Array Slot} {rest : List Value} {D : va_G} {A : Nat → Prop} {a : Nat} {cI cL : ClassId} {ws : va_W} {H0 : Heap}
theorem tq_cmp0 (x y : Int64) : lg_cmp x y = 0 ↔ x = y := by
  unfold lg_cmp
  by_cases h1 : y < x
  · simp [h1]; intro h; rw [h] at h1; exact absurd h1 (by simp [Int64.lt_irrefl])
  · by_cases h2 : x = y
    · simp [h2]
    · simp [h1, h2]
theorem tq_cmpl (x y : Int64) : lg_cmp x y < 0 ↔ x < y := by
  unfold lg_cmp
  by_cases h1 : y < x
  · have h2 : ¬ x < y := Int64.not_lt.mpr (Int64.le_of_lt h1)
    simp only [h1, h2, if_true]; decide
  · by_cases h2 : x = y
    · subst h2; simp [h1]
    · have h3 : x < y := by
        rcases Int64.lt_or_le x y with h | h
        · exact h
        · exact absurd (Int64.le_antisymm (Int64.not_lt.mp h1) h) h2
      simp only [h1, h2, h3, if_false]; decide
theorem tq_lne (hexec : p.tables.exec = Jvm.exec) (hb : c.code = cc) {x y : Int64} {off : Int} {tgt : Nat} (d0 : decode cc pc = .ok (.lcmp, 1)) (d1 : decode cc (pc + 1) = .ok (.ifCond .ne off, 3)) (ht : ((pc + 1 : Nat) : Int) + off = (tgt : Int))
    (kt : ¬ x = y → W p l e R s m args below meth c H locs cells slots Q (F0 m tgt ls rest)) (kf : x = y → W p l e R s m args below meth c H locs cells slots Q (F0 m (pc + 1 + 3) ls rest)) : W p l e R s m args below meth c H locs cells slots Q (F0 m pc ls (.long y :: .long x :: rest)) := by
  refine W.lcmp hexec hb d0 (lv_if_ne hexec hb d1 ht (fun h => kt fun h2 => h ((tq_cmp0 x y).mpr h2)) (fun h => kf ((tq_cmp0 x y).mp h)))
theorem tq_leq (hexec : p.tables.exec = Jvm.exec) (hb : c.code = cc) {x y : Int64} {off : Int} {tgt : Nat} (d0 : decode cc pc = .ok (.lcmp, 1)) (d1 : decode cc (pc + 1) = .ok (.ifCond .eq off, 3)) (ht : ((pc + 1 : Nat) : Int) + off = (tgt : Int))
    (kt : x = y → W p l e R s m args below meth c H locs cells slots Q (F0 m tgt ls rest)) (kf : ¬ x = y → W p l e R s m args below meth c H locs cells slots Q (F0 m (pc + 1 + 3) ls rest)) : W p l e R s m args below meth c H locs cells slots Q (F0 m pc ls (.long y :: .long x :: rest)) := by
  refine W.lcmp hexec hb d0 (lv_if_eq hexec hb d1 ht (fun h => kt ((tq_cmp0 x y).mp h)) (fun h => kf fun h2 => h ((tq_cmp0 x y).mpr h2)))
theorem tq_llt (hexec : p.tables.exec = Jvm.exec) (hb : c.code = cc) {x y : Int64} {off : Int} {tgt : Nat} (d0 : decode cc pc = .ok (.lcmp, 1)) (d1 : decode cc (pc + 1) = .ok (.ifCond .lt off, 3)) (ht : ((pc + 1 : Nat) : Int) + off = (tgt : Int))
    (kt : x < y → W p l e R s m args below meth c H locs cells slots Q (F0 m tgt ls rest)) (kf : ¬ x < y → W p l e R s m args below meth c H locs cells slots Q (F0 m (pc + 1 + 3) ls rest)) : W p l e R s m args below meth c H locs cells slots Q (F0 m pc ls (.long y :: .long x :: rest)) := by
  refine W.lcmp hexec hb d0 (lv_if_lt hexec hb d1 ht (fun h => kt ((tq_cmpl x y).mp h)) (fun h => kf fun h2 => h ((tq_cmpl x y).mpr h2)))
theorem tq_lge (hexec : p.tables.exec = Jvm.exec) (hb : c.code = cc) {x y : Int64} {off : Int} {tgt : Nat} (d0 : decode cc pc = .ok (.lcmp, 1)) (d1 : decode cc (pc + 1) = .ok (.ifCond .ge off, 3)) (ht : ((pc + 1 : Nat) : Int) + off = (tgt : Int))
    (kt : ¬ x < y → W p l e R s m args below meth c H locs cells slots Q (F0 m tgt ls rest)) (kf : x < y → W p l e R s m args below meth c H locs cells slots Q (F0 m (pc + 1 + 3) ls rest)) : W p l e R s m args below meth c H locs cells slots Q (F0 m pc ls (.long y :: .long x :: rest)) := by
  refine W.lcmp hexec hb d0 (lv_if_ge hexec hb d1 ht (fun h => kt fun h2 => absurd ((tq_cmpl x y).mpr h2) (Int32.not_lt.mpr h)) (fun h => kf ((tq_cmpl x y).mp (Int32.not_le.mp h))))
theorem tq_ige (hexec : p.tables.exec = Jvm.exec) (hb : c.code = cc) {i j : Nat} (hi : i < 2 ^ 31) (hj : j < 2 ^ 31) {off : Int} {tgt : Nat} (hdg : decode cc pc = .ok (.if_icmp .ge off, 3)) (ht : (pc : Int) + off = (tgt : Int))
    (kt : j ≤ i → W p l e R s m args below meth c H locs cells slots Q (F0 m tgt ls rest)) (kf : i < j → W p l e R s m args below meth c H locs cells slots Q (F0 m (pc + 3) ls rest)) : W p l e R s m args below meth c H locs cells slots Q (F0 m pc ls (.int (nI j) :: .int (nI i) :: rest)) :=
  lv_icmp_ge hexec hb hdg ht (fun h => kt ((nI_leI hj hi).mp h)) (fun h => kf (Nat.lt_of_not_le fun h2 => h ((nI_leI hj hi).mpr h2)))
theorem tq_iald (hexec : p.tables.exec = Jvm.exec) (hb : c.code = cc) (hK : va_K D classes (tys cI cL) s) (hP : va_P D classes ws H) (q0 : Nat) {n : Nat} {f : Nat → Int32} (ha : ws[q0]? = some (a, .inl (cI, n, .inl f))) {k : Nat} (hk : k < n) (hn : n < 2 ^ 31) (hdg : decode cc pc = .ok (.iaload, 1))
    (kk : W p l e R s m args below meth c H locs cells slots Q (F0 m (pc + 1) ls (.int (f k) :: rest))) : W p l e R s m args below meth c H locs cells slots Q (F0 m pc ls (.int (nI k) :: .ref a :: rest)) := by
  refine va_iald hexec hb hK hP q0 0 ha rfl (vp_in_nI hk hn) hdg ?_
  rw [nI_clamp (Nat.lt_trans hk hn)]; exact kk
theorem tq_lald (hexec : p.tables.exec = Jvm.exec) (hb : c.code = cc) (hK : va_K D classes (tys cI cL) s) (hP : va_P D classes ws H) (q0 : Nat) {n : Nat} {f : Nat → Int64} (ha : ws[q0]? = some (a, .inl (cL, n, .inr (.inl f)))) {k : Nat} (hk : k < n) (hn : n < 2 ^ 31) (hdg : decode cc pc = .ok (.laload, 1))
    (kk : W p l e R s m args below meth c H locs cells slots Q (F0 m (pc + 1) ls (.long (f k) :: rest))) : W p l e R s m args below meth c H locs cells slots Q (F0 m pc ls (.int (nI k) :: .ref a :: rest)) := by
  refine va_lald hexec hb hK hP q0 1 ha rfl (vp_in_nI hk hn) hdg ?_
  rw [nI_clamp (Nat.lt_trans hk hn)]; exact kk
theorem tq_iast (hexec : p.tables.exec = Jvm.exec) (hb : c.code = cc) (hK : va_K D classes (tys cI cL) s) (hP : va_P D classes ws H) (hD : va_D A ws) (hS : va_S A H0 H locs) (q0 : Nat) {n : Nat} {f : Nat → Int32} (ha : ws[q0]? = some (a, .inl (cI, n, .inl f))) {k : Nat} {x : Int32} (hk : k < n) (hn : n < 2 ^ 31) (hdg : decode cc pc = .ok (.iastore, 1))
    (kk : ∀ (H1 : Heap) (locs1 : List Loc), va_P D classes (ws.set q0 (a, .inl (cI, n, .inl (upd f k x)))) H1 → va_D A (ws.set q0 (a, .inl (cI, n, .inl (upd f k x)))) → va_S A H0 H1 locs1 → W p l e R s m args below meth c H1 locs1 cells slots Q (F0 m (pc + 1) ls rest)) : W p l e R s m args below meth c H locs cells slots Q (F0 m pc ls (.int x :: .int (nI k) :: .ref a :: rest)) := by
  refine va_iast hexec hb hK hP hD hS q0 0 ha rfl (vp_in_nI hk hn) hdg ?_
  rw [nI_clamp (Nat.lt_trans hk hn)]; exact kk
theorem tq_last (hexec : p.tables.exec = Jvm.exec) (hb : c.code = cc) (hK : va_K D classes (tys cI cL) s) (hP : va_P D classes ws H) (hD : va_D A ws) (hS : va_S A H0 H locs) (q0 : Nat) {n : Nat} {f : Nat → Int64} (ha : ws[q0]? = some (a, .inl (cL, n, .inr (.inl f)))) {k : Nat} {x : Int64} (hk : k < n) (hn : n < 2 ^ 31) (hdg : decode cc pc = .ok (.lastore, 1))
    (kk : ∀ (H1 : Heap) (locs1 : List Loc), va_P D classes (ws.set q0 (a, .inl (cL, n, .inr (.inl (vp_updL f k x))))) H1 → va_D A (ws.set q0 (a, .inl (cL, n, .inr (.inl (vp_updL f k x))))) → va_S A H0 H1 locs1 → W p l e R s m args below meth c H1 locs1 cells slots Q (F0 m (pc + 1) ls rest)) : W p l e R s m args below meth c H locs cells slots Q (F0 m pc ls (.long x :: .int (nI k) :: .ref a :: rest)) := by
  refine va_last hexec hb hK hP hD hS q0 1 ha rfl (vp_in_nI hk hn) hdg ?_
  rw [nI_clamp (Nat.lt_trans hk hn)]; exact kk
end TQR
theorem tq_inc (k : Nat) : nI k + Int32.ofInt 1 = nI (k + 1) := (nI_succ k).symm
theorem tq_dec (k : Nat) : nI (k + 1) + Int32.ofInt (-1) = nI k := pk_m1 k
theorem tq_1s (k : Nat) : nI k + 1 = nI (k + 1) := (nI_succ k).symm
abbrev rmK (k : Nat) : Room := { frames := k, cells := 0, slots := 0, locals := 40 * k }
abbrev rmX (k c : Nat) : Room := { frames := k, cells := c, slots := 6 * c, locals := 40 * k }
/-! what the methods compute -/
def b2i (b : Bool) : Int32 := if b then 1 else 0
def bt (v : Int64) (i : Nat) : Bool := v.toBitVec.getLsbD i
def sh1 (b : Nat) : Int64 := (1 : Int64) <<< ((nI b).toInt64 &&& 63)
def mk (len : Nat) : Int64 := if len = 64 then -1 else sh1 len - 1
def tk (ca wa : Nat → Int64) (w : Int64) (k : Nat) : Bool := decide ((w &&& ca k) = wa k)
def csh (ca wa : Nat → Int64) (c w : Int64) (k : Nat) : Bool := decide ((ca k &&& c &&& (wa k ^^^ w)) = 0)
def isP (len : Nat) (c w : Int64) : Bool := decide ((w &&& (c ^^^ (-1)) &&& mk len) = 0)
def ffr (P : Nat → Bool) (k : Nat) : Nat → Int32
  | 0 => -1
  | m + 1 => if P k then nI k else ffr P (k + 1) m
def ff (P : Nat → Bool) (n : Nat) : Int32 := ffr P 0 n
def pcn (v : Int64) : Nat → Nat
  | 0 => 0
  | i + 1 => pcn v i + (if bt v i then 1 else 0)
def pcnt (v : Int64) : Nat := pcn v 64
def pow2 (o : Int32) : Int64 := if o = 64 then 0 else (1 : Int64) <<< (o.toInt64 &&& 63)
def psz (len : Nat) (c : Int64) : Int64 := pow2 (nI len - nI (pcnt c))
def por (P : Nat → Bool) (S : Nat → Int64) (k : Nat) : Nat → Int64 → Int64
  | 0, a => a
  | m + 1, a => por P S (k + 1) m (if P k then a - S k else a)
def popen (len n : Nat) (ca wa : Nat → Int64) (c w : Int64) : Int64 := por (csh ca wa c w) (fun k => psz len (c ||| ca k)) 0 n (psz len c)
def pany (len n : Nat) (ca wa : Nat → Int64) (c w : Int64) : Bool := !decide (popen len n ca wa c w = 0) || (decide (c = 0) && decide (len = 64) && decide (n = 0))
def plst (A : Int64 → Int64 → Bool) : Nat → Int64 → Int64 → Int64
  | 0, _, w => w
  | b + 1, c, w => plst A b (c ||| sh1 b) (if A (c ||| sh1 b) w then w else w ||| sh1 b)
def pnx (A : Int64 → Int64 → Bool) (mm fr : Int64) (b : Nat) : Nat → Option Int64
  | 0 => none
  | m + 1 => if bt fr b then pnx A mm fr (b + 1) m else
    if A (mm &&& ((sh1 b - 1) ^^^ (-1))) ((fr &&& (mm &&& ((sh1 b - 1) ^^^ (-1)))) ||| sh1 b) then some (plst A b (mm &&& ((sh1 b - 1) ^^^ (-1))) ((fr &&& (mm &&& ((sh1 b - 1) ^^^ (-1)))) ||| sh1 b)) else pnx A mm fr (b + 1) m
theorem tq_b2i (b : Bool) : narrow .boolean (.int (b2i b)) = .int (b2i b) := by cases b <;> rfl
end
section
theorem vs_PT_85 : vSite "PatternTree" "PatternTree" 85 1 yy_PT_find1 (.code yy_PT_find1 bb_PT_find1 3 (some .int)) := ⟨tw_81, tw_83, tt_sel (q := (yy_PT_find1, 3)) (List.mem_of_getElem? (i := 0) rfl), tw_1, tw_84, ⟨by decide +kernel, by decide +kernel, by decide +kernel⟩⟩
theorem vs_PT_78 : vSite "PatternTree" "PatternTree$Tree" 78 0 yy_TR_grow (.code yy_TR_grow bb_TR_grow 2 none) := ⟨tw_85, tw_86, tw_87, tw_2, tw_88, ⟨by decide +kernel, by decide +kernel, by decide +kernel⟩⟩
theorem vs_PT_60 : vSite "PatternTree" "PatternTree$Tree" 60 0 yy_TR_mask (.code yy_TR_mask bb_TR_mask 1 (some .long)) := ⟨tw_108, tw_109, tw_110, tw_2, tw_111, ⟨by decide +kernel, by decide +kernel, by decide +kernel⟩⟩
theorem vs_PT_81 : vSite "PatternTree" "PatternTree$Tree" 81 1 yy_TR_decode (.code yy_TR_decode bb_TR_decode 7 (some .int)) := ⟨tw_113, tw_114, tw_115, tw_2, tw_116, ⟨by decide +kernel, by decide +kernel, by decide +kernel⟩⟩
theorem vs_TR_48 : vSite "PatternTree$Tree" "PatternTree$Tree" 48 3 yy_TR_node (.code yy_TR_node bb_TR_node 7 (some .int)) := ⟨tw_89, tw_91, tt_sel (q := (yy_TR_node, 11)) (List.mem_of_getElem? (i := 1) rfl), tw_2, tw_92, ⟨by decide +kernel, by decide +kernel, by decide +kernel⟩⟩
theorem vs_TR_58 : vSite "PatternTree$Tree" "PatternTree$Tree" 58 3 yy_TR_best (.code yy_TR_best bb_TR_best 11 (some .int)) := ⟨tw_93, tw_95, tt_sel (q := (yy_TR_best, 11)) (List.mem_of_getElem? (i := 2) rfl), tw_2, tw_96, ⟨by decide +kernel, by decide +kernel, by decide +kernel⟩⟩
theorem vs_TR_61 : vSite "PatternTree$Tree" "PatternTree$Tree" 61 3 yy_TR_leaf (.code yy_TR_leaf bb_TR_leaf 5 (some .int)) := ⟨tw_100, tw_102, tt_sel (q := (yy_TR_leaf, 11)) (List.mem_of_getElem? (i := 3) rfl), tw_2, tw_103, ⟨by decide +kernel, by decide +kernel, by decide +kernel⟩⟩
theorem vs_TR_65 : vSite "PatternTree$Tree" "PatternTree$Tree" 65 4 yy_TR_with (.code yy_TR_with bb_TR_with 8 (some .int)) := ⟨tw_104, tw_106, tt_sel (q := (yy_TR_with, 11)) (List.mem_of_getElem? (i := 4) rfl), tw_2, tw_107, ⟨by decide +kernel, by decide +kernel, by decide +kernel⟩⟩
theorem ss_TR_52 : sSite "PatternTree$Tree" 52 2 yy_JM_min (.code yy_JM_min bb_JM_min 2 (some .int)) := ⟨tw_97, tw_98, tw_10, tw_99, ⟨by decide +kernel, by decide +kernel, by decide +kernel⟩⟩
theorem vs_TR_69 : vSite "PatternTree$Tree" "PatternTree$Tree" 69 2 yy_TR_takes (.code yy_TR_takes bb_TR_takes 4 (some .boolean)) := ⟨tw_117, tw_118, tw_119, tw_2, tw_120, ⟨by decide +kernel, by decide +kernel, by decide +kernel⟩⟩
theorem vs_LW_7 : vSite "PatternTreeLaw" "PatternTree" 7 1 yy_PT_clear (.code yy_PT_clear bb_PT_clear 2 none) := ⟨tw_129, tw_130, tw_131, tw_1, tw_132, ⟨by decide +kernel, by decide +kernel, by decide +kernel⟩⟩
theorem ss_PT_26 : sSite "PatternTree" 26 1 yy_PT_check (.code yy_PT_check bb_PT_check 1 none) := ⟨tw_133, tw_134, tw_1, tw_135, ⟨by decide +kernel, by decide +kernel, by decide +kernel⟩⟩
theorem vs_LW_15 : vSite "PatternTreeLaw" "PatternTree" 15 2 yy_PT_add (.code yy_PT_add bb_PT_add 5 (some .int)) := ⟨tw_203, tw_204, tw_205, tw_1, tw_206, ⟨by decide +kernel, by decide +kernel, by decide +kernel⟩⟩
theorem vs_PT_64 : vSite "PatternTree" "PatternTree" 64 2 yy_PT_isPattern (.code yy_PT_isPattern bb_PT_isPattern 5 (some .boolean)) := ⟨tw_207, tw_209, tt_sel (q := (yy_PT_isPattern, 3)) (List.mem_of_getElem? (i := 6) rfl), tw_1, tw_210, ⟨by decide +kernel, by decide +kernel, by decide +kernel⟩⟩
theorem vs_PT_68 : vSite "PatternTree" "PatternTree" 68 2 yy_PT_put (.code yy_PT_put bb_PT_put 6 (some .int)) := ⟨tw_212, tw_214, tt_sel (q := (yy_PT_put, 3)) (List.mem_of_getElem? (i := 7) rfl), tw_1, tw_215, ⟨by decide +kernel, by decide +kernel, by decide +kernel⟩⟩
theorem vs_PT_47 : vSite "PatternTree" "PatternTree" 47 2 yy_PT_find2 (.code yy_PT_find2 bb_PT_find2 6 (some .int)) := ⟨tw_231, tw_233, tt_sel (q := (yy_PT_find2, 3)) (List.mem_of_getElem? (i := 8) rfl), tw_1, tw_234, ⟨by decide +kernel, by decide +kernel, by decide +kernel⟩⟩
theorem vs_PT_40 : vSite "PatternTree" "PatternTree$Tree" 40 3 yy_TR_clashes (.code yy_TR_clashes bb_TR_clashes 6 (some .boolean)) := ⟨tw_235, tw_236, tw_237, tw_2, tw_238, ⟨by decide +kernel, by decide +kernel, by decide +kernel⟩⟩
theorem vs_LW_21 : vSite "PatternTreeLaw" "PatternTree" 21 1 yy_PT_signs (.code yy_PT_signs bb_PT_signs 12 (some .int)) := ⟨tw_242, tw_243, tw_244, tw_1, tw_245, ⟨by decide +kernel, by decide +kernel, by decide +kernel⟩⟩
theorem vs_LW_25 : vSite "PatternTreeLaw" "PatternTree" 25 1 yy_PT_drop (.code yy_PT_drop bb_PT_drop 3 none) := ⟨tw_252, tw_253, tw_254, tw_1, tw_255, ⟨by decide +kernel, by decide +kernel, by decide +kernel⟩⟩
theorem ss_PT_75 : sSite "PatternTree" 75 1 yy_PT_there (.code yy_PT_there bb_PT_there 1 none) := ⟨tw_256, tw_257, tw_1, tw_258, ⟨by decide +kernel, by decide +kernel, by decide +kernel⟩⟩
theorem vs_LW_30 : vSite "PatternTreeLaw" "PatternTree" 30 2 yy_PT_meets (.code yy_PT_meets bb_PT_meets 5 (some .int)) := ⟨tw_277, tw_278, tw_279, tw_1, tw_280, ⟨by decide +kernel, by decide +kernel, by decide +kernel⟩⟩
theorem vs_LW_33 : vSite "PatternTreeLaw" "PatternTree" 33 2 yy_PT_free (.code yy_PT_free bb_PT_free 5 (some .long)) := ⟨tw_284, tw_285, tw_286, tw_1, tw_287, ⟨by decide +kernel, by decide +kernel, by decide +kernel⟩⟩
theorem vs_PT_96 : vSite "PatternTree" "PatternTree" 96 2 yy_PT_open (.code yy_PT_open bb_PT_open 8 (some .long)) := ⟨tw_288, tw_290, tt_sel (q := (yy_PT_open, 3)) (List.mem_of_getElem? (i := 9) rfl), tw_1, tw_291, ⟨by decide +kernel, by decide +kernel, by decide +kernel⟩⟩
theorem vs_PT_92 : vSite "PatternTree" "PatternTree" 92 1 yy_PT_size (.code yy_PT_size bb_PT_size 4 (some .long)) := ⟨tw_292, tw_294, tt_sel (q := (yy_PT_size, 3)) (List.mem_of_getElem? (i := 10) rfl), tw_1, tw_295, ⟨by decide +kernel, by decide +kernel, by decide +kernel⟩⟩
theorem ss_PT_87 : sSite "PatternTree" 87 1 yy_JL_bitCount (.code yy_JL_bitCount bb_JL_bitCount 2 (some .int)) := ⟨tw_296, tw_297, tw_11, tw_298, ⟨by decide +kernel, by decide +kernel, by decide +kernel⟩⟩
theorem vs_LW_37 : vSite "PatternTreeLaw" "PatternTree" 37 1 yy_PT_next (.code yy_PT_next bb_PT_next 10 (some .long)) := ⟨tw_305, tw_306, tw_307, tw_1, tw_308, ⟨by decide +kernel, by decide +kernel, by decide +kernel⟩⟩
theorem vs_PT_100 : vSite "PatternTree" "PatternTree" 100 2 yy_PT_any (.code yy_PT_any bb_PT_any 5 (some .boolean)) := ⟨tw_309, tw_311, tt_sel (q := (yy_PT_any, 3)) (List.mem_of_getElem? (i := 11) rfl), tw_1, tw_312, ⟨by decide +kernel, by decide +kernel, by decide +kernel⟩⟩
theorem vs_PT_103 : vSite "PatternTree" "PatternTree" 103 3 yy_PT_least (.code yy_PT_least bb_PT_least 11 (some .long)) := ⟨tw_313, tw_315, tt_sel (q := (yy_PT_least, 3)) (List.mem_of_getElem? (i := 12) rfl), tw_1, tw_316, ⟨by decide +kernel, by decide +kernel, by decide +kernel⟩⟩
theorem vs_LW_41 : vSite "PatternTreeLaw" "PatternTree" 41 2 yy_PT_told (.code yy_PT_told bb_PT_told 3 (some .long)) := ⟨tw_320, tw_321, tw_322, tw_1, tw_323, ⟨by decide +kernel, by decide +kernel, by decide +kernel⟩⟩
theorem vs_MO_39 : vSite "PatternTreeModel" "PatternTreeModel" 39 1 yy_MO_fail (.code yy_MO_fail bb_MO_fail 2 (some .int)) := ⟨tw_360, tw_362, tt_sel (q := (yy_MO_fail, 7)) (List.mem_of_getElem? (i := 13) rfl), tw_3, tw_363, ⟨by decide +kernel, by decide +kernel, by decide +kernel⟩⟩
theorem vs_MO_43 : vSite "PatternTreeModel" "PatternTreeModel" 43 2 yy_MO_wrong (.code yy_MO_wrong bb_MO_wrong 5 (some .boolean)) := ⟨tw_368, tw_370, tt_sel (q := (yy_MO_wrong, 7)) (List.mem_of_getElem? (i := 14) rfl), tw_3, tw_371, ⟨by decide +kernel, by decide +kernel, by decide +kernel⟩⟩
theorem vs_MO_47 : vSite "PatternTreeModel" "PatternTreeModel" 47 2 yy_MO_first (.code yy_MO_first bb_MO_first 6 (some .int)) := ⟨tw_377, tw_379, tt_sel (q := (yy_MO_first, 7)) (List.mem_of_getElem? (i := 16) rfl), tw_3, tw_380, ⟨by decide +kernel, by decide +kernel, by decide +kernel⟩⟩
theorem vs_MO_28 : vSite "PatternTreeModel" "PatternTreeModel" 28 0 yy_MO_mask (.code yy_MO_mask bb_MO_mask 1 (some .long)) := ⟨tw_373, tw_375, tt_sel (q := (yy_MO_mask, 7)) (List.mem_of_getElem? (i := 15) rfl), tw_3, tw_376, ⟨by decide +kernel, by decide +kernel, by decide +kernel⟩⟩
theorem vs_MO_35 : vSite "PatternTreeModel" "PatternTreeModel" 35 3 yy_MO_meet (.code yy_MO_meet bb_MO_meet 6 (some .boolean)) := ⟨tw_381, tw_383, tt_sel (q := (yy_MO_meet, 7)) (List.mem_of_getElem? (i := 17) rfl), tw_3, tw_384, ⟨by decide +kernel, by decide +kernel, by decide +kernel⟩⟩
theorem vs_MO_55 : vSite "PatternTreeModel" "PatternTreeModel" 55 2 yy_MO_add (.code yy_MO_add bb_MO_add 6 (some .int)) := ⟨tw_391, tw_365, tw_366, tw_3, tw_367, ⟨by decide +kernel, by decide +kernel, by decide +kernel⟩⟩
theorem vs_MO_69 : vSite "PatternTreeModel" "PatternTreeModel" 69 2 yy_MO_none (.code yy_MO_none bb_MO_none 8 (some .long)) := ⟨tw_408, tw_410, tt_sel (q := (yy_MO_none, 7)) (List.mem_of_getElem? (i := 18) rfl), tw_3, tw_411, ⟨by decide +kernel, by decide +kernel, by decide +kernel⟩⟩
theorem ss_MO_61 : sSite "PatternTreeModel" 61 1 yy_MO_bits (.code yy_MO_bits bb_MO_bits 4 (some .int)) := ⟨tw_412, tw_413, tw_3, tw_414, ⟨by decide +kernel, by decide +kernel, by decide +kernel⟩⟩
theorem ss_MO_65 : sSite "PatternTreeModel" 65 1 yy_MO_power (.code yy_MO_power bb_MO_power 1 (some .long)) := ⟨tw_415, tw_416, tw_3, tw_417, ⟨by decide +kernel, by decide +kernel, by decide +kernel⟩⟩
theorem vs_MO_73 : vSite "PatternTreeModel" "PatternTreeModel" 73 2 yy_MO_some (.code yy_MO_some bb_MO_some 5 (some .boolean)) := ⟨tw_422, tw_424, tt_sel (q := (yy_MO_some, 7)) (List.mem_of_getElem? (i := 19) rfl), tw_3, tw_425, ⟨by decide +kernel, by decide +kernel, by decide +kernel⟩⟩
theorem ss_LW_49 : sSite "PatternTreeLaw" 49 2 yy_LW_clear (tq_hd yy_LW_clear bb_LW_clear 3 (some .int) [(0, 5, 8, 13)]) := ⟨tw_125, tw_126, tw_0, tw_127, ⟨by decide +kernel, by decide +kernel, by decide +kernel⟩⟩
theorem vs_LW_54 : vSite "PatternTreeLaw" "PatternTreeModel" 54 1 yy_MO_clear (.code yy_MO_clear bb_MO_clear 2 none) := ⟨tw_356, tw_357, tw_358, tw_3, tw_359, ⟨by decide +kernel, by decide +kernel, by decide +kernel⟩⟩
theorem vs_LW_55 : vSite "PatternTreeLaw" "PatternTreeModel" 55 0 yy_MO_thrown (.code yy_MO_thrown bb_MO_thrown 1 (some .int)) := ⟨tw_352, tw_353, tw_354, tw_3, tw_355, ⟨by decide +kernel, by decide +kernel, by decide +kernel⟩⟩
theorem ss_LW_61 : sSite "PatternTreeLaw" 61 4 yy_LW_add (tq_hd yy_LW_add bb_LW_add 7 (some .int) [(0, 11, 14, 13), (0, 11, 18, 19)]) := ⟨tw_199, tw_200, tw_0, tw_201, ⟨by decide +kernel, by decide +kernel, by decide +kernel⟩⟩
theorem vs_LW_64 : vSite "PatternTreeLaw" "PatternTreeModel" 64 2 yy_MO_add (.code yy_MO_add bb_MO_add 6 (some .int)) := ⟨tw_364, tw_365, tw_366, tw_3, tw_367, ⟨by decide +kernel, by decide +kernel, by decide +kernel⟩⟩
theorem ss_LW_65 : sSite "PatternTreeLaw" 65 3 yy_LW_signs (tq_hd yy_LW_signs bb_LW_signs 5 (some .int) [(0, 9, 12, 13), (0, 9, 16, 19)]) := ⟨tw_239, tw_240, tw_0, tw_241, ⟨by decide +kernel, by decide +kernel, by decide +kernel⟩⟩
theorem vs_LW_68 : vSite "PatternTreeLaw" "PatternTreeModel" 68 1 yy_MO_signs (.code yy_MO_signs bb_MO_signs 12 (some .int)) := ⟨tw_385, tw_386, tw_387, tw_3, tw_388, ⟨by decide +kernel, by decide +kernel, by decide +kernel⟩⟩
theorem ss_LW_69 : sSite "PatternTreeLaw" 69 2 yy_LW_drop (tq_hd yy_LW_drop bb_LW_drop 3 (some .int) [(0, 5, 8, 28)]) := ⟨tw_248, tw_249, tw_0, tw_250, ⟨by decide +kernel, by decide +kernel, by decide +kernel⟩⟩
theorem vs_LW_71 : vSite "PatternTreeLaw" "PatternTreeModel" 71 1 yy_MO_drop (.code yy_MO_drop bb_MO_drop 3 none) := ⟨tw_392, tw_393, tw_394, tw_3, tw_395, ⟨by decide +kernel, by decide +kernel, by decide +kernel⟩⟩
theorem vs_LW_72 : vSite "PatternTreeLaw" "PatternTree" 72 1 yy_PT_decode (.code yy_PT_decode bb_PT_decode 3 (some .int)) := ⟨tw_77, tw_78, tw_79, tw_1, tw_80, ⟨by decide +kernel, by decide +kernel, by decide +kernel⟩⟩
theorem vs_LW_75 : vSite "PatternTreeLaw" "PatternTreeModel" 75 1 yy_MO_decode (.code yy_MO_decode bb_MO_decode 6 (some .int)) := ⟨tw_396, tw_397, tw_398, tw_3, tw_399, ⟨by decide +kernel, by decide +kernel, by decide +kernel⟩⟩
theorem ss_LW_76 : sSite "PatternTreeLaw" 76 4 yy_LW_meets (tq_hd yy_LW_meets bb_LW_meets 7 (some .int) [(0, 11, 14, 13)]) := ⟨tw_274, tw_275, tw_0, tw_276, ⟨by decide +kernel, by decide +kernel, by decide +kernel⟩⟩
theorem vs_LW_78 : vSite "PatternTreeLaw" "PatternTreeModel" 78 2 yy_MO_meets (.code yy_MO_meets bb_MO_meets 5 (some .int)) := ⟨tw_400, tw_401, tw_402, tw_3, tw_403, ⟨by decide +kernel, by decide +kernel, by decide +kernel⟩⟩
theorem ss_LW_79 : sSite "PatternTreeLaw" 79 4 yy_LW_free (tq_hd yy_LW_free bb_LW_free 7 (some .int) [(0, 10, 13, 13)]) := ⟨tw_281, tw_282, tw_0, tw_283, ⟨by decide +kernel, by decide +kernel, by decide +kernel⟩⟩
theorem vs_LW_81 : vSite "PatternTreeLaw" "PatternTreeModel" 81 2 yy_MO_free (.code yy_MO_free bb_MO_free 5 (some .long)) := ⟨tw_404, tw_405, tw_406, tw_3, tw_407, ⟨by decide +kernel, by decide +kernel, by decide +kernel⟩⟩
theorem ss_LW_82 : sSite "PatternTreeLaw" 82 3 yy_LW_next (tq_hd yy_LW_next bb_LW_next 5 (some .int) [(0, 8, 11, 28)]) := ⟨tw_302, tw_303, tw_0, tw_304, ⟨by decide +kernel, by decide +kernel, by decide +kernel⟩⟩
theorem vs_LW_84 : vSite "PatternTreeLaw" "PatternTreeModel" 84 1 yy_MO_next (.code yy_MO_next bb_MO_next 13 (some .long)) := ⟨tw_418, tw_419, tw_420, tw_3, tw_421, ⟨by decide +kernel, by decide +kernel, by decide +kernel⟩⟩
theorem ss_LW_85 : sSite "PatternTreeLaw" 85 4 yy_LW_told (tq_hd yy_LW_told bb_LW_told 5 (some .int) [(0, 9, 12, 13), (0, 9, 16, 28)]) := ⟨tw_317, tw_318, tw_0, tw_319, ⟨by decide +kernel, by decide +kernel, by decide +kernel⟩⟩
theorem vs_LW_88 : vSite "PatternTreeLaw" "PatternTreeModel" 88 2 yy_MO_told (.code yy_MO_told bb_MO_told 3 (some .long)) := ⟨tw_426, tw_427, tw_428, tw_3, tw_429, ⟨by decide +kernel, by decide +kernel, by decide +kernel⟩⟩
theorem vs_LW_89 : vSite "PatternTreeLaw" "PatternTree" 89 1 yy_PT_count (.code yy_PT_count bb_PT_count 2 (some .int)) := ⟨tw_121, tw_122, tw_123, tw_1, tw_124, ⟨by decide +kernel, by decide +kernel, by decide +kernel⟩⟩
theorem vs_LW_93 : vSite "PatternTreeLaw" "PatternTreeModel" 93 1 yy_MO_count (.code yy_MO_count bb_MO_count 2 (some .int)) := ⟨tw_430, tw_431, tw_432, tw_3, tw_433, ⟨by decide +kernel, by decide +kernel, by decide +kernel⟩⟩
end
section
/-! bits (ts_bit and the wb rows: out of laws/BITS.to-paste, a starting text) -/
theorem ts_bit {w : Int64} {s : UInt64} {j : Nat} (hj : j < 64) (hs : s.toNat = j) : ((w.toUInt64 >>> s).toInt64 &&& 1) = 0 ↔ w.toBitVec.getLsbD j = false := by
  have e : (w.toUInt64 >>> s).toInt64.toBitVec = w.toBitVec >>> j := by
    apply BitVec.eq_of_toNat_eq
    show (w.toUInt64 >>> s).toNat = _
    rw [UInt64.toNat_shiftRight, hs, Nat.mod_eq_of_lt hj, BitVec.toNat_ushiftRight]
    rfl
  rw [← Int64.toBitVec_inj, Int64.toBitVec_and, e]
  show w.toBitVec >>> j &&& 1#64 = 0#64 ↔ _
  constructor
  · intro h
    have t := congrArg (fun x => x.getLsbD 0) h
    simpa using t
  · intro h
    apply BitVec.eq_of_getLsbD_eq
    intro i hi
    cases i with
    | zero => simp [h]
    | succ i => simp
theorem wb_tb (n : Nat) : (lN n).toBitVec = BitVec.ofNat 64 n := rfl
theorem wb_inj {a b : Int64} (h : a.toBitVec = b.toBitVec) : a = b := Int64.toBitVec_inj.mp h
theorem wb_tn {n : Nat} (h : n < 2 ^ 64) : (lN n).toBitVec.toNat = n := by rw [wb_tb, BitVec.toNat_ofNat, Nat.mod_eq_of_lt h]
theorem wb_of (x : Int64) : ∃ n, n < 2 ^ 64 ∧ x = lN n := ⟨x.toBitVec.toNat, x.toBitVec.isLt, wb_inj (by rw [wb_tb]; simp)⟩
theorem wb_of32 (x : Int32) : ∃ n, n < 2 ^ 32 ∧ x = nI n := ⟨x.toBitVec.toNat, x.toBitVec.isLt, Int32.toBitVec_inj.mp (by show _ = BitVec.ofNat 32 _; simp)⟩
theorem wb_c : ∀ k, k < 64 → ((nI k).toInt64 &&& 63) = lN k := by decide +kernel
theorem wb_cu : ∀ k, k < 64 → ((nI k).toInt64.toUInt64 &&& Int64.toUInt64 63) = UInt64.ofNat k := by decide +kernel
theorem wb_sm : ∀ k, k < 64 → (BitVec.ofNat 64 k).smod 64 = BitVec.ofNat 64 k := by decide +kernel
theorem wb_pw {a b : Nat} (h : a ≤ b) : 2 ^ b = 2 ^ a * 2 ^ (b - a) := by rw [← Nat.pow_add]; congr 1; omega
theorem wb_lt2 {a b : Nat} (h : a < b) : 2 ^ a < 2 ^ b := Nat.pow_lt_pow_right (by decide) h
theorem wb_mod (n : Nat) : lN n = lN (n % 2 ^ 64) := wb_inj (by rw [wb_tb, wb_tb]; apply BitVec.eq_of_toNat_eq; rw [BitVec.toNat_ofNat, BitVec.toNat_ofNat, Nat.mod_mod])
theorem wb_shr {n k : Nat} (hn : n < 2 ^ 64) (hk : k < 64) : ((lN n).toUInt64 >>> ((nI k).toInt64.toUInt64 &&& Int64.toUInt64 63)).toInt64 = lN (n / 2 ^ k) := by
  rw [wb_cu k hk]
  apply wb_inj
  apply BitVec.eq_of_toNat_eq
  show ((lN n).toUInt64 >>> UInt64.ofNat k).toNat = (BitVec.ofNat 64 _).toNat
  have h1 : (UInt64.ofNat k).toNat = k := by
    show (BitVec.ofNat 64 k).toNat = k
    rw [BitVec.toNat_ofNat, Nat.mod_eq_of_lt (by omega)]
  have h2 : (lN n).toUInt64.toNat = n := wb_tn hn
  rw [UInt64.toNat_shiftRight, h1, h2, Nat.mod_eq_of_lt hk, Nat.shiftRight_eq_div_pow, BitVec.toNat_ofNat, Nat.mod_eq_of_lt (Nat.lt_of_le_of_lt (Nat.div_le_self _ _) hn)]
theorem wb_shl (n : Nat) {k : Nat} (hk : k < 64) : lN n <<< ((nI k).toInt64 &&& 63) = lN (n * 2 ^ k) := by
  rw [wb_c k hk]
  apply wb_inj
  rw [Int64.toBitVec_shiftLeft, wb_tb, wb_tb, wb_tb, wb_sm k hk]
  apply BitVec.eq_of_toNat_eq
  rw [BitVec.shiftLeft_eq', BitVec.toNat_shiftLeft, BitVec.toNat_ofNat, BitVec.toNat_ofNat, BitVec.toNat_ofNat, Nat.mod_eq_of_lt (show k < 2 ^ 64 by omega), Nat.shiftLeft_eq, Nat.mul_mod, Nat.mod_mod, ← Nat.mul_mod]
theorem wb_and {a b : Nat} (ha : a < 2 ^ 64) (hb : b < 2 ^ 64) : lN a &&& lN b = lN (a &&& b) := by
  apply wb_inj
  rw [Int64.toBitVec_and, wb_tb, wb_tb, wb_tb]
  apply BitVec.eq_of_toNat_eq
  rw [BitVec.toNat_and, BitVec.toNat_ofNat, BitVec.toNat_ofNat, BitVec.toNat_ofNat, Nat.mod_eq_of_lt ha, Nat.mod_eq_of_lt hb, Nat.mod_eq_of_lt (Nat.and_lt_two_pow _ hb)]
theorem wb_or {a b : Nat} (ha : a < 2 ^ 64) (hb : b < 2 ^ 64) : lN a ||| lN b = lN (a ||| b) := by
  apply wb_inj
  rw [Int64.toBitVec_or, wb_tb, wb_tb, wb_tb]
  apply BitVec.eq_of_toNat_eq
  rw [BitVec.toNat_or, BitVec.toNat_ofNat, BitVec.toNat_ofNat, BitVec.toNat_ofNat, Nat.mod_eq_of_lt ha, Nat.mod_eq_of_lt hb, Nat.mod_eq_of_lt (Nat.or_lt_two_pow ha hb)]
theorem wb_mask {n k : Nat} (hn : n < 2 ^ 64) (hk : k < 64) : lN n &&& lN (2 ^ k - 1) = lN (n % 2 ^ k) := by
  rw [wb_and hn (by have := wb_lt2 hk; omega), Nat.and_two_pow_sub_one_eq_mod]
theorem wb_a1 {n : Nat} (hn : n < 2 ^ 64) : lN n &&& 1 = lN (n % 2) := wb_mask (k := 1) hn (by decide)
theorem wb_bit {n k : Nat} (hn : n < 2 ^ 64) (hk : k < 64) : ((lN n).toUInt64 >>> ((nI k).toInt64.toUInt64 &&& Int64.toUInt64 63)).toInt64 &&& 1 = lN (n / 2 ^ k % 2) := by
  rw [wb_shr hn hk, wb_a1 (Nat.lt_of_le_of_lt (Nat.div_le_self _ _) hn)]
/-! Long.bitCount -/
def ush (x : Int64) (k : Int32) : Int64 := (x.toUInt64 >>> (k.toInt64.toUInt64 &&& Int64.toUInt64 63)).toInt64
def bc1 (x : Int64) : Int64 := x - (ush x 1 &&& 6148914691236517205)
def bc2 (x : Int64) : Int64 := (x &&& 3689348814741910323) + (ush x 2 &&& 3689348814741910323)
def bc3 (x : Int64) : Int64 := (x + ush x 4) &&& 1085102592571150095
def bc4 (x : Int64) : Int64 := x + ush x 8
def bc5 (x : Int64) : Int64 := x + ush x 16
def bc6 (x : Int64) : Int64 := x + ush x 32
def bcx (x : Int64) : Int32 := (bc6 (bc5 (bc4 (bc3 (bc2 (bc1 x)))))).toInt32 &&& 127
def bm (m : Nat) : Nat → Nat
  | 0 => 0
  | n + 1 => m + 256 * bm m n
def bn1 (n N : Nat) : Nat := N - (N / 2 ^ 1 &&& bm 85 n)
def bn2 (n N : Nat) : Nat := (N / 2 ^ 0 &&& bm 51 n) + (N / 2 ^ 2 &&& bm 51 n)
def bn3 (n N : Nat) : Nat := (N + N / 16) / 2 ^ 0 &&& bm 15 n
def bnF (n N : Nat) : Nat := bn3 n (bn2 n (bn1 n N))
def bq (a : Nat) : Nat := ((bn2 1 (bn1 1 a)) + (bn2 1 (bn1 1 a)) / 16) % 16
def pcN (N : Nat) : Nat → Nat
  | 0 => 0
  | i + 1 => pcN N i + (if N.testBit i then 1 else 0)
theorem bm_and {a y m M k : Nat} (ha : a < 256) (hk : k ≤ 8) (hm : m < 2 ^ (8 - k)) : ((a + 256 * y) / 2 ^ k &&& (m + 256 * M)) = ((a / 2 ^ k) &&& m) + 256 * ((y / 2 ^ k) &&& M) := by
  have hm8 : m < 2 ^ 8 := Nat.lt_of_lt_of_le hm (Nat.pow_le_pow_right (by decide) (by omega))
  apply Nat.eq_of_testBit_eq
  intro i
  have e1 : a + 256 * y = 2 ^ 8 * y + a := by omega
  have e2 : m + 256 * M = 2 ^ 8 * M + m := by omega
  have h3 : (a / 2 ^ k &&& m) < 2 ^ 8 := Nat.lt_of_le_of_lt Nat.and_le_right hm8
  have e3 : (a / 2 ^ k &&& m) + 256 * (y / 2 ^ k &&& M) = 2 ^ 8 * (y / 2 ^ k &&& M) + (a / 2 ^ k &&& m) := by omega
  rw [e1, e2, e3, Nat.testBit_and, Nat.testBit_div_two_pow, Nat.testBit_two_pow_mul_add _ (show a < 2 ^ 8 from ha), Nat.testBit_two_pow_mul_add _ hm8, Nat.testBit_two_pow_mul_add _ h3]
  by_cases h : i < 8
  · rw [if_pos h, if_pos h]
    by_cases h2 : i + k < 8
    · rw [if_pos h2, Nat.testBit_and, Nat.testBit_div_two_pow]
    · have h4 : m.testBit i = false := Nat.testBit_lt_two_pow (Nat.lt_of_lt_of_le hm (Nat.pow_le_pow_right (by decide) (by omega)))
      rw [h4, Bool.and_false, Nat.testBit_and, h4, Bool.and_false]
  · rw [if_neg h, if_neg h, if_neg (by omega), Nat.testBit_and, Nat.testBit_div_two_pow, show i + k - 8 = i - 8 + k by omega]
theorem bn1_s {a y n : Nat} (ha : a < 256) : bn1 (n + 1) (a + 256 * y) = bn1 1 a + 256 * bn1 n y := by
  unfold bn1
  show _ - ((a + 256 * y) / 2 ^ 1 &&& (85 + 256 * bm 85 n)) = a - (a / 2 ^ 1 &&& 85) + _
  rw [bm_and ha (by decide) (by decide)]
  have h1 : (a / 2 ^ 1 &&& 85) ≤ a := Nat.le_trans Nat.and_le_left (Nat.div_le_self _ _)
  have h2 : (y / 2 ^ 1 &&& bm 85 n) ≤ y := Nat.le_trans Nat.and_le_left (Nat.div_le_self _ _)
  omega
theorem bn2_s {a y n : Nat} (ha : a < 256) : bn2 (n + 1) (a + 256 * y) = bn2 1 a + 256 * bn2 n y := by
  unfold bn2
  show ((a + 256 * y) / 2 ^ 0 &&& (51 + 256 * bm 51 n)) + ((a + 256 * y) / 2 ^ 2 &&& (51 + 256 * bm 51 n)) = (a / 2 ^ 0 &&& 51) + (a / 2 ^ 2 &&& 51) + _
  rw [bm_and ha (by decide) (by decide), bm_and ha (by decide) (by decide)]
  omega
theorem bn1_lt : ∀ a, a < 256 → bn1 1 a < 256 := by decide +kernel
theorem bn2_lt : ∀ a, a < 256 → bn2 1 (bn1 1 a) ≤ 68 ∧ bn2 1 (bn1 1 a) / 16 ≤ 4 ∧ bn2 1 (bn1 1 a) % 16 ≤ 4 := by decide +kernel
theorem bq_pc : ∀ a, a < 256 → bq a = pcN a 8 := by decide +kernel
theorem bn_ok (n N : Nat) : bn2 n (bn1 n N) % 16 ≤ 4 := by
  cases n with
  | zero => simp [bn2, bm]
  | succ n =>
    have e : N = N % 256 + 256 * (N / 256) := by omega
    have h1 : N % 256 < 256 := Nat.mod_lt _ (by decide)
    rw [e, bn1_s h1, bn2_s (bn1_lt _ h1)]
    have := (bn2_lt _ h1).2.2
    omega
theorem bnF_s {a y n : Nat} (ha : a < 256) : bnF (n + 1) (a + 256 * y) = bq a + 256 * bnF n y := by
  unfold bnF
  rw [bn1_s ha, bn2_s (bn1_lt _ ha)]
  have h1 := bn2_lt a ha
  have h2 := bn_ok n y
  unfold bq
  generalize bn2 1 (bn1 1 a) = b at h1 ⊢
  generalize bn2 n (bn1 n y) = z at h2 ⊢
  unfold bn3
  have e : b + 256 * z + (b + 256 * z) / 16 = (b + b / 16 + 16 * (z % 16)) + 256 * (z + z / 16) := by omega
  show _ / 2 ^ 0 &&& (15 + 256 * bm 15 n) = _
  rw [e, bm_and (by omega) (by decide) (by decide)]
  have e2 : (b + b / 16 + 16 * (z % 16)) / 2 ^ 0 &&& 15 = (b + b / 16) % 16 := by
    rw [show (15 : Nat) = 2 ^ 4 - 1 from rfl, Nat.and_two_pow_sub_one_eq_mod]
    omega
  rw [e2]
theorem pcN_congr {N N' : Nat} : ∀ k, (∀ i, i < k → N.testBit i = N'.testBit i) → pcN N k = pcN N' k
  | 0, _ => rfl
  | k + 1, h => by simp only [pcN]; rw [pcN_congr k (fun i hi => h i (by omega)), h k (by omega)]
theorem pcN_s {a y : Nat} (ha : a < 256) : ∀ n, pcN (a + 256 * y) (8 + n) = pcN a 8 + pcN y n
  | 0 => by
    show pcN (a + 256 * y) 8 = pcN a 8 + 0
    rw [Nat.add_zero]
    refine pcN_congr 8 fun i hi => ?_
    rw [show a + 256 * y = 2 ^ 8 * y + a by omega, Nat.testBit_two_pow_mul_add _ (show a < 2 ^ 8 from ha), if_pos hi]
  | n + 1 => by
    show pcN (a + 256 * y) (8 + n) + _ = pcN a 8 + (pcN y n + _)
    have e9 : (a + 256 * y).testBit (8 + n) = y.testBit n := by
      rw [show a + 256 * y = 2 ^ 8 * y + a by omega, Nat.testBit_two_pow_mul_add _ (show a < 2 ^ 8 from ha), if_neg (by omega), show 8 + n - 8 = n by omega]
    have e8 : (a + 256 * y).testBit (Nat.add 8 n) = y.testBit n := e9
    rw [pcN_s ha n, e8]
    omega
theorem bnF_0 (N : Nat) : bnF 0 N = 0 := by simp [bnF, bn3, bm]
theorem bq_le : ∀ a, a < 256 → bq a ≤ 8 := by decide +kernel
theorem bc_all (N : Nat) : ∃ q0 q1 q2 q3 q4 q5 q6 q7 : Nat, q0 ≤ 8 ∧ q1 ≤ 8 ∧ q2 ≤ 8 ∧ q3 ≤ 8 ∧ q4 ≤ 8 ∧ q5 ≤ 8 ∧ q6 ≤ 8 ∧ q7 ≤ 8 ∧ bnF 8 N = q0 + 256 * (q1 + 256 * (q2 + 256 * (q3 + 256 * (q4 + 256 * (q5 + 256 * (q6 + 256 * q7)))))) ∧ pcN N 64 = q0 + (q1 + (q2 + (q3 + (q4 + (q5 + (q6 + q7)))))) := by
  have step : ∀ (n M : Nat), ∃ q y, q ≤ 8 ∧ bnF (n + 1) M = q + 256 * bnF n y ∧ pcN M (8 + 8 * n) = q + pcN y (8 * n) := by
    intro n M
    have h1 : M % 256 < 256 := Nat.mod_lt _ (by decide)
    have e : M = M % 256 + 256 * (M / 256) := by omega
    refine ⟨bq (M % 256), M / 256, bq_le _ h1, ?_, ?_⟩
    · conv => lhs; rw [e]
      exact bnF_s h1
    · conv => lhs; rw [e]
      rw [pcN_s h1, bq_pc _ h1]
  obtain ⟨q0, y0, l0, f0, p0⟩ := step 7 N
  obtain ⟨q1, y1, l1, f1, p1⟩ := step 6 y0
  obtain ⟨q2, y2, l2, f2, p2⟩ := step 5 y1
  obtain ⟨q3, y3, l3, f3, p3⟩ := step 4 y2
  obtain ⟨q4, y4, l4, f4, p4⟩ := step 3 y3
  obtain ⟨q5, y5, l5, f5, p5⟩ := step 2 y4
  obtain ⟨q6, y6, l6, f6, p6⟩ := step 1 y5
  obtain ⟨q7, y7, l7, f7, p7⟩ := step 0 y6
  refine ⟨q0, q1, q2, q3, q4, q5, q6, q7, l0, l1, l2, l3, l4, l5, l6, l7, ?_, ?_⟩
  · rw [f0, f1, f2, f3, f4, f5, f6, f7, bnF_0, Nat.mul_zero, Nat.add_zero]
  · have z : pcN y7 (8 * 0) = 0 := rfl
    rw [z] at p7
    rw [show (64 : Nat) = 8 + 8 * 7 from rfl, p0, show 8 * 7 = 8 + 8 * 6 from rfl, p1, show 8 * 6 = 8 + 8 * 5 from rfl, p2, show 8 * 5 = 8 + 8 * 4 from rfl, p3, show 8 * 4 = 8 + 8 * 3 from rfl, p4, show 8 * 3 = 8 + 8 * 2 from rfl, p5, show 8 * 2 = 8 + 8 * 1 from rfl, p6, show 8 * 1 = 8 + 8 * 0 from rfl, p7, Nat.add_zero]
theorem dv1 {x a y : Nat} (h : x = a + 256 * y) (ha : a < 256) : x / 2 ^ 8 = y := by omega
theorem dv2 {x a b y : Nat} (h : x = a + 256 * (b + 256 * y)) (ha : a < 256) (hb : b < 256) : x / 2 ^ 16 = y := by omega
theorem dv4 {x a b c d y : Nat} (h : x = a + 256 * (b + 256 * (c + 256 * (d + 256 * y)))) (ha : a < 256) (hb : b < 256) (hc : c < 256) (hd : d < 256) : x / 2 ^ 32 = y := by omega
theorem dvm {q z : Nat} (h : q < 128) : (q + 256 * z) % 2 ^ 32 % 2 ^ 7 = q := by omega
theorem dvF {x q0 q1 q2 q3 q4 q5 q6 q7 x1 x2 x3 x4 x5 x6 : Nat} (l0 : q0 ≤ 8) (l1 : q1 ≤ 8) (l2 : q2 ≤ 8) (l3 : q3 ≤ 8) (l4 : q4 ≤ 8) (l5 : q5 ≤ 8) (l6 : q6 ≤ 8) (l7 : q7 ≤ 8)
    (h0 : x = q0 + 256 * x1) (h1 : x1 = q1 + 256 * x2) (h2 : x2 = q2 + 256 * x3) (h3 : x3 = q3 + 256 * x4) (h4 : x4 = q4 + 256 * x5) (h5 : x5 = q5 + 256 * x6) (h6 : x6 = q6 + 256 * q7) :
    (x + x / 2 ^ 8 + (x + x / 2 ^ 8) / 2 ^ 16 + (x + x / 2 ^ 8 + (x + x / 2 ^ 8) / 2 ^ 16) / 2 ^ 32) % 2 ^ 32 % 2 ^ 7 = q0 + (q1 + (q2 + (q3 + (q4 + (q5 + (q6 + q7)))))) := by
  rw [dv1 h0 (by omega)]
  rw [dv2 (x := x + x1) (a := q0 + q1) (b := q1 + q2) (y := x2 + x3) (by omega) (by omega) (by omega)]
  rw [dv4 (x := x + x1 + (x2 + x3)) (a := q0 + q1 + (q2 + q3)) (b := q1 + q2 + (q3 + q4)) (c := q2 + q3 + (q4 + q5)) (d := q3 + q4 + (q5 + q6)) (y := x4 + x5 + (x6 + q7)) (by omega) (by omega) (by omega) (by omega) (by omega)]
  rw [show x + x1 + (x2 + x3) + (x4 + x5 + (x6 + q7)) = q0 + (q1 + (q2 + (q3 + (q4 + (q5 + (q6 + q7)))))) + 256 * (x1 + x2 + x3 + x4 + x5 + x6 + q7) by omega]
  exact dvm (by omega)
theorem dvB {x q0 q1 q2 q3 q4 q5 q6 q7 x1 x2 x3 x4 x5 x6 : Nat} (l0 : q0 ≤ 8) (l1 : q1 ≤ 8) (l2 : q2 ≤ 8) (l3 : q3 ≤ 8) (l4 : q4 ≤ 8) (l5 : q5 ≤ 8) (l6 : q6 ≤ 8) (l7 : q7 ≤ 8)
    (h0 : x = q0 + 256 * x1) (h1 : x1 = q1 + 256 * x2) (h2 : x2 = q2 + 256 * x3) (h3 : x3 = q3 + 256 * x4) (h4 : x4 = q4 + 256 * x5) (h5 : x5 = q5 + 256 * x6) (h6 : x6 = q6 + 256 * q7) : x < 2 ^ 60 := by omega
theorem dvL {x y z : Nat} (h : x < 2 ^ 60) : x < 2 ^ 64 ∧ x + x / 2 ^ 8 < 2 ^ 64 ∧ x + x / 2 ^ 8 + (x + x / 2 ^ 8) / 2 ^ 16 < 2 ^ 64 := by omega
theorem ush_n {n k : Nat} (hn : n < 2 ^ 64) (hk : k < 64) : ush (lN n) (nI k) = lN (n / 2 ^ k) := wb_shr hn hk
theorem bcx_n {N : Nat} (hN : N < 2 ^ 64) : bcx (lN N) = nI (pcN N 64) := by
  have e1 : bc1 (lN N) = lN (bn1 8 N) := by
    unfold bc1 bn1
    rw [show ush (lN N) 1 = lN (N / 2 ^ 1) from ush_n (k := 1) hN (by decide), show (6148914691236517205 : Int64) = lN (bm 85 8) by decide +kernel, wb_and (Nat.lt_of_le_of_lt (Nat.div_le_self _ _) hN) (by decide +kernel), lN_sub (Nat.le_trans Nat.and_le_left (Nat.div_le_self _ _))]
  have h1 : bn1 8 N < 2 ^ 64 := Nat.lt_of_le_of_lt (Nat.sub_le _ _) hN
  have e2 : bc2 (lN (bn1 8 N)) = lN (bn2 8 (bn1 8 N)) := by
    unfold bc2 bn2
    rw [show ush (lN (bn1 8 N)) 2 = lN (bn1 8 N / 2 ^ 2) from ush_n (k := 2) h1 (by decide), show (3689348814741910323 : Int64) = lN (bm 51 8) by decide +kernel, wb_and h1 (by decide +kernel), wb_and (Nat.lt_of_le_of_lt (Nat.div_le_self _ _) h1) (by decide +kernel), lN_add, Nat.pow_zero, Nat.div_one]
  have h2 : bn2 8 (bn1 8 N) < 2 ^ 63 := by
    unfold bn2
    have a1 : (bn1 8 N / 2 ^ 0 &&& bm 51 8) ≤ bm 51 8 := Nat.and_le_right
    have a2 : (bn1 8 N / 2 ^ 2 &&& bm 51 8) ≤ bm 51 8 := Nat.and_le_right
    have a3 : bm 51 8 = 3689348814741910323 := by decide +kernel
    omega
  have e3 : bc3 (lN (bn2 8 (bn1 8 N))) = lN (bnF 8 N) := by
    unfold bc3 bnF bn3
    rw [show ush (lN (bn2 8 (bn1 8 N))) 4 = lN (bn2 8 (bn1 8 N) / 2 ^ 4) from ush_n (k := 4) (by omega) (by decide), lN_add, show (1085102592571150095 : Int64) = lN (bm 15 8) by decide +kernel, wb_and (by omega) (by decide +kernel), Nat.pow_zero, Nat.div_one]
  obtain ⟨q0, q1, q2, q3, q4, q5, q6, q7, l0, l1, l2, l3, l4, l5, l6, l7, hf, hp⟩ := bc_all N
  unfold bcx
  rw [e1, e2, e3, hp]
  generalize bnF 8 N = x at hf
  have hx := dvB (x := x) l0 l1 l2 l3 l4 l5 l6 l7 hf rfl rfl rfl rfl rfl rfl
  obtain ⟨b1, b2, b3⟩ := dvL (y := 0) (z := 0) hx
  have hF := dvF (x := x) l0 l1 l2 l3 l4 l5 l6 l7 hf rfl rfl rfl rfl rfl rfl
  unfold bc4
  rw [show ush (lN x) 8 = lN (x / 2 ^ 8) from ush_n (k := 8) b1 (by decide), lN_add]
  unfold bc5
  rw [show ush (lN (x + x / 2 ^ 8)) 16 = lN ((x + x / 2 ^ 8) / 2 ^ 16) from ush_n (k := 16) b2 (by decide), lN_add]
  unfold bc6
  rw [show ush (lN (x + x / 2 ^ 8 + (x + x / 2 ^ 8) / 2 ^ 16)) 32 = lN ((x + x / 2 ^ 8 + (x + x / 2 ^ 8) / 2 ^ 16) / 2 ^ 32) from ush_n (k := 32) b3 (by decide), lN_add, lN_i, pk_and _ 7 (by decide)]
  have e5 : ∀ M : Nat, (nI M).toBitVec.toNat = M % 2 ^ 32 := fun M => by show (BitVec.ofNat 32 M).toNat = _; rw [BitVec.toNat_ofNat]
  rw [e5, hF]
theorem pcn_N (v : Int64) : ∀ k, pcn v k = pcN v.toBitVec.toNat k
  | 0 => rfl
  | k + 1 => by simp only [pcn, pcN, pcn_N v k]; rfl
theorem bcx_eq (v : Int64) : bcx v = nI (pcnt v) := by
  obtain ⟨n, hn, rfl⟩ := wb_of v
  rw [bcx_n hn, pcnt, pcn_N, wb_tn hn]
end
section
/-! single bits; the tree as it should be -/
theorem ubit0 {x : Int64} {b : Nat} (hb : b < 64) : ((x.toUInt64 >>> ((nI b).toInt64.toUInt64 &&& Int64.toUInt64 63)).toInt64 &&& 1) = 0 ↔ bt x b = false := by
  refine ts_bit hb ?_
  rw [wb_cu b hb]
  show (BitVec.ofNat 64 b).toNat = b
  rw [BitVec.toNat_ofNat, Nat.mod_eq_of_lt (by omega)]
theorem ubit1 {x : Int64} {b : Nat} (hb : b < 64) : ((x.toUInt64 >>> ((nI b).toInt64.toUInt64 &&& Int64.toUInt64 63)).toInt64 &&& 1) = if bt x b then 1 else 0 := by
  cases h : bt x b with
  | false => exact (ubit0 hb).mpr h
  | true =>
    obtain ⟨n, hn, rfl⟩ := wb_of x
    rw [wb_bit hn hb]
    have h2 : n / 2 ^ b % 2 = 1 := by
      have h3 : n.testBit b = true := by
        have h4 : (lN n).toBitVec.toNat.testBit b = true := h
        rwa [wb_tn hn] at h4
      rw [Nat.testBit_eq_decide_div_mod_eq] at h3
      simpa using h3
    rw [h2]; rfl
def okc (ca wa : Nat → Int64) (b : Nat) (so : Bool) (k : Nat) : Bool := !(bt (ca k) b) || (bt (wa k) b == so)
def LF (bi le ri li : Nat → Int32) (lo hi lm q : Nat) (L : List Nat) : Prop :=
  lo ≤ q ∧ q < hi ∧ bi q = -1 ∧ (ri q = -1 ∨ (ri q = nI L.length ∧ L.length ≤ 512 ∧ ∃ o, le q = nI o ∧ o + L.length ≤ lm ∧ ∀ i x, L[i]? = some x → li (o + i) = nI x))
def TG (ca wa : Nat → Int64) (len : Nat) (bi le ri li : Nat → Int32) (lo hi lm : Nat) : Nat → Nat → List Nat → Prop
  | 0, q, L => LF bi le ri li lo hi lm q L
  | d + 1, q, L => LF bi le ri li lo hi lm q L ∨ (lo ≤ q ∧ q < hi ∧ ∃ b l r, b < len ∧ bi q = nI b ∧ le q = nI l ∧ ri q = nI r ∧
      TG ca wa len bi le ri li lo hi lm d l (L.filter (okc ca wa b false)) ∧ TG ca wa len bi le ri li lo hi lm d r (L.filter (okc ca wa b true)))
theorem bt_and (x y : Int64) (i : Nat) : bt (x &&& y) i = (bt x i && bt y i) := by simp [bt, BitVec.getLsbD_and]
theorem bt_or (x y : Int64) (i : Nat) : bt (x ||| y) i = (bt x i || bt y i) := by simp [bt, BitVec.getLsbD_or]
theorem bt_xor (x y : Int64) (i : Nat) : bt (x ^^^ y) i = (bt x i ^^ bt y i) := by simp [bt, BitVec.getLsbD_xor]
theorem bt_ext {x y : Int64} (h : ∀ i, i < 64 → bt x i = bt y i) : x = y := wb_inj (BitVec.eq_of_getLsbD_eq fun i hi => h i hi)
theorem bt_big {x : Int64} {i : Nat} (h : 64 ≤ i) : bt x i = false := BitVec.getLsbD_of_ge _ _ h
theorem tk_okc {ca wa : Nat → Int64} {w : Int64} {k b : Nat} (h : tk ca wa w k = true) : okc ca wa b (bt w b) k = true := by
  have h1 : (w &&& ca k) = wa k := of_decide_eq_true h
  unfold okc
  rw [← h1, bt_and]
  cases bt (ca k) b <;> simp
end
section
set_option maxRecDepth 20000 in
theorem c_TR_mask (l : Launch) (D : va_G) (cI cL : ClassId) (h : Nat → Nat) (g cl : Int32) (len n : Nat) (ca wa : Nat → Int64) (z : ZT) (hlen : len ≤ 64) : RdL l yy_TR_mask bb_TR_mask 1 (some .long) (rmK 0) D cI cL [.ref (h 1)] (wX cI cL h g cl len n ca wa z) (fun r => r = mk len) := by
  refine RdL.mk (by decide) (Nat.le_of_ble_eq_true rfl) ?_
  intro p e s m below meth c Q hx hb hml hown hT hK hP ret ls hl
  have hown : s.vm.findClass "PatternTree$Tree" = some m.cls := hown
  have hl : lv_has ls 1 [(0, .ref (h 1))] := hl
  refine lv_aload_n hx hb dd_TR_mask_0 rfl (lv_at hl 0 rfl) ?_
  refine va_get (D := D) (cl := classes) (ci := 1) (C := R_TR) (T := F_TR) (N := 11) hx hb hT in_TR hown hK hP 1 rfl rfl 0 (by decide) (hT _ tw_27) (fun _ h9 => h9) rfl dd_TR_mask_1 ?_
  refine lv_bipush (v := 64) hx hb dd_TR_mask_4 (by decide) ?_
  refine lv_icmp_ne (tgt := 15) hx hb dd_TR_mask_6 (by decide) (fun hc => ?_) (fun hc => ?_)
  · have hne : len ≠ 64 := fun h6 => hc (by rw [h6]; rfl)
    refine lv_lconst (v := 1) hx hb dd_TR_mask_15 (by decide) ?_
    refine lv_aload_n hx hb dd_TR_mask_16 rfl (lv_at hl 0 rfl) ?_
    refine va_get (D := D) (cl := classes) (ci := 1) (C := R_TR) (T := F_TR) (N := 11) hx hb hT in_TR hown hK hP 1 rfl rfl 0 (by decide) (hT _ tw_27) (fun _ h9 => h9) rfl dd_TR_mask_17 ?_
    refine lv_lshl hx hb dd_TR_mask_20 rfl ?_
    refine lv_lconst (v := 1) hx hb dd_TR_mask_21 (by decide) ?_
    refine lv_lsub hx hb dd_TR_mask_22 ?_
    exact ret 23 ls _ (by unfold mk; rw [if_neg hne]; rfl) dd_TR_mask_23
  · have h64 : len = 64 := (nI_eq (b := 64) (by omega) (by omega)).mp hc
    refine lv_ldc2 (v := -1) hx hb hown (hT _ tw_112) dd_TR_mask_9 ?_
    refine lv_goto (tgt := 23) hx hb dd_TR_mask_12 (by decide) ?_
    exact ret 23 ls _ (by unfold mk; rw [if_pos h64]) dd_TR_mask_23
set_option maxRecDepth 20000 in
theorem c_TR_takes (l : Launch) (D : va_G) (cI cL : ClassId) (h : Nat → Nat) (g cl : Int32) (len n : Nat) (ca wa : Nat → Int64) (z : ZT) (k : Nat) (w : Int64) (hk : k < 512) : RdI l yy_TR_takes bb_TR_takes 4 (some .boolean) (rmK 0) D cI cL [.ref (h 1), .int (nI k), .long w] (wX cI cL h g cl len n ca wa z) (fun r => r = b2i (tk ca wa w k)) := by
  refine RdI.mk (by decide) (Nat.le_of_ble_eq_true rfl) ?_
  intro p e s m below meth c Q hx hb hml hown hT hK hP ret ls hl
  have hown : s.vm.findClass "PatternTree$Tree" = some m.cls := hown
  have hl : lv_has ls 4 [(0, .ref (h 1)), (1, .int (nI k)), (2, .long w)] := hl
  refine lv_lload_n hx hb dd_TR_takes_0 rfl (lv_at hl 2 rfl) ?_
  refine lv_aload_n hx hb dd_TR_takes_1 rfl (lv_at hl 0 rfl) ?_
  refine va_get (D := D) (cl := classes) (ci := 1) (C := R_TR) (T := F_TR) (N := 11) hx hb hT in_TR hown hK hP 1 rfl rfl 2 (by decide) (hT _ tw_31) (fun _ h9 => h9) rfl dd_TR_takes_2 ?_
  refine lv_iload_n hx hb dd_TR_takes_5 rfl (lv_at hl 1 rfl) ?_
  refine tq_lald (k := k) hx hb hK hP 2 rfl hk (by decide) dd_TR_takes_6 ?_
  refine lv_land hx hb dd_TR_takes_7 ?_
  refine lv_aload_n hx hb dd_TR_takes_8 rfl (lv_at hl 0 rfl) ?_
  refine va_get (D := D) (cl := classes) (ci := 1) (C := R_TR) (T := F_TR) (N := 11) hx hb hT in_TR hown hK hP 1 rfl rfl 3 (by decide) (hT _ tw_33) (fun _ h9 => h9) rfl dd_TR_takes_9 ?_
  refine lv_iload_n hx hb dd_TR_takes_12 rfl (lv_at hl 1 rfl) ?_
  refine tq_lald (k := k) hx hb hK hP 3 rfl hk (by decide) dd_TR_takes_13 ?_
  refine tq_lne (tgt := 22) hx hb dd_TR_takes_14 dd_TR_takes_15 (by decide) (fun hc => ?_) (fun hc => ?_)
  · refine lv_iconst (v := 0) hx hb dd_TR_takes_22 (by decide) ?_
    exact ret 23 ls 0 (by simp [tk, hc, b2i]) rfl dd_TR_takes_23
  · refine lv_iconst (v := 1) hx hb dd_TR_takes_18 (by decide) ?_
    refine lv_goto (tgt := 23) hx hb dd_TR_takes_19 (by decide) ?_
    exact ret 23 ls 1 (by simp [tk, hc, b2i]) rfl dd_TR_takes_23
set_option maxRecDepth 20000 in
theorem c_TR_clashes (l : Launch) (D : va_G) (cI cL : ClassId) (h : Nat → Nat) (g cl : Int32) (len n : Nat) (ca wa : Nat → Int64) (z : ZT) (k : Nat) (c0 w : Int64) (hk : k < 512) : RdI l yy_TR_clashes bb_TR_clashes 6 (some .boolean) (rmK 0) D cI cL [.ref (h 1), .int (nI k), .long c0, .long w] (wX cI cL h g cl len n ca wa z) (fun r => r = b2i (csh ca wa c0 w k)) := by
  refine RdI.mk (by decide) (Nat.le_of_ble_eq_true rfl) ?_
  intro p e s m below meth c Q hx hb hml hown hT hK hP ret ls hl
  have hown : s.vm.findClass "PatternTree$Tree" = some m.cls := hown
  have hl : lv_has ls 6 [(0, .ref (h 1)), (1, .int (nI k)), (2, .long c0), (4, .long w)] := hl
  refine lv_aload_n hx hb dd_TR_clashes_0 rfl (lv_at hl 0 rfl) ?_
  refine va_get (D := D) (cl := classes) (ci := 1) (C := R_TR) (T := F_TR) (N := 11) hx hb hT in_TR hown hK hP 1 rfl rfl 2 (by decide) (hT _ tw_31) (fun _ h9 => h9) rfl dd_TR_clashes_1 ?_
  refine lv_iload_n hx hb dd_TR_clashes_4 rfl (lv_at hl 1 rfl) ?_
  refine tq_lald (k := k) hx hb hK hP 2 rfl hk (by decide) dd_TR_clashes_5 ?_
  refine lv_lload_n hx hb dd_TR_clashes_6 rfl (lv_at hl 2 rfl) ?_
  refine lv_land hx hb dd_TR_clashes_7 ?_
  refine lv_aload_n hx hb dd_TR_clashes_8 rfl (lv_at hl 0 rfl) ?_
  refine va_get (D := D) (cl := classes) (ci := 1) (C := R_TR) (T := F_TR) (N := 11) hx hb hT in_TR hown hK hP 1 rfl rfl 3 (by decide) (hT _ tw_33) (fun _ h9 => h9) rfl dd_TR_clashes_9 ?_
  refine lv_iload_n hx hb dd_TR_clashes_12 rfl (lv_at hl 1 rfl) ?_
  refine tq_lald (k := k) hx hb hK hP 3 rfl hk (by decide) dd_TR_clashes_13 ?_
  refine lv_lload hx hb dd_TR_clashes_14 (lv_at hl 3 rfl) ?_
  refine lv_lxor hx hb dd_TR_clashes_16 ?_
  refine lv_land hx hb dd_TR_clashes_17 ?_
  refine lv_lconst (v := 0) hx hb dd_TR_clashes_18 (by decide) ?_
  refine tq_lne (tgt := 27) hx hb dd_TR_clashes_19 dd_TR_clashes_20 (by decide) (fun hc => ?_) (fun hc => ?_)
  · refine lv_iconst (v := 0) hx hb dd_TR_clashes_27 (by decide) ?_
    exact ret 28 ls 0 (by simp [csh, hc, b2i]) rfl dd_TR_clashes_28
  · refine lv_iconst (v := 1) hx hb dd_TR_clashes_23 (by decide) ?_
    refine lv_goto (tgt := 28) hx hb dd_TR_clashes_24 (by decide) ?_
    exact ret 28 ls 1 (by simp [csh, hc, b2i]) rfl dd_TR_clashes_28
set_option maxRecDepth 20000 in
theorem c_PT_find2 (l : Launch) (D : va_G) (cI cL : ClassId) (h : Nat → Nat) (g cl : Int32) (len n : Nat) (ca wa : Nat → Int64) (z : ZT) (c0 w : Int64) (hn : n ≤ 512) : RdI l yy_PT_find2 bb_PT_find2 6 (some .int) (rmK 1) D cI cL [.ref (h 0), .long c0, .long w] (wX cI cL h g cl len n ca wa z) (fun r => r = ff (csh ca wa c0 w) n) := by
  refine RdI.mk (by decide) (Nat.le_of_ble_eq_true rfl) ?_
  intro p e s m below meth c Q hx hb hml hown hT hK hP ret ls hl
  have hown : s.vm.findClass "PatternTree" = some m.cls := hown
  have hl : lv_has ls 6 [(0, .ref (h 0)), (1, .long c0), (3, .long w)] := hl
  refine lv_iconst (v := 0) hx hb dd_PT_find2_0 (by decide) ?_
  refine lv_topi (fun v1 e1 => ?_)
  obtain rfl : v1 = nI 0 := e1
  refine lv_istore hx hb dd_PT_find2_1 hl (by decide) rfl (fun ls hl => ?_)
  have hl : lv_has ls 6 [(5, .int (nI 0)), (0, .ref (h 0)), (1, .long c0), (3, .long w)] := hl
  have loop : ∀ (j k : Nat) (ls : Array Slot), k + j = n → ff (csh ca wa c0 w) n = ffr (csh ca wa c0 w) k j → lv_has ls 6 [(5, .int (nI k)), (0, .ref (h 0)), (1, .long c0), (3, .long w)] → W p l e (rmK 1) s m ([.ref (h 0), .long c0, .long w] : List Value).toArray below meth c s.heap [] 0 0 Q (F0 m 3 ls []) := by
    intro j
    induction j with
    | zero =>
      intro k ls hk hf hl
      refine lv_iload hx hb dd_PT_find2_3 (lv_at hl 0 rfl) ?_
      refine lv_aload_n hx hb dd_PT_find2_5 rfl (lv_at hl 1 rfl) ?_
      refine va_get (D := D) (cl := classes) (ci := 0) (C := R_PT) (T := F_PT) (N := 3) hx hb hT in_PT hown hK hP 0 rfl rfl 0 (by decide) (hT _ tw_67) (fun _ h9 => h9) rfl dd_PT_find2_6 ?_
      refine va_get (D := D) (cl := classes) (ci := 1) (C := R_TR) (T := F_TR) (N := 11) hx hb hT in_TR hown hK hP 1 rfl rfl 1 (by decide) (hT _ tw_29) (fun _ h9 => h9) rfl dd_PT_find2_9 ?_
      refine tq_ige (tgt := 38) hx hb (by omega) (by omega) dd_PT_find2_12 (by decide) (fun hc => ?_) (fun hc => ?_)
      · refine lv_iconst (v := -1) hx hb dd_PT_find2_38 (by decide) ?_
        exact ret 39 ls _ hf.symm rfl dd_PT_find2_39
      · omega
    | succ j ih =>
      intro k ls hk hf hl
      refine lv_iload hx hb dd_PT_find2_3 (lv_at hl 0 rfl) ?_
      refine lv_aload_n hx hb dd_PT_find2_5 rfl (lv_at hl 1 rfl) ?_
      refine va_get (D := D) (cl := classes) (ci := 0) (C := R_PT) (T := F_PT) (N := 3) hx hb hT in_PT hown hK hP 0 rfl rfl 0 (by decide) (hT _ tw_67) (fun _ h9 => h9) rfl dd_PT_find2_6 ?_
      refine va_get (D := D) (cl := classes) (ci := 1) (C := R_TR) (T := F_TR) (N := 11) hx hb hT in_TR hown hK hP 1 rfl rfl 1 (by decide) (hT _ tw_29) (fun _ h9 => h9) rfl dd_PT_find2_9 ?_
      refine tq_ige (tgt := 38) hx hb (by omega) (by omega) dd_PT_find2_12 (by decide) (fun hc => ?_) (fun hc => ?_)
      · omega
      · refine lv_aload_n hx hb dd_PT_find2_15 rfl (lv_at hl 1 rfl) ?_
        refine va_get (D := D) (cl := classes) (ci := 0) (C := R_PT) (T := F_PT) (N := 3) hx hb hT in_PT hown hK hP 0 rfl rfl 0 (by decide) (hT _ tw_67) (fun _ h9 => h9) rfl dd_PT_find2_16 ?_
        refine lv_iload hx hb dd_PT_find2_19 (lv_at hl 0 rfl) ?_
        refine lv_lload_n hx hb dd_PT_find2_21 rfl (lv_at hl 2 rfl) ?_
        refine lv_lload_n hx hb dd_PT_find2_22 rfl (lv_at hl 3 rfl) ?_
        refine RdI.callV (c_TR_clashes l D cI cL h g cl len n ca wa z k c0 w (by omega)) vs_PT_40 ⟨hx, hb, hml, hown, hT⟩ hK hP 1 rfl rfl ⟨rfl, rfl⟩ (by decide) rfl hl.1 rfl (Nat.le_of_ble_eq_true rfl) dd_PT_find2_23 ⟨Nat.zero_le _, Nat.zero_le _⟩ (fun r hr => ?_)
        subst hr
        refine lv_if_eq (tgt := 32) hx hb dd_PT_find2_26 (by decide) (fun hc => ?_) (fun hc => ?_)
        · have hcf : csh ca wa c0 w k = false := by cases hb2 : csh ca wa c0 w k <;> simp_all [b2i]
          refine lv_iinc (k := 0) hx hb dd_PT_find2_32 hl rfl (tq_inc k) (by decide) rfl (fun ls hl => ?_)
          have hl : lv_has ls 6 [(5, .int (nI (k + 1))), (0, .ref (h 0)), (1, .long c0), (3, .long w)] := hl
          refine lv_goto (tgt := 3) hx hb dd_PT_find2_35 (by decide) ?_
          exact ih (k + 1) ls (by omega) (by rw [hf]; simp [ffr, hcf]) hl
        · have hcf : csh ca wa c0 w k = true := by cases hb2 : csh ca wa c0 w k <;> simp_all [b2i]
          refine lv_iload hx hb dd_PT_find2_29 (lv_at hl 0 rfl) ?_
          exact ret 31 ls _ (by rw [hf]; simp [ffr, hcf]) rfl dd_PT_find2_31
  exact loop n 0 ls (by omega) rfl hl
end
section
set_option maxRecDepth 20000 in
theorem c_JL (l : Launch) (D : va_G) (cI cL : ClassId) (ww : va_W) (v : Int64) : RdI l yy_JL_bitCount bb_JL_bitCount 2 (some .int) (rmK 0) D cI cL [.long v] (ww) (fun r => r = nI (pcnt v)) := by
  refine RdI.mk (by decide) (Nat.le_of_ble_eq_true rfl) ?_
  intro p e s m below meth c Q hx hb hml hown hT hK hP ret ls hl
  have hown : s.vm.findClass "java/lang/Long" = some m.cls := hown
  have hl : lv_has ls 2 [(0, .long v)] := hl
  refine lv_lload_n hx hb dd_JL_bitCount_0 rfl (lv_at hl 0 rfl) ?_
  refine lv_lload_n hx hb dd_JL_bitCount_1 rfl (lv_at hl 0 rfl) ?_
  refine lv_iconst (v := 1) hx hb dd_JL_bitCount_2 (by decide) ?_
  refine lv_lushr hx hb dd_JL_bitCount_3 rfl ?_
  refine lv_ldc2 (v := 6148914691236517205) hx hb hown (hT _ tw_299) dd_JL_bitCount_4 ?_
  refine lv_land hx hb dd_JL_bitCount_7 ?_
  refine lv_lsub hx hb dd_JL_bitCount_8 ?_
  refine lv_topl (fun v9 e9 => ?_)
  obtain rfl : v9 = bc1 v := e9
  refine lv_lstore_n hx hb dd_JL_bitCount_9 rfl hl (by decide) rfl (fun ls hl => ?_)
  have hl : lv_has ls 2 [(0, .long (bc1 v))] := hl
  refine lv_lload_n hx hb dd_JL_bitCount_10 rfl (lv_at hl 0 rfl) ?_
  refine lv_ldc2 (v := 3689348814741910323) hx hb hown (hT _ tw_300) dd_JL_bitCount_11 ?_
  refine lv_land hx hb dd_JL_bitCount_14 ?_
  refine lv_lload_n hx hb dd_JL_bitCount_15 rfl (lv_at hl 0 rfl) ?_
  refine lv_iconst (v := 2) hx hb dd_JL_bitCount_16 (by decide) ?_
  refine lv_lushr hx hb dd_JL_bitCount_17 rfl ?_
  refine lv_ldc2 (v := 3689348814741910323) hx hb hown (hT _ tw_300) dd_JL_bitCount_18 ?_
  refine lv_land hx hb dd_JL_bitCount_21 ?_
  refine lv_ladd hx hb dd_JL_bitCount_22 ?_
  refine lv_topl (fun v23 e23 => ?_)
  obtain rfl : v23 = bc2 (bc1 v) := e23
  refine lv_lstore_n hx hb dd_JL_bitCount_23 rfl hl (by decide) rfl (fun ls hl => ?_)
  have hl : lv_has ls 2 [(0, .long (bc2 (bc1 v)))] := hl
  refine lv_lload_n hx hb dd_JL_bitCount_24 rfl (lv_at hl 0 rfl) ?_
  refine lv_lload_n hx hb dd_JL_bitCount_25 rfl (lv_at hl 0 rfl) ?_
  refine lv_iconst (v := 4) hx hb dd_JL_bitCount_26 (by decide) ?_
  refine lv_lushr hx hb dd_JL_bitCount_27 rfl ?_
  refine lv_ladd hx hb dd_JL_bitCount_28 ?_
  refine lv_ldc2 (v := 1085102592571150095) hx hb hown (hT _ tw_301) dd_JL_bitCount_29 ?_
  refine lv_land hx hb dd_JL_bitCount_32 ?_
  refine lv_topl (fun v33 e33 => ?_)
  obtain rfl : v33 = bc3 (bc2 (bc1 v)) := e33
  refine lv_lstore_n hx hb dd_JL_bitCount_33 rfl hl (by decide) rfl (fun ls hl => ?_)
  have hl : lv_has ls 2 [(0, .long (bc3 (bc2 (bc1 v))))] := hl
  refine lv_lload_n hx hb dd_JL_bitCount_34 rfl (lv_at hl 0 rfl) ?_
  refine lv_lload_n hx hb dd_JL_bitCount_35 rfl (lv_at hl 0 rfl) ?_
  refine lv_bipush (v := 8) hx hb dd_JL_bitCount_36 (by decide) ?_
  refine lv_lushr hx hb dd_JL_bitCount_38 rfl ?_
  refine lv_ladd hx hb dd_JL_bitCount_39 ?_
  refine lv_topl (fun v40 e40 => ?_)
  obtain rfl : v40 = bc4 (bc3 (bc2 (bc1 v))) := e40
  refine lv_lstore_n hx hb dd_JL_bitCount_40 rfl hl (by decide) rfl (fun ls hl => ?_)
  have hl : lv_has ls 2 [(0, .long (bc4 (bc3 (bc2 (bc1 v)))))] := hl
  refine lv_lload_n hx hb dd_JL_bitCount_41 rfl (lv_at hl 0 rfl) ?_
  refine lv_lload_n hx hb dd_JL_bitCount_42 rfl (lv_at hl 0 rfl) ?_
  refine lv_bipush (v := 16) hx hb dd_JL_bitCount_43 (by decide) ?_
  refine lv_lushr hx hb dd_JL_bitCount_45 rfl ?_
  refine lv_ladd hx hb dd_JL_bitCount_46 ?_
  refine lv_topl (fun v47 e47 => ?_)
  obtain rfl : v47 = bc5 (bc4 (bc3 (bc2 (bc1 v)))) := e47
  refine lv_lstore_n hx hb dd_JL_bitCount_47 rfl hl (by decide) rfl (fun ls hl => ?_)
  have hl : lv_has ls 2 [(0, .long (bc5 (bc4 (bc3 (bc2 (bc1 v))))))] := hl
  refine lv_lload_n hx hb dd_JL_bitCount_48 rfl (lv_at hl 0 rfl) ?_
  refine lv_lload_n hx hb dd_JL_bitCount_49 rfl (lv_at hl 0 rfl) ?_
  refine lv_bipush (v := 32) hx hb dd_JL_bitCount_50 (by decide) ?_
  refine lv_lushr hx hb dd_JL_bitCount_52 rfl ?_
  refine lv_ladd hx hb dd_JL_bitCount_53 ?_
  refine lv_topl (fun v54 e54 => ?_)
  obtain rfl : v54 = bc6 (bc5 (bc4 (bc3 (bc2 (bc1 v))))) := e54
  refine lv_lstore_n hx hb dd_JL_bitCount_54 rfl hl (by decide) rfl (fun ls hl => ?_)
  have hl : lv_has ls 2 [(0, .long (bc6 (bc5 (bc4 (bc3 (bc2 (bc1 v)))))))] := hl
  refine lv_lload_n hx hb dd_JL_bitCount_55 rfl (lv_at hl 0 rfl) ?_
  refine lv_l2i hx hb dd_JL_bitCount_56 rfl ?_
  refine lv_bipush (v := 127) hx hb dd_JL_bitCount_57 (by decide) ?_
  refine lv_iand hx hb dd_JL_bitCount_59 ?_
  exact ret 60 ls _ (bcx_eq v) rfl dd_JL_bitCount_60
theorem tq_pm1 (k : Nat) : nI k + Int32.ofInt (-1) = nI k - 1 := by rw [Int32.sub_eq_add_neg]; rfl
set_option maxRecDepth 20000 in
theorem c_PT_isPattern (l : Launch) (D : va_G) (cI cL : ClassId) (h : Nat → Nat) (g cl : Int32) (len n : Nat) (ca wa : Nat → Int64) (z : ZT) (c0 w : Int64) (hlen : len ≤ 64) : RdI l yy_PT_isPattern bb_PT_isPattern 5 (some .boolean) (rmK 1) D cI cL [.ref (h 0), .long c0, .long w] (wX cI cL h g cl len n ca wa z) (fun r => r = b2i (isP len c0 w)) := by
  refine RdI.mk (by decide) (Nat.le_of_ble_eq_true rfl) ?_
  intro p e s m below meth c Q hx hb hml hown hT hK hP ret ls hl
  have hown : s.vm.findClass "PatternTree" = some m.cls := hown
  have hl : lv_has ls 5 [(0, .ref (h 0)), (1, .long c0), (3, .long w)] := hl
  refine lv_lload_n hx hb dd_PT_isPattern_0 rfl (lv_at hl 2 rfl) ?_
  refine lv_lload_n hx hb dd_PT_isPattern_1 rfl (lv_at hl 1 rfl) ?_
  refine lv_ldc2 (v := -1) hx hb hown (hT _ tw_211) dd_PT_isPattern_2 ?_
  refine lv_lxor hx hb dd_PT_isPattern_5 ?_
  refine lv_land hx hb dd_PT_isPattern_6 ?_
  refine lv_aload_n hx hb dd_PT_isPattern_7 rfl (lv_at hl 0 rfl) ?_
  refine va_get (D := D) (cl := classes) (ci := 0) (C := R_PT) (T := F_PT) (N := 3) hx hb hT in_PT hown hK hP 0 rfl rfl 0 (by decide) (hT _ tw_67) (fun _ h9 => h9) rfl dd_PT_isPattern_8 ?_
  refine RdL.callV (c_TR_mask l D cI cL h g cl len n ca wa z hlen) vs_PT_60 ⟨hx, hb, hml, hown, hT⟩ hK hP 1 rfl rfl ⟨rfl, rfl⟩ (by decide) rfl hl.1 rfl (Nat.le_of_ble_eq_true rfl) dd_PT_isPattern_11 ⟨Nat.zero_le _, Nat.zero_le _⟩ (fun r hr => ?_)
  subst hr
  refine lv_land hx hb dd_PT_isPattern_14 ?_
  refine lv_lconst (v := 0) hx hb dd_PT_isPattern_15 (by decide) ?_
  refine tq_lne (tgt := 24) hx hb dd_PT_isPattern_16 dd_PT_isPattern_17 (by decide) (fun hc => ?_) (fun hc => ?_)
  · refine lv_iconst (v := 0) hx hb dd_PT_isPattern_24 (by decide) ?_
    exact ret 25 ls 0 (by unfold isP b2i; rw [decide_eq_false hc]; rfl) rfl dd_PT_isPattern_25
  · refine lv_iconst (v := 1) hx hb dd_PT_isPattern_20 (by decide) ?_
    refine lv_goto (tgt := 25) hx hb dd_PT_isPattern_21 (by decide) ?_
    exact ret 25 ls 1 (by unfold isP b2i; rw [decide_eq_true hc]; rfl) rfl dd_PT_isPattern_25
set_option maxRecDepth 20000 in
theorem c_PT_size (l : Launch) (D : va_G) (cI cL : ClassId) (h : Nat → Nat) (g cl : Int32) (len n : Nat) (ca wa : Nat → Int64) (z : ZT) (c0 : Int64) : RdL l yy_PT_size bb_PT_size 4 (some .long) (rmK 1) D cI cL [.ref (h 0), .long c0] (wX cI cL h g cl len n ca wa z) (fun r => r = psz len c0) := by
  refine RdL.mk (by decide) (Nat.le_of_ble_eq_true rfl) ?_
  intro p e s m below meth c Q hx hb hml hown hT hK hP ret ls hl
  have hown : s.vm.findClass "PatternTree" = some m.cls := hown
  have hl : lv_has ls 4 [(0, .ref (h 0)), (1, .long c0)] := hl
  refine lv_aload_n hx hb dd_PT_size_0 rfl (lv_at hl 0 rfl) ?_
  refine va_get (D := D) (cl := classes) (ci := 0) (C := R_PT) (T := F_PT) (N := 3) hx hb hT in_PT hown hK hP 0 rfl rfl 0 (by decide) (hT _ tw_67) (fun _ h9 => h9) rfl dd_PT_size_1 ?_
  refine va_get (D := D) (cl := classes) (ci := 1) (C := R_TR) (T := F_TR) (N := 11) hx hb hT in_TR hown hK hP 1 rfl rfl 0 (by decide) (hT _ tw_28) (fun _ h9 => h9) rfl dd_PT_size_4 ?_
  refine lv_lload_n hx hb dd_PT_size_7 rfl (lv_at hl 1 rfl) ?_
  refine RdI.callS (c_JL l D cI cL (wX cI cL h g cl len n ca wa z) c0) ss_PT_87 ⟨hx, hb, hml, hown, hT⟩ hK hP ⟨rfl, rfl⟩ (by decide) rfl hl.1 rfl (Nat.le_of_ble_eq_true rfl) dd_PT_size_8 ⟨Nat.zero_le _, Nat.zero_le _⟩ (fun r hr => ?_)
  subst hr
  refine lv_isub hx hb dd_PT_size_11 ?_
  refine lv_topi (fun v12 e12 => ?_)
  obtain rfl : v12 = nI len - nI (pcnt c0) := e12
  refine lv_istore_n hx hb dd_PT_size_12 rfl hl (by decide) rfl (fun ls hl => ?_)
  have hl : lv_has ls 4 [(3, .int (nI len - nI (pcnt c0))), (0, .ref (h 0)), (1, .long c0)] := hl
  refine lv_iload_n hx hb dd_PT_size_13 rfl (lv_at hl 0 rfl) ?_
  refine lv_bipush (v := 64) hx hb dd_PT_size_14 (by decide) ?_
  refine lv_icmp_ne (tgt := 23) hx hb dd_PT_size_16 (by decide) (fun hc => ?_) (fun hc => ?_)
  · refine lv_lconst (v := 1) hx hb dd_PT_size_23 (by decide) ?_
    refine lv_iload_n hx hb dd_PT_size_24 rfl (lv_at hl 0 rfl) ?_
    refine lv_lshl hx hb dd_PT_size_25 rfl ?_
    exact ret 26 ls _ (by unfold psz pow2; rw [if_neg hc]) dd_PT_size_26
  · refine lv_lconst (v := 0) hx hb dd_PT_size_19 (by decide) ?_
    refine lv_goto (tgt := 26) hx hb dd_PT_size_20 (by decide) ?_
    exact ret 26 ls _ (by unfold psz pow2; rw [if_pos hc]) dd_PT_size_26
set_option maxRecDepth 20000 in
theorem c_PT_open (l : Launch) (D : va_G) (cI cL : ClassId) (h : Nat → Nat) (g cl : Int32) (len n : Nat) (ca wa : Nat → Int64) (z : ZT) (c0 w : Int64) (hn : n ≤ 512) : RdL l yy_PT_open bb_PT_open 8 (some .long) (rmK 2) D cI cL [.ref (h 0), .long c0, .long w] (wX cI cL h g cl len n ca wa z) (fun r => r = popen len n ca wa c0 w) := by
  refine RdL.mk (by decide) (Nat.le_of_ble_eq_true rfl) ?_
  intro p e s m below meth c Q hx hb hml hown hT hK hP ret ls hl
  have hown : s.vm.findClass "PatternTree" = some m.cls := hown
  have hl : lv_has ls 8 [(0, .ref (h 0)), (1, .long c0), (3, .long w)] := hl
  refine lv_aload_n hx hb dd_PT_open_0 rfl (lv_at hl 0 rfl) ?_
  refine lv_lload_n hx hb dd_PT_open_1 rfl (lv_at hl 1 rfl) ?_
  refine RdL.callV (c_PT_size l D cI cL h g cl len n ca wa z c0) vs_PT_92 ⟨hx, hb, hml, hown, hT⟩ hK hP 0 rfl rfl ⟨rfl, rfl⟩ (by decide) rfl hl.1 rfl (Nat.le_of_ble_eq_true rfl) dd_PT_open_2 ⟨Nat.zero_le _, Nat.zero_le _⟩ (fun r hr => ?_)
  subst hr
  refine lv_topl (fun v5 e5 => ?_)
  obtain rfl : v5 = psz len c0 := e5
  refine lv_lstore hx hb dd_PT_open_5 hl (by decide) rfl (fun ls hl => ?_)
  have hl : lv_has ls 8 [(5, .long (psz len c0)), (0, .ref (h 0)), (1, .long c0), (3, .long w)] := hl
  refine lv_iconst (v := 0) hx hb dd_PT_open_7 (by decide) ?_
  refine lv_topi (fun v8 e8 => ?_)
  obtain rfl : v8 = nI 0 := e8
  refine lv_istore hx hb dd_PT_open_8 hl (by decide) rfl (fun ls hl => ?_)
  have hl : lv_has ls 8 [(7, .int (nI 0)), (5, .long (psz len c0)), (0, .ref (h 0)), (1, .long c0), (3, .long w)] := hl
  have loop : ∀ (j k : Nat) (a : Int64) (ls : Array Slot), k + j = n → popen len n ca wa c0 w = por (csh ca wa c0 w) (fun k => psz len (c0 ||| ca k)) k j a → lv_has ls 8 [(7, .int (nI k)), (5, .long a), (0, .ref (h 0)), (1, .long c0), (3, .long w)] → W p l e (rmK 2) s m ([.ref (h 0), .long c0, .long w] : List Value).toArray below meth c s.heap [] 0 0 Q (F0 m 10 ls []) := by
    intro j
    induction j with
    | zero =>
      intro k a ls hk hf hl
      refine lv_iload hx hb dd_PT_open_10 (lv_at hl 0 rfl) ?_
      refine lv_aload_n hx hb dd_PT_open_12 rfl (lv_at hl 2 rfl) ?_
      refine va_get (D := D) (cl := classes) (ci := 0) (C := R_PT) (T := F_PT) (N := 3) hx hb hT in_PT hown hK hP 0 rfl rfl 0 (by decide) (hT _ tw_67) (fun _ h9 => h9) rfl dd_PT_open_13 ?_
      refine va_get (D := D) (cl := classes) (ci := 1) (C := R_TR) (T := F_TR) (N := 11) hx hb hT in_TR hown hK hP 1 rfl rfl 1 (by decide) (hT _ tw_29) (fun _ h9 => h9) rfl dd_PT_open_16 ?_
      refine tq_ige (tgt := 63) hx hb (by omega) (by omega) dd_PT_open_19 (by decide) (fun hc => ?_) (fun hc => ?_)
      · refine lv_lload hx hb dd_PT_open_63 (lv_at hl 1 rfl) ?_
        exact ret 65 ls _ hf.symm dd_PT_open_65
      · omega
    | succ j ih =>
      intro k a ls hk hf hl
      refine lv_iload hx hb dd_PT_open_10 (lv_at hl 0 rfl) ?_
      refine lv_aload_n hx hb dd_PT_open_12 rfl (lv_at hl 2 rfl) ?_
      refine va_get (D := D) (cl := classes) (ci := 0) (C := R_PT) (T := F_PT) (N := 3) hx hb hT in_PT hown hK hP 0 rfl rfl 0 (by decide) (hT _ tw_67) (fun _ h9 => h9) rfl dd_PT_open_13 ?_
      refine va_get (D := D) (cl := classes) (ci := 1) (C := R_TR) (T := F_TR) (N := 11) hx hb hT in_TR hown hK hP 1 rfl rfl 1 (by decide) (hT _ tw_29) (fun _ h9 => h9) rfl dd_PT_open_16 ?_
      refine tq_ige (tgt := 63) hx hb (by omega) (by omega) dd_PT_open_19 (by decide) (fun hc => ?_) (fun hc => ?_)
      · omega
      · refine lv_aload_n hx hb dd_PT_open_22 rfl (lv_at hl 2 rfl) ?_
        refine va_get (D := D) (cl := classes) (ci := 0) (C := R_PT) (T := F_PT) (N := 3) hx hb hT in_PT hown hK hP 0 rfl rfl 0 (by decide) (hT _ tw_67) (fun _ h9 => h9) rfl dd_PT_open_23 ?_
        refine lv_iload hx hb dd_PT_open_26 (lv_at hl 0 rfl) ?_
        refine lv_lload_n hx hb dd_PT_open_28 rfl (lv_at hl 3 rfl) ?_
        refine lv_lload_n hx hb dd_PT_open_29 rfl (lv_at hl 4 rfl) ?_
        refine RdI.callV (c_TR_clashes l D cI cL h g cl len n ca wa z k c0 w (by omega)) vs_PT_40 ⟨hx, hb, hml, hown, hT⟩ hK hP 1 rfl rfl ⟨rfl, rfl⟩ (by decide) rfl hl.1 rfl (Nat.le_of_ble_eq_true rfl) dd_PT_open_30 ⟨Nat.zero_le _, Nat.zero_le _⟩ (fun r hr => ?_)
        subst hr
        refine lv_if_eq (tgt := 57) hx hb dd_PT_open_33 (by decide) (fun hc => ?_) (fun hc => ?_)
        · have hcf : csh ca wa c0 w k = false := by cases hb2 : csh ca wa c0 w k <;> simp_all [b2i]
          refine lv_iinc (k := 0) hx hb dd_PT_open_57 hl rfl (tq_inc k) (by decide) rfl (fun ls hl => ?_)
          have hl : lv_has ls 8 [(7, .int (nI (k + 1))), (5, .long a), (0, .ref (h 0)), (1, .long c0), (3, .long w)] := hl
          refine lv_goto (tgt := 10) hx hb dd_PT_open_60 (by decide) ?_
          exact ih (k + 1) a ls (by omega) (by rw [hf]; simp [por, hcf]) hl
        · have hcf : csh ca wa c0 w k = true := by cases hb2 : csh ca wa c0 w k <;> simp_all [b2i]
          refine lv_lload hx hb dd_PT_open_36 (lv_at hl 1 rfl) ?_
          refine lv_aload_n hx hb dd_PT_open_38 rfl (lv_at hl 2 rfl) ?_
          refine lv_lload_n hx hb dd_PT_open_39 rfl (lv_at hl 3 rfl) ?_
          refine lv_aload_n hx hb dd_PT_open_40 rfl (lv_at hl 2 rfl) ?_
          refine va_get (D := D) (cl := classes) (ci := 0) (C := R_PT) (T := F_PT) (N := 3) hx hb hT in_PT hown hK hP 0 rfl rfl 0 (by decide) (hT _ tw_67) (fun _ h9 => h9) rfl dd_PT_open_41 ?_
          refine va_get (D := D) (cl := classes) (ci := 1) (C := R_TR) (T := F_TR) (N := 11) hx hb hT in_TR hown hK hP 1 rfl rfl 2 (by decide) (hT _ tw_32) (fun _ h9 => h9) rfl dd_PT_open_44 ?_
          refine lv_iload hx hb dd_PT_open_47 (lv_at hl 0 rfl) ?_
          refine tq_lald (k := k) hx hb hK hP 2 rfl (by omega) (by decide) dd_PT_open_49 ?_
          refine lv_lor hx hb dd_PT_open_50 ?_
          refine RdL.callV (c_PT_size l D cI cL h g cl len n ca wa z (c0 ||| ca k)) vs_PT_92 ⟨hx, hb, hml, hown, hT⟩ hK hP 0 rfl rfl ⟨rfl, rfl⟩ (by decide) rfl hl.1 rfl (Nat.le_of_ble_eq_true rfl) dd_PT_open_51 ⟨Nat.zero_le _, Nat.zero_le _⟩ (fun r hr => ?_)
          subst hr
          refine lv_lsub hx hb dd_PT_open_54 ?_
          refine lv_topl (fun v55 e55 => ?_)
          obtain rfl : v55 = a - psz len (c0 ||| ca k) := e55
          refine lv_lstore hx hb dd_PT_open_55 hl (by decide) rfl (fun ls hl => ?_)
          have hl : lv_has ls 8 [(5, .long (a - psz len (c0 ||| ca k))), (7, .int (nI k)), (0, .ref (h 0)), (1, .long c0), (3, .long w)] := hl
          refine lv_iinc (k := 1) hx hb dd_PT_open_57 hl rfl (tq_inc k) (by decide) rfl (fun ls hl => ?_)
          have hl : lv_has ls 8 [(7, .int (nI (k + 1))), (5, .long (a - psz len (c0 ||| ca k))), (0, .ref (h 0)), (1, .long c0), (3, .long w)] := hl
          refine lv_goto (tgt := 10) hx hb dd_PT_open_60 (by decide) ?_
          have hl : lv_has ls 8 [(7, .int (nI (k + 1))), (5, .long (a - psz len (c0 ||| ca k))), (0, .ref (h 0)), (1, .long c0), (3, .long w)] := lv_sub hl [0, 1, 2, 3, 4] rfl
          exact ih (k + 1) _ ls (by omega) (by rw [hf]; simp [por, hcf]) hl
  exact loop n 0 _ ls (by omega) rfl hl
set_option maxRecDepth 20000 in
theorem c_PT_any (l : Launch) (D : va_G) (cI cL : ClassId) (h : Nat → Nat) (g cl : Int32) (len n : Nat) (ca wa : Nat → Int64) (z : ZT) (c0 w : Int64) (hlen : len ≤ 64) (hn : n ≤ 512) : RdI l yy_PT_any bb_PT_any 5 (some .boolean) (rmK 3) D cI cL [.ref (h 0), .long c0, .long w] (wX cI cL h g cl len n ca wa z) (fun r => r = b2i (pany len n ca wa c0 w)) := by
  refine RdI.mk (by decide) (Nat.le_of_ble_eq_true rfl) ?_
  intro p e s m below meth c Q hx hb hml hown hT hK hP ret ls hl
  have hown : s.vm.findClass "PatternTree" = some m.cls := hown
  have hl : lv_has ls 5 [(0, .ref (h 0)), (1, .long c0), (3, .long w)] := hl
  refine lv_aload_n hx hb dd_PT_any_0 rfl (lv_at hl 0 rfl) ?_
  refine lv_lload_n hx hb dd_PT_any_1 rfl (lv_at hl 1 rfl) ?_
  refine lv_lload_n hx hb dd_PT_any_2 rfl (lv_at hl 2 rfl) ?_
  refine RdL.callV (c_PT_open l D cI cL h g cl len n ca wa z c0 w hn) vs_PT_96 ⟨hx, hb, hml, hown, hT⟩ hK hP 0 rfl rfl ⟨rfl, rfl⟩ (by decide) rfl hl.1 rfl (Nat.le_of_ble_eq_true rfl) dd_PT_any_3 ⟨Nat.zero_le _, Nat.zero_le _⟩ (fun r hr => ?_)
  subst hr
  refine lv_lconst (v := 0) hx hb dd_PT_any_6 (by decide) ?_
  refine tq_lne (tgt := 39) hx hb dd_PT_any_7 dd_PT_any_8 (by decide) (fun hc => ?_) (fun hc => ?_)
  · refine lv_iconst (v := 1) hx hb dd_PT_any_39 (by decide) ?_
    refine lv_goto (tgt := 44) hx hb dd_PT_any_40 (by decide) ?_
    exact ret 44 ls 1 (by simp [pany, hc, b2i]) rfl dd_PT_any_44
  · refine lv_lload_n hx hb dd_PT_any_11 rfl (lv_at hl 1 rfl) ?_
    refine lv_lconst (v := 0) hx hb dd_PT_any_12 (by decide) ?_
    refine tq_lne (tgt := 43) hx hb dd_PT_any_13 dd_PT_any_14 (by decide) (fun hc2 => ?_) (fun hc2 => ?_)
    · refine lv_iconst (v := 0) hx hb dd_PT_any_43 (by decide) ?_
      exact ret 44 ls 0 (by unfold pany; rw [decide_eq_true hc]; simp [hc2, b2i]) rfl dd_PT_any_44
    · refine lv_aload_n hx hb dd_PT_any_17 rfl (lv_at hl 0 rfl) ?_
      refine va_get (D := D) (cl := classes) (ci := 0) (C := R_PT) (T := F_PT) (N := 3) hx hb hT in_PT hown hK hP 0 rfl rfl 0 (by decide) (hT _ tw_67) (fun _ h9 => h9) rfl dd_PT_any_18 ?_
      refine va_get (D := D) (cl := classes) (ci := 1) (C := R_TR) (T := F_TR) (N := 11) hx hb hT in_TR hown hK hP 1 rfl rfl 0 (by decide) (hT _ tw_28) (fun _ h9 => h9) rfl dd_PT_any_21 ?_
      refine lv_bipush (v := 64) hx hb dd_PT_any_24 (by decide) ?_
      refine lv_icmp_ne (tgt := 43) hx hb dd_PT_any_26 (by decide) (fun hc3 => ?_) (fun hc3 => ?_)
      · have h64 : len ≠ 64 := fun h6 => hc3 (by rw [h6]; rfl)
        refine lv_iconst (v := 0) hx hb dd_PT_any_43 (by decide) ?_
        exact ret 44 ls 0 (by unfold pany; rw [decide_eq_true hc]; simp [hc2, h64, b2i]) rfl dd_PT_any_44
      · have h64 : len = 64 := (nI_eq (b := 64) (by omega) (by omega)).mp hc3
        refine lv_aload_n hx hb dd_PT_any_29 rfl (lv_at hl 0 rfl) ?_
        refine va_get (D := D) (cl := classes) (ci := 0) (C := R_PT) (T := F_PT) (N := 3) hx hb hT in_PT hown hK hP 0 rfl rfl 0 (by decide) (hT _ tw_67) (fun _ h9 => h9) rfl dd_PT_any_30 ?_
        refine va_get (D := D) (cl := classes) (ci := 1) (C := R_TR) (T := F_TR) (N := 11) hx hb hT in_TR hown hK hP 1 rfl rfl 1 (by decide) (hT _ tw_29) (fun _ h9 => h9) rfl dd_PT_any_33 ?_
        refine lv_if_ne (tgt := 43) hx hb dd_PT_any_36 (by decide) (fun hc4 => ?_) (fun hc4 => ?_)
        · have h0 : n ≠ 0 := fun h6 => hc4 (by rw [h6]; rfl)
          refine lv_iconst (v := 0) hx hb dd_PT_any_43 (by decide) ?_
          exact ret 44 ls 0 (by unfold pany; rw [decide_eq_true hc]; simp [hc2, h64, h0, b2i]) rfl dd_PT_any_44
        · have h0 : n = 0 := (nI_eq (b := 0) (by omega) (by omega)).mp hc4
          refine lv_iconst (v := 1) hx hb dd_PT_any_39 (by decide) ?_
          refine lv_goto (tgt := 44) hx hb dd_PT_any_40 (by decide) ?_
          exact ret 44 ls 1 (by unfold pany; rw [decide_eq_true hc]; simp [hc2, h64, h0, b2i]) rfl dd_PT_any_44
set_option maxRecDepth 20000 in
theorem c_PT_least (l : Launch) (D : va_G) (cI cL : ClassId) (h : Nat → Nat) (g cl : Int32) (len n : Nat) (ca wa : Nat → Int64) (z : ZT) (c0 w0 : Int64) (b0 : Nat) (hlen : len ≤ 64) (hn : n ≤ 512) (hb0 : b0 ≤ 64) : RdL l yy_PT_least bb_PT_least 11 (some .long) (rmK 4) D cI cL [.ref (h 0), .long c0, .long w0, .int (nI b0 - 1)] (wX cI cL h g cl len n ca wa z) (fun r => r = plst (pany len n ca wa) b0 c0 w0) := by
  refine RdL.mk (by decide) (Nat.le_of_ble_eq_true rfl) ?_
  intro p e s m below meth c Q hx hb hml hown hT hK hP ret ls hl
  have hown : s.vm.findClass "PatternTree" = some m.cls := hown
  have hl : lv_has ls 11 [(0, .ref (h 0)), (1, .long c0), (3, .long w0), (5, .int (nI b0 - 1))] := hl
  refine lv_lload_n hx hb dd_PT_least_0 rfl (lv_at hl 1 rfl) ?_
  refine lv_topl (fun v1 e1 => ?_)
  obtain rfl : c0 = v1 := (e1).symm
  refine lv_lstore hx hb dd_PT_least_1 hl (by decide) rfl (fun ls hl => ?_)
  have hl : lv_has ls 11 [(6, .long c0), (0, .ref (h 0)), (1, .long c0), (3, .long w0), (5, .int (nI b0 - 1))] := hl
  refine lv_lload_n hx hb dd_PT_least_3 rfl (lv_at hl 3 rfl) ?_
  refine lv_topl (fun v4 e4 => ?_)
  obtain rfl : w0 = v4 := (e4).symm
  refine lv_lstore hx hb dd_PT_least_4 hl (by decide) rfl (fun ls hl => ?_)
  have hl : lv_has ls 11 [(8, .long w0), (6, .long c0), (0, .ref (h 0)), (1, .long c0), (3, .long w0), (5, .int (nI b0 - 1))] := hl
  refine lv_iload hx hb dd_PT_least_6 (lv_at hl 5 rfl) ?_
  refine lv_topi (fun v8 e8 => ?_)
  obtain rfl : v8 = nI b0 - 1 := e8
  refine lv_istore hx hb dd_PT_least_8 hl (by decide) rfl (fun ls hl => ?_)
  have hl : lv_has ls 11 [(10, .int (nI b0 - 1)), (8, .long w0), (6, .long c0), (0, .ref (h 0)), (1, .long c0), (3, .long w0), (5, .int (nI b0 - 1))] := hl
  have hl : lv_has ls 11 [(10, .int (nI b0 - 1)), (8, .long w0), (6, .long c0), (0, .ref (h 0))] := lv_sub hl [0, 1, 2, 3] rfl
  have loop : ∀ (b : Nat) (c1 w : Int64) (ls : Array Slot), b ≤ 64 → plst (pany len n ca wa) b0 c0 w0 = plst (pany len n ca wa) b c1 w → lv_has ls 11 [(10, .int (nI b - 1)), (8, .long w), (6, .long c1), (0, .ref (h 0))] → W p l e (rmK 4) s m ([.ref (h 0), .long c0, .long w0, .int (nI b0 - 1)] : List Value).toArray below meth c s.heap [] 0 0 Q (F0 m 10 ls []) := by
    intro b
    induction b with
    | zero =>
      intro c1 w ls hb6 hf hl
      refine lv_iload hx hb dd_PT_least_10 (lv_at hl 0 rfl) ?_
      refine lv_if_lt (tgt := 50) hx hb dd_PT_least_12 (by decide) (fun hc => ?_) (fun hc => ?_)
      · refine lv_lload hx hb dd_PT_least_50 (lv_at hl 1 rfl) ?_
        exact ret 52 ls _ hf.symm dd_PT_least_52
      · exact absurd (by decide +kernel) hc
    | succ b ih =>
      intro c1 w ls hb6 hf hl
      rw [nI_pred] at hl
      refine lv_iload hx hb dd_PT_least_10 (lv_at hl 0 rfl) ?_
      refine lv_if_lt (tgt := 50) hx hb dd_PT_least_12 (by decide) (fun hc => ?_) (fun hc => ?_)
      · exact absurd hc (nI_pos (by omega))
      · refine lv_lload hx hb dd_PT_least_15 (lv_at hl 2 rfl) ?_
        refine lv_lconst (v := 1) hx hb dd_PT_least_17 (by decide) ?_
        refine lv_iload hx hb dd_PT_least_18 (lv_at hl 0 rfl) ?_
        refine lv_lshl hx hb dd_PT_least_20 rfl ?_
        refine lv_lor hx hb dd_PT_least_21 ?_
        refine lv_topl (fun v22 e22 => ?_)
        obtain rfl : v22 = c1 ||| sh1 b := e22
        refine lv_lstore hx hb dd_PT_least_22 hl (by decide) rfl (fun ls hl => ?_)
        have hl : lv_has ls 11 [(6, .long (c1 ||| sh1 b)), (10, .int (nI b)), (8, .long w), (0, .ref (h 0))] := hl
        refine lv_aload_n hx hb dd_PT_least_24 rfl (lv_at hl 3 rfl) ?_
        refine lv_lload hx hb dd_PT_least_25 (lv_at hl 0 rfl) ?_
        refine lv_lload hx hb dd_PT_least_27 (lv_at hl 2 rfl) ?_
        refine RdI.callV (c_PT_any l D cI cL h g cl len n ca wa z (c1 ||| sh1 b) w hlen hn) vs_PT_100 ⟨hx, hb, hml, hown, hT⟩ hK hP 0 rfl rfl ⟨rfl, rfl⟩ (by decide) rfl hl.1 rfl (Nat.le_of_ble_eq_true rfl) dd_PT_least_29 ⟨Nat.zero_le _, Nat.zero_le _⟩ (fun r hr => ?_)
        subst hr
        refine lv_if_ne (tgt := 44) hx hb dd_PT_least_32 (by decide) (fun hc => ?_) (fun hc => ?_)
        · have hcf : pany len n ca wa (c1 ||| sh1 b) w = true := by cases hb2 : pany len n ca wa (c1 ||| sh1 b) w <;> simp_all [b2i]
          refine lv_iinc (k := 1) hx hb dd_PT_least_44 hl rfl (tq_pm1 b) (by decide) rfl (fun ls hl => ?_)
          have hl : lv_has ls 11 [(10, .int (nI b - 1)), (6, .long (c1 ||| sh1 b)), (8, .long w), (0, .ref (h 0))] := hl
          refine lv_goto (tgt := 10) hx hb dd_PT_least_47 (by decide) ?_
          have hl : lv_has ls 11 [(10, .int (nI b - 1)), (8, .long w), (6, .long (c1 ||| sh1 b)), (0, .ref (h 0))] := lv_sub hl [0, 2, 1, 3] rfl
          exact ih _ _ ls (by omega) (by rw [hf]; simp [plst, hcf]) hl
        · have hcf : pany len n ca wa (c1 ||| sh1 b) w = false := by cases hb2 : pany len n ca wa (c1 ||| sh1 b) w <;> simp_all [b2i]
          refine lv_lload hx hb dd_PT_least_35 (lv_at hl 2 rfl) ?_
          refine lv_lconst (v := 1) hx hb dd_PT_least_37 (by decide) ?_
          refine lv_iload hx hb dd_PT_least_38 (lv_at hl 1 rfl) ?_
          refine lv_lshl hx hb dd_PT_least_40 rfl ?_
          refine lv_lor hx hb dd_PT_least_41 ?_
          refine lv_topl (fun v42 e42 => ?_)
          obtain rfl : v42 = w ||| sh1 b := e42
          refine lv_lstore hx hb dd_PT_least_42 hl (by decide) rfl (fun ls hl => ?_)
          have hl : lv_has ls 11 [(8, .long (w ||| sh1 b)), (6, .long (c1 ||| sh1 b)), (10, .int (nI b)), (0, .ref (h 0))] := hl
          refine lv_iinc (k := 2) hx hb dd_PT_least_44 hl rfl (tq_pm1 b) (by decide) rfl (fun ls hl => ?_)
          have hl : lv_has ls 11 [(10, .int (nI b - 1)), (8, .long (w ||| sh1 b)), (6, .long (c1 ||| sh1 b)), (0, .ref (h 0))] := hl
          refine lv_goto (tgt := 10) hx hb dd_PT_least_47 (by decide) ?_
          have hl : lv_has ls 11 [(10, .int (nI b - 1)), (8, .long (w ||| sh1 b)), (6, .long (c1 ||| sh1 b)), (0, .ref (h 0))] := lv_sub hl [0, 1, 2, 3] rfl
          exact ih _ _ ls (by omega) (by rw [hf]; simp [plst, hcf]) hl
  exact loop b0 c0 w0 ls hb0 rfl hl
end
section
set_option maxRecDepth 20000 in
theorem c_TR_best (l : Launch) (D : va_G) (cI cL : ClassId) (h : Nat → Nat) (g cl : Int32) (len n : Nat) (ca wa : Nat → Int64) (z : ZT) (fr tt : Nat) (te : Int64) (hlen : len ≤ 64) (htt : tt ≤ 33792) (hft : fr ≤ tt) (hpile : ∀ k, fr ≤ k → k < tt → ∃ q, q < 512 ∧ z.2.2.2.2.2.2 k = nI q) : RdI l yy_TR_best bb_TR_best 11 (some .int) (rmK 1) D cI cL [.ref (h 1), .int (nI fr), .int (nI tt), .long te] (wX cI cL h g cl len n ca wa z) (fun r => r = -1 ∨ ∃ b, b < len ∧ r = nI b ∧ bt te b = false) := by
  refine RdI.mk (by decide) (Nat.le_of_ble_eq_true rfl) ?_
  intro p e s m below meth c Q hx hb hml hown hT hK hP ret ls hl
  have hown : s.vm.findClass "PatternTree$Tree" = some m.cls := hown
  have hl : lv_has ls 11 [(0, .ref (h 1)), (1, .int (nI fr)), (2, .int (nI tt)), (3, .long te)] := hl
  refine lv_iconst (v := -1) hx hb dd_TR_best_0 (by decide) ?_
  refine lv_topi (fun v1 e1 => ?_)
  obtain rfl : v1 = -1 := e1
  refine lv_istore hx hb dd_TR_best_1 hl (by decide) rfl (fun ls hl => ?_)
  have hl : lv_has ls 11 [(5, .int (-1)), (0, .ref (h 1)), (1, .int (nI fr)), (2, .int (nI tt)), (3, .long te)] := hl
  refine lv_iconst (v := 0) hx hb dd_TR_best_3 (by decide) ?_
  refine lv_topi (fun v4 e4 => ?_)
  obtain rfl : v4 = 0 := e4
  refine lv_istore hx hb dd_TR_best_4 hl (by decide) rfl (fun ls hl => ?_)
  have hl : lv_has ls 11 [(6, .int 0), (5, .int (-1)), (0, .ref (h 1)), (1, .int (nI fr)), (2, .int (nI tt)), (3, .long te)] := hl
  refine lv_iconst (v := 0) hx hb dd_TR_best_6 (by decide) ?_
  refine lv_topi (fun v7 e7 => ?_)
  obtain rfl : v7 = nI 0 := e7
  refine lv_istore hx hb dd_TR_best_7 hl (by decide) rfl (fun ls hl => ?_)
  have hl : lv_has ls 11 [(7, .int (nI 0)), (6, .int 0), (5, .int (-1)), (0, .ref (h 1)), (1, .int (nI fr)), (2, .int (nI tt)), (3, .long te)] := hl
  have hl : lv_has ls 11 [(7, .int (nI 0)), (5, .int (-1)), (6, .int 0), (0, .ref (h 1)), (1, .int (nI fr)), (2, .int (nI tt)), (3, .long te)] := lv_sub hl [0, 2, 1, 3, 4, 5, 6] rfl
  have outer : ∀ (j b : Nat) (found most : Int32) (ls : Array Slot), b + j = len → (found = -1 ∨ ∃ b, b < len ∧ found = nI b ∧ bt te b = false) → lv_has ls 11 [(7, .int (nI b)), (5, .int found), (6, .int most), (0, .ref (h 1)), (1, .int (nI fr)), (2, .int (nI tt)), (3, .long te)] → W p l e (rmK 1) s m ([.ref (h 1), .int (nI fr), .int (nI tt), .long te] : List Value).toArray below meth c s.heap [] 0 0 Q (F0 m 9 ls []) := by
    intro j
    induction j with
    | zero =>
      intro b found most ls hbj hok hl
      refine lv_iload hx hb dd_TR_best_9 (lv_at hl 0 rfl) ?_
      refine lv_aload_n hx hb dd_TR_best_11 rfl (lv_at hl 3 rfl) ?_
      refine va_get (D := D) (cl := classes) (ci := 1) (C := R_TR) (T := F_TR) (N := 11) hx hb hT in_TR hown hK hP 1 rfl rfl 0 (by decide) (hT _ tw_27) (fun _ h9 => h9) rfl dd_TR_best_12 ?_
      refine tq_ige (tgt := 166) hx hb (by omega) (by omega) dd_TR_best_15 (by decide) (fun hc => ?_) (fun hc => ?_)
      · refine lv_iload hx hb dd_TR_best_166 (lv_at hl 1 rfl) ?_
        exact ret 168 ls _ hok rfl dd_TR_best_168
      · omega
    | succ j ih =>
      intro b found most ls hbj hok hl
      have k160 : ∀ (found most : Int32) (ls : Array Slot), (found = -1 ∨ ∃ b, b < len ∧ found = nI b ∧ bt te b = false) → lv_has ls 11 [(7, .int (nI b)), (5, .int found), (6, .int most), (0, .ref (h 1)), (1, .int (nI fr)), (2, .int (nI tt)), (3, .long te)] → W p l e (rmK 1) s m ([.ref (h 1), .int (nI fr), .int (nI tt), .long te] : List Value).toArray below meth c s.heap [] 0 0 Q (F0 m 160 ls []) := by
        intro found most ls hok hl
        refine lv_iinc (k := 0) hx hb dd_TR_best_160 hl rfl (tq_inc b) (by decide) rfl (fun ls hl => ?_)
        have hl : lv_has ls 11 [(7, .int (nI (b + 1))), (5, .int found), (6, .int most), (0, .ref (h 1)), (1, .int (nI fr)), (2, .int (nI tt)), (3, .long te)] := hl
        refine lv_goto (tgt := 9) hx hb dd_TR_best_163 (by decide) ?_
        exact ih (b + 1) found most ls (by omega) hok hl
      refine lv_iload hx hb dd_TR_best_9 (lv_at hl 0 rfl) ?_
      refine lv_aload_n hx hb dd_TR_best_11 rfl (lv_at hl 3 rfl) ?_
      refine va_get (D := D) (cl := classes) (ci := 1) (C := R_TR) (T := F_TR) (N := 11) hx hb hT in_TR hown hK hP 1 rfl rfl 0 (by decide) (hT _ tw_27) (fun _ h9 => h9) rfl dd_TR_best_12 ?_
      refine tq_ige (tgt := 166) hx hb (by omega) (by omega) dd_TR_best_15 (by decide) (fun hc => ?_) (fun hc => ?_)
      · omega
      · refine lv_lload_n hx hb dd_TR_best_18 rfl (lv_at hl 6 rfl) ?_
        refine lv_iload hx hb dd_TR_best_19 (lv_at hl 0 rfl) ?_
        refine lv_lushr hx hb dd_TR_best_21 rfl ?_
        refine lv_lconst (v := 1) hx hb dd_TR_best_22 (by decide) ?_
        refine lv_land hx hb dd_TR_best_23 ?_
        refine lv_lconst (v := 0) hx hb dd_TR_best_24 (by decide) ?_
        refine tq_leq (tgt := 32) hx hb dd_TR_best_25 dd_TR_best_26 (by decide) (fun hz => ?_) (fun hz => ?_)
        · have hbt : bt te b = false := (ubit0 (by omega)).mp hz
          refine lv_iconst (v := 0) hx hb dd_TR_best_32 (by decide) ?_
          refine lv_topi (fun v33 e33 => ?_)
          obtain rfl : v33 = 0 := e33
          refine lv_istore hx hb dd_TR_best_33 hl (by decide) rfl (fun ls hl => ?_)
          have hl : lv_has ls 11 [(8, .int 0), (7, .int (nI b)), (5, .int found), (6, .int most), (0, .ref (h 1)), (1, .int (nI fr)), (2, .int (nI tt)), (3, .long te)] := hl
          refine lv_iconst (v := 0) hx hb dd_TR_best_35 (by decide) ?_
          refine lv_topi (fun v36 e36 => ?_)
          obtain rfl : v36 = 0 := e36
          refine lv_istore hx hb dd_TR_best_36 hl (by decide) rfl (fun ls hl => ?_)
          have hl : lv_has ls 11 [(9, .int 0), (8, .int 0), (7, .int (nI b)), (5, .int found), (6, .int most), (0, .ref (h 1)), (1, .int (nI fr)), (2, .int (nI tt)), (3, .long te)] := hl
          refine lv_iload_n hx hb dd_TR_best_38 rfl (lv_at hl 6 rfl) ?_
          refine lv_topi (fun v39 e39 => ?_)
          obtain rfl : v39 = nI fr := e39
          refine lv_istore hx hb dd_TR_best_39 hl (by decide) rfl (fun ls hl => ?_)
          have hl : lv_has ls 11 [(10, .int (nI fr)), (9, .int 0), (8, .int 0), (7, .int (nI b)), (5, .int found), (6, .int most), (0, .ref (h 1)), (1, .int (nI fr)), (2, .int (nI tt)), (3, .long te)] := hl
          have inner : ∀ (i k : Nat) (on ze : Int32) (ls : Array Slot), k + i = tt → fr ≤ k → lv_has ls 11 [(10, .int (nI k)), (9, .int on), (8, .int ze), (7, .int (nI b)), (5, .int found), (6, .int most), (0, .ref (h 1)), (1, .int (nI fr)), (2, .int (nI tt)), (3, .long te)] → W p l e (rmK 1) s m ([.ref (h 1), .int (nI fr), .int (nI tt), .long te] : List Value).toArray below meth c s.heap [] 0 0 Q (F0 m 41 ls []) := by
            intro i
            induction i with
            | zero =>
              intro k on ze ls hki hfk hl
              refine lv_iload hx hb dd_TR_best_41 (lv_at hl 0 rfl) ?_
              refine lv_iload_n hx hb dd_TR_best_43 rfl (lv_at hl 8 rfl) ?_
              refine tq_ige (tgt := 109) hx hb (by omega) (by omega) dd_TR_best_44 (by decide) (fun hc => ?_) (fun hc => ?_)
              · refine lv_iconst (v := 2) hx hb dd_TR_best_109 (by decide) ?_
                refine lv_iload hx hb dd_TR_best_110 (lv_at hl 2 rfl) ?_
                refine lv_iload hx hb dd_TR_best_112 (lv_at hl 1 rfl) ?_
                refine va_mmin hx hb (hml.trans hl.1.symm) hown (hT _ tw_97) (hT _ tw_98) (hT _ tw_10) (hT _ tw_99) (by decide) (Nat.le_of_ble_eq_true rfl) (Nat.zero_le _) (Nat.zero_le _) dd_TR_best_114 ?_
                refine lv_imul hx hb dd_TR_best_117 ?_
                refine lv_iload_n hx hb dd_TR_best_118 rfl (lv_at hl 8 rfl) ?_
                refine lv_iload_n hx hb dd_TR_best_119 rfl (lv_at hl 7 rfl) ?_
                refine lv_isub hx hb dd_TR_best_120 ?_
                refine lv_iload hx hb dd_TR_best_121 (lv_at hl 2 rfl) ?_
                refine lv_isub hx hb dd_TR_best_123 ?_
                refine lv_iload hx hb dd_TR_best_124 (lv_at hl 1 rfl) ?_
                refine lv_isub hx hb dd_TR_best_126 ?_
                refine lv_isub hx hb dd_TR_best_127 ?_
                refine lv_topi (fun v128 e128 => ?_)
                refine lv_istore hx hb dd_TR_best_128 hl (by decide) rfl (fun ls hl => ?_)
                have hl : lv_has ls 11 [(10, .int v128), (9, .int on), (8, .int ze), (7, .int (nI b)), (5, .int found), (6, .int most), (0, .ref (h 1)), (1, .int (nI fr)), (2, .int (nI tt)), (3, .long te)] := hl
                refine lv_iload hx hb dd_TR_best_130 (lv_at hl 2 rfl) ?_
                refine lv_if_le (tgt := 160) hx hb dd_TR_best_132 (by decide) (fun hc => ?_) (fun hc => ?_)
                · exact k160 found most ls hok (lv_sub hl [3, 4, 5, 6, 7, 8, 9] rfl)
                · refine lv_iload hx hb dd_TR_best_135 (lv_at hl 1 rfl) ?_
                  refine lv_if_le (tgt := 160) hx hb dd_TR_best_137 (by decide) (fun hc => ?_) (fun hc => ?_)
                  · exact k160 found most ls hok (lv_sub hl [3, 4, 5, 6, 7, 8, 9] rfl)
                  · refine lv_iload hx hb dd_TR_best_140 (lv_at hl 4 rfl) ?_
                    refine lv_if_lt (tgt := 152) hx hb dd_TR_best_142 (by decide) (fun hc => ?_) (fun hc => ?_)
                    · refine lv_iload hx hb dd_TR_best_152 (lv_at hl 3 rfl) ?_
                      refine lv_topi (fun v154 e154 => ?_)
                      obtain rfl : v154 = nI b := e154
                      refine lv_istore hx hb dd_TR_best_154 hl (by decide) rfl (fun ls hl => ?_)
                      have hl : lv_has ls 11 [(5, .int (nI b)), (10, .int v128), (9, .int on), (8, .int ze), (7, .int (nI b)), (6, .int most), (0, .ref (h 1)), (1, .int (nI fr)), (2, .int (nI tt)), (3, .long te)] := hl
                      refine lv_iload hx hb dd_TR_best_156 (lv_at hl 1 rfl) ?_
                      refine lv_topi (fun v158 e158 => ?_)
                      obtain rfl : v128 = v158 := (e158).symm
                      refine lv_istore hx hb dd_TR_best_158 hl (by decide) rfl (fun ls hl => ?_)
                      have hl : lv_has ls 11 [(6, .int v128), (5, .int (nI b)), (10, .int v128), (9, .int on), (8, .int ze), (7, .int (nI b)), (0, .ref (h 1)), (1, .int (nI fr)), (2, .int (nI tt)), (3, .long te)] := hl
                      exact k160 (nI b) v128 ls (Or.inr ⟨b, by omega, rfl, hbt⟩) (lv_sub hl [5, 1, 0, 6, 7, 8, 9] rfl)
                    · refine lv_iload hx hb dd_TR_best_145 (lv_at hl 0 rfl) ?_
                      refine lv_iload hx hb dd_TR_best_147 (lv_at hl 5 rfl) ?_
                      refine lv_icmp_le (tgt := 160) hx hb dd_TR_best_149 (by decide) (fun hc => ?_) (fun hc => ?_)
                      · exact k160 found most ls hok (lv_sub hl [3, 4, 5, 6, 7, 8, 9] rfl)
                      · refine lv_iload hx hb dd_TR_best_152 (lv_at hl 3 rfl) ?_
                        refine lv_topi (fun v154 e154 => ?_)
                        obtain rfl : v154 = nI b := e154
                        refine lv_istore hx hb dd_TR_best_154 hl (by decide) rfl (fun ls hl => ?_)
                        have hl : lv_has ls 11 [(5, .int (nI b)), (10, .int v128), (9, .int on), (8, .int ze), (7, .int (nI b)), (6, .int most), (0, .ref (h 1)), (1, .int (nI fr)), (2, .int (nI tt)), (3, .long te)] := hl
                        refine lv_iload hx hb dd_TR_best_156 (lv_at hl 1 rfl) ?_
                        refine lv_topi (fun v158 e158 => ?_)
                        obtain rfl : v128 = v158 := (e158).symm
                        refine lv_istore hx hb dd_TR_best_158 hl (by decide) rfl (fun ls hl => ?_)
                        have hl : lv_has ls 11 [(6, .int v128), (5, .int (nI b)), (10, .int v128), (9, .int on), (8, .int ze), (7, .int (nI b)), (0, .ref (h 1)), (1, .int (nI fr)), (2, .int (nI tt)), (3, .long te)] := hl
                        exact k160 (nI b) v128 ls (Or.inr ⟨b, by omega, rfl, hbt⟩) (lv_sub hl [5, 1, 0, 6, 7, 8, 9] rfl)
              · omega
            | succ i ihi =>
              intro k on ze ls hki hfk hl
              refine lv_iload hx hb dd_TR_best_41 (lv_at hl 0 rfl) ?_
              refine lv_iload_n hx hb dd_TR_best_43 rfl (lv_at hl 8 rfl) ?_
              refine tq_ige (tgt := 109) hx hb (by omega) (by omega) dd_TR_best_44 (by decide) (fun hc => ?_) (fun hc => ?_)
              · omega
              · obtain ⟨q, hq, hpq⟩ := hpile k hfk (by omega)
                refine lv_aload_n hx hb dd_TR_best_47 rfl (lv_at hl 6 rfl) ?_
                refine va_get (D := D) (cl := classes) (ci := 1) (C := R_TR) (T := F_TR) (N := 11) hx hb hT in_TR hown hK hP 1 rfl rfl 2 (by decide) (hT _ tw_31) (fun _ h9 => h9) rfl dd_TR_best_48 ?_
                refine lv_aload_n hx hb dd_TR_best_51 rfl (lv_at hl 6 rfl) ?_
                refine va_get (D := D) (cl := classes) (ci := 1) (C := R_TR) (T := F_TR) (N := 11) hx hb hT in_TR hown hK hP 1 rfl rfl 10 (by decide) (hT _ tw_41) (fun _ h9 => h9) rfl dd_TR_best_52 ?_
                refine lv_iload hx hb dd_TR_best_55 (lv_at hl 0 rfl) ?_
                refine tq_iald (k := k) hx hb hK hP 8 rfl (by omega) (by decide) dd_TR_best_57 ?_
                rw [hpq]
                refine tq_lald (k := q) hx hb hK hP 2 rfl hq (by decide) dd_TR_best_58 ?_
                refine lv_iload hx hb dd_TR_best_59 (lv_at hl 3 rfl) ?_
                refine lv_lushr hx hb dd_TR_best_61 rfl ?_
                refine lv_lconst (v := 1) hx hb dd_TR_best_62 (by decide) ?_
                refine lv_land hx hb dd_TR_best_63 ?_
                refine lv_lconst (v := 0) hx hb dd_TR_best_64 (by decide) ?_
                refine tq_lne (tgt := 72) hx hb dd_TR_best_65 dd_TR_best_66 (by decide) (fun hc => ?_) (fun hc => ?_)
                · refine lv_aload_n hx hb dd_TR_best_72 rfl (lv_at hl 6 rfl) ?_
                  refine va_get (D := D) (cl := classes) (ci := 1) (C := R_TR) (T := F_TR) (N := 11) hx hb hT in_TR hown hK hP 1 rfl rfl 3 (by decide) (hT _ tw_33) (fun _ h9 => h9) rfl dd_TR_best_73 ?_
                  refine lv_aload_n hx hb dd_TR_best_76 rfl (lv_at hl 6 rfl) ?_
                  refine va_get (D := D) (cl := classes) (ci := 1) (C := R_TR) (T := F_TR) (N := 11) hx hb hT in_TR hown hK hP 1 rfl rfl 10 (by decide) (hT _ tw_41) (fun _ h9 => h9) rfl dd_TR_best_77 ?_
                  refine lv_iload hx hb dd_TR_best_80 (lv_at hl 0 rfl) ?_
                  refine tq_iald (k := k) hx hb hK hP 8 rfl (by omega) (by decide) dd_TR_best_82 ?_
                  rw [hpq]
                  refine tq_lald (k := q) hx hb hK hP 3 rfl hq (by decide) dd_TR_best_83 ?_
                  refine lv_iload hx hb dd_TR_best_84 (lv_at hl 3 rfl) ?_
                  refine lv_lushr hx hb dd_TR_best_86 rfl ?_
                  refine lv_lconst (v := 1) hx hb dd_TR_best_87 (by decide) ?_
                  refine lv_land hx hb dd_TR_best_88 ?_
                  refine lv_lconst (v := 0) hx hb dd_TR_best_89 (by decide) ?_
                  refine tq_lne (tgt := 100) hx hb dd_TR_best_90 dd_TR_best_91 (by decide) (fun hc => ?_) (fun hc => ?_)
                  · refine lv_iinc (k := 1) hx hb dd_TR_best_100 hl rfl rfl (by decide) rfl (fun ls hl => ?_)
                    have hl : lv_has ls 11 [(9, .int (on + Int32.ofInt 1)), (10, .int (nI k)), (8, .int ze), (7, .int (nI b)), (5, .int found), (6, .int most), (0, .ref (h 1)), (1, .int (nI fr)), (2, .int (nI tt)), (3, .long te)] := hl
                    refine lv_iinc (k := 1) hx hb dd_TR_best_103 hl rfl (tq_inc k) (by decide) rfl (fun ls hl => ?_)
                    have hl : lv_has ls 11 [(10, .int (nI (k + 1))), (9, .int (on + Int32.ofInt 1)), (8, .int ze), (7, .int (nI b)), (5, .int found), (6, .int most), (0, .ref (h 1)), (1, .int (nI fr)), (2, .int (nI tt)), (3, .long te)] := hl
                    refine lv_goto (tgt := 41) hx hb dd_TR_best_106 (by decide) ?_
                    exact ihi (k + 1) _ _ ls (by omega) (by omega) (lv_sub hl [0, 1, 2, 3, 4, 5, 6, 7, 8, 9] rfl)
                  · refine lv_iinc (k := 2) hx hb dd_TR_best_94 hl rfl rfl (by decide) rfl (fun ls hl => ?_)
                    have hl : lv_has ls 11 [(8, .int (ze + Int32.ofInt 1)), (10, .int (nI k)), (9, .int on), (7, .int (nI b)), (5, .int found), (6, .int most), (0, .ref (h 1)), (1, .int (nI fr)), (2, .int (nI tt)), (3, .long te)] := hl
                    refine lv_goto (tgt := 103) hx hb dd_TR_best_97 (by decide) ?_
                    refine lv_iinc (k := 1) hx hb dd_TR_best_103 hl rfl (tq_inc k) (by decide) rfl (fun ls hl => ?_)
                    have hl : lv_has ls 11 [(10, .int (nI (k + 1))), (8, .int (ze + Int32.ofInt 1)), (9, .int on), (7, .int (nI b)), (5, .int found), (6, .int most), (0, .ref (h 1)), (1, .int (nI fr)), (2, .int (nI tt)), (3, .long te)] := hl
                    refine lv_goto (tgt := 41) hx hb dd_TR_best_106 (by decide) ?_
                    exact ihi (k + 1) _ _ ls (by omega) (by omega) (lv_sub hl [0, 2, 1, 3, 4, 5, 6, 7, 8, 9] rfl)
                · refine lv_goto (tgt := 103) hx hb dd_TR_best_69 (by decide) ?_
                  refine lv_iinc (k := 0) hx hb dd_TR_best_103 hl rfl (tq_inc k) (by decide) rfl (fun ls hl => ?_)
                  have hl : lv_has ls 11 [(10, .int (nI (k + 1))), (9, .int on), (8, .int ze), (7, .int (nI b)), (5, .int found), (6, .int most), (0, .ref (h 1)), (1, .int (nI fr)), (2, .int (nI tt)), (3, .long te)] := hl
                  refine lv_goto (tgt := 41) hx hb dd_TR_best_106 (by decide) ?_
                  exact ihi (k + 1) _ _ ls (by omega) (by omega) (lv_sub hl [0, 1, 2, 3, 4, 5, 6, 7, 8, 9] rfl)
          exact inner (tt - fr) fr 0 0 ls (by omega) (by omega) hl
        · refine lv_goto (tgt := 160) hx hb dd_TR_best_29 (by decide) ?_
          exact k160 found most ls hok hl
  exact outer len 0 (-1) 0 ls (by omega) (Or.inl rfl) hl
set_option maxRecDepth 20000 in
theorem c_TR_decode (l : Launch) (D : va_G) (cI cL : ClassId) (h : Nat → Nat) (g cl : Int32) (len n : Nat) (ca wa : Nat → Int64) (z : ZT) (w : Int64) (lo hi lm d0 : Nat) (hlen : len ≤ 64) (hn : n ≤ 512) (hhi : hi ≤ 2048) (hlm : lm ≤ 8192) (hTG : TG ca wa len z.2.2.1 z.2.2.2.1 z.2.2.2.2.1 z.2.2.2.2.2.1 lo hi lm d0 0 (List.range n)) : RdI l yy_TR_decode bb_TR_decode 7 (some .int) (rmK 1) D cI cL [.ref (h 1), .long w] (wX cI cL h g cl len n ca wa z) (fun r => (r = -1 ∧ ∀ k, k < n → tk ca wa w k = false) ∨ ∃ k, k < n ∧ r = nI k ∧ tk ca wa w k = true) := by
  refine RdI.mk (by decide) (Nat.le_of_ble_eq_true rfl) ?_
  intro p e s m below meth c Q hx hb hml hown hT hK hP ret ls hl
  have hown : s.vm.findClass "PatternTree$Tree" = some m.cls := hown
  have hl : lv_has ls 7 [(0, .ref (h 1)), (1, .long w)] := hl
  refine lv_iconst (v := 0) hx hb dd_TR_decode_0 (by decide) ?_
  refine lv_topi (fun v1 e1 => ?_)
  obtain rfl : v1 = nI 0 := e1
  refine lv_istore_n hx hb dd_TR_decode_1 rfl hl (by decide) rfl (fun ls hl => ?_)
  have hl : lv_has ls 7 [(3, .int (nI 0)), (0, .ref (h 1)), (1, .long w)] := hl
  have leaf : ∀ (q : Nat) (L : List Nat) (ls : Array Slot), LF z.2.2.1 z.2.2.2.1 z.2.2.2.2.1 z.2.2.2.2.2.1 lo hi lm q L → (∀ k, k < n → tk ca wa w k = true → k ∈ L) → (∀ k, k ∈ L → k < n) → lv_has ls 7 [(3, .int (nI q)), (0, .ref (h 1)), (1, .long w)] → W p l e (rmK 1) s m ([.ref (h 1), .long w] : List Value).toArray below meth c s.heap [] 0 0 Q (F0 m 45 ls []) := by
    intro q L ls hLF hin hsub hl
    obtain ⟨hlo, hq, hbi, hr⟩ := hLF
    rcases hr with hr | ⟨hr, hL5, o, hle, hol, hli⟩
    · refine lv_aload_n hx hb dd_TR_decode_45 rfl (lv_at hl 1 rfl) ?_
      refine va_get (D := D) (cl := classes) (ci := 1) (C := R_TR) (T := F_TR) (N := 11) hx hb hT in_TR hown hK hP 1 rfl rfl 6 (by decide) (hT _ tw_37) (fun _ h9 => h9) rfl dd_TR_decode_46 ?_
      refine lv_iload_n hx hb dd_TR_decode_49 rfl (lv_at hl 0 rfl) ?_
      refine tq_iald (k := q) hx hb hK hP 6 rfl (by omega) (by decide) dd_TR_decode_50 ?_
      rw [hr]
      refine lv_if_ge (tgt := 61) hx hb dd_TR_decode_51 (by decide) (fun hc => ?_) (fun hc => ?_)
      · exact absurd hc (by decide)
      · refine lv_aload_n hx hb dd_TR_decode_54 rfl (lv_at hl 1 rfl) ?_
        refine va_get (D := D) (cl := classes) (ci := 1) (C := R_TR) (T := F_TR) (N := 11) hx hb hT in_TR hown hK hP 1 rfl rfl 1 (by decide) (hT _ tw_30) (fun _ h9 => h9) rfl dd_TR_decode_55 ?_
        refine lv_goto (tgt := 67) hx hb dd_TR_decode_58 (by decide) ?_
        refine lv_topi (fun v67 e67 => ?_)
        obtain rfl : v67 = nI n := e67
        refine lv_istore hx hb dd_TR_decode_67 hl (by decide) rfl (fun ls hl => ?_)
        have hl : lv_has ls 7 [(4, .int (nI n)), (3, .int (nI q)), (0, .ref (h 1)), (1, .long w)] := hl
        refine lv_iconst (v := 0) hx hb dd_TR_decode_69 (by decide) ?_
        refine lv_topi (fun v70 e70 => ?_)
        obtain rfl : v70 = nI 0 := e70
        refine lv_istore hx hb dd_TR_decode_70 hl (by decide) rfl (fun ls hl => ?_)
        have hl : lv_has ls 7 [(5, .int (nI 0)), (4, .int (nI n)), (3, .int (nI q)), (0, .ref (h 1)), (1, .long w)] := hl
        have scan : ∀ (j k : Nat) (ls : Array Slot), k + j = n → (∀ i, i < k → tk ca wa w i = false) → lv_has ls 7 [(5, .int (nI k)), (4, .int (nI n)), (3, .int (nI q)), (0, .ref (h 1)), (1, .long w)] → W p l e (rmK 1) s m ([.ref (h 1), .long w] : List Value).toArray below meth c s.heap [] 0 0 Q (F0 m 72 ls []) := by
          intro j
          induction j with
          | zero =>
            intro k ls hkj hno hl
            refine lv_iload hx hb dd_TR_decode_72 (lv_at hl 0 rfl) ?_
            refine lv_iload hx hb dd_TR_decode_74 (lv_at hl 1 rfl) ?_
            refine tq_ige (tgt := 128) hx hb (by omega) (by omega) dd_TR_decode_76 (by decide) (fun hc => ?_) (fun hc => ?_)
            · refine lv_iconst (v := -1) hx hb dd_TR_decode_128 (by decide) ?_
              exact ret 129 ls _ (Or.inl ⟨rfl, fun i hi => hno i (by omega)⟩) rfl dd_TR_decode_129
            · omega
          | succ j ih =>
            intro k ls hkj hno hl
            refine lv_iload hx hb dd_TR_decode_72 (lv_at hl 0 rfl) ?_
            refine lv_iload hx hb dd_TR_decode_74 (lv_at hl 1 rfl) ?_
            refine tq_ige (tgt := 128) hx hb (by omega) (by omega) dd_TR_decode_76 (by decide) (fun hc => ?_) (fun hc => ?_)
            · omega
            · refine lv_aload_n hx hb dd_TR_decode_79 rfl (lv_at hl 3 rfl) ?_
              refine va_get (D := D) (cl := classes) (ci := 1) (C := R_TR) (T := F_TR) (N := 11) hx hb hT in_TR hown hK hP 1 rfl rfl 6 (by decide) (hT _ tw_37) (fun _ h9 => h9) rfl dd_TR_decode_80 ?_
              refine lv_iload_n hx hb dd_TR_decode_83 rfl (lv_at hl 2 rfl) ?_
              refine tq_iald (k := q) hx hb hK hP 6 rfl (by omega) (by decide) dd_TR_decode_84 ?_
              rw [hr]
              refine lv_if_ge (tgt := 93) hx hb dd_TR_decode_85 (by decide) (fun hd => ?_) (fun hd => ?_)
              · exact absurd hd (by decide)
              · refine lv_iload hx hb dd_TR_decode_88 (lv_at hl 0 rfl) ?_
                refine lv_goto (tgt := 107) hx hb dd_TR_decode_90 (by decide) ?_
                refine lv_topi (fun v107 e107 => ?_)
                obtain rfl : v107 = nI k := e107
                refine lv_istore hx hb dd_TR_decode_107 hl (by decide) rfl (fun ls hl => ?_)
                have hl : lv_has ls 7 [(6, .int (nI k)), (5, .int (nI k)), (4, .int (nI n)), (3, .int (nI q)), (0, .ref (h 1)), (1, .long w)] := hl
                refine lv_aload_n hx hb dd_TR_decode_109 rfl (lv_at hl 4 rfl) ?_
                refine lv_iload hx hb dd_TR_decode_110 (lv_at hl 0 rfl) ?_
                refine lv_lload_n hx hb dd_TR_decode_112 rfl (lv_at hl 5 rfl) ?_
                refine RdI.callV (c_TR_takes l D cI cL h g cl len n ca wa z k w (by omega)) vs_TR_69 ⟨hx, hb, hml, hown, hT⟩ hK hP 1 rfl rfl ⟨rfl, rfl⟩ (by decide) rfl hl.1 rfl (Nat.le_of_ble_eq_true rfl) dd_TR_decode_113 ⟨Nat.zero_le _, Nat.zero_le _⟩ (fun r1 hr1 => ?_)
                subst hr1
                refine lv_if_eq (tgt := 122) hx hb dd_TR_decode_116 (by decide) (fun he => ?_) (fun he => ?_)
                · have hcf : tk ca wa w k = false := by cases hb2 : tk ca wa w k <;> simp_all [b2i]
                  refine lv_iinc (k := 1) hx hb dd_TR_decode_122 hl rfl (tq_inc k) (by decide) rfl (fun ls hl => ?_)
                  have hl : lv_has ls 7 [(5, .int (nI (k + 1))), (6, .int (nI k)), (4, .int (nI n)), (3, .int (nI q)), (0, .ref (h 1)), (1, .long w)] := hl
                  refine lv_goto (tgt := 72) hx hb dd_TR_decode_125 (by decide) ?_
                  refine ih (k + 1) ls (by omega) (fun i hi => ?_) (lv_sub hl [0, 2, 3, 4, 5] rfl)
                  by_cases hik : i = k
                  · subst hik; exact hcf
                  · exact hno i (by omega)
                · have hcf : tk ca wa w k = true := by cases hb2 : tk ca wa w k <;> simp_all [b2i]
                  refine lv_iload hx hb dd_TR_decode_119 (lv_at hl 0 rfl) ?_
                  exact ret 121 ls _ (Or.inr ⟨k, by omega, rfl, hcf⟩) rfl dd_TR_decode_121
        exact scan n 0 ls (by omega) (fun i hi => absurd hi (Nat.not_lt_zero i)) hl
    · refine lv_aload_n hx hb dd_TR_decode_45 rfl (lv_at hl 1 rfl) ?_
      refine va_get (D := D) (cl := classes) (ci := 1) (C := R_TR) (T := F_TR) (N := 11) hx hb hT in_TR hown hK hP 1 rfl rfl 6 (by decide) (hT _ tw_37) (fun _ h9 => h9) rfl dd_TR_decode_46 ?_
      refine lv_iload_n hx hb dd_TR_decode_49 rfl (lv_at hl 0 rfl) ?_
      refine tq_iald (k := q) hx hb hK hP 6 rfl (by omega) (by decide) dd_TR_decode_50 ?_
      rw [hr]
      refine lv_if_ge (tgt := 61) hx hb dd_TR_decode_51 (by decide) (fun hc => ?_) (fun hc => ?_)
      · refine lv_aload_n hx hb dd_TR_decode_61 rfl (lv_at hl 1 rfl) ?_
        refine va_get (D := D) (cl := classes) (ci := 1) (C := R_TR) (T := F_TR) (N := 11) hx hb hT in_TR hown hK hP 1 rfl rfl 6 (by decide) (hT _ tw_37) (fun _ h9 => h9) rfl dd_TR_decode_62 ?_
        refine lv_iload_n hx hb dd_TR_decode_65 rfl (lv_at hl 0 rfl) ?_
        refine tq_iald (k := q) hx hb hK hP 6 rfl (by omega) (by decide) dd_TR_decode_66 ?_
        rw [hr]
        refine lv_topi (fun v67 e67 => ?_)
        obtain rfl : v67 = nI L.length := e67
        refine lv_istore hx hb dd_TR_decode_67 hl (by decide) rfl (fun ls hl => ?_)
        have hl : lv_has ls 7 [(4, .int (nI L.length)), (3, .int (nI q)), (0, .ref (h 1)), (1, .long w)] := hl
        refine lv_iconst (v := 0) hx hb dd_TR_decode_69 (by decide) ?_
        refine lv_topi (fun v70 e70 => ?_)
        obtain rfl : v70 = nI 0 := e70
        refine lv_istore hx hb dd_TR_decode_70 hl (by decide) rfl (fun ls hl => ?_)
        have hl : lv_has ls 7 [(5, .int (nI 0)), (4, .int (nI L.length)), (3, .int (nI q)), (0, .ref (h 1)), (1, .long w)] := hl
        have scan : ∀ (j k : Nat) (ls : Array Slot), k + j = L.length → (∀ i x, i < k → L[i]? = some x → tk ca wa w x = false) → lv_has ls 7 [(5, .int (nI k)), (4, .int (nI L.length)), (3, .int (nI q)), (0, .ref (h 1)), (1, .long w)] → W p l e (rmK 1) s m ([.ref (h 1), .long w] : List Value).toArray below meth c s.heap [] 0 0 Q (F0 m 72 ls []) := by
          intro j
          induction j with
          | zero =>
            intro k ls hkj hno hl
            refine lv_iload hx hb dd_TR_decode_72 (lv_at hl 0 rfl) ?_
            refine lv_iload hx hb dd_TR_decode_74 (lv_at hl 1 rfl) ?_
            refine tq_ige (tgt := 128) hx hb (by omega) (by omega) dd_TR_decode_76 (by decide) (fun hc => ?_) (fun hc => ?_)
            · refine lv_iconst (v := -1) hx hb dd_TR_decode_128 (by decide) ?_
              refine ret 129 ls _ (Or.inl ⟨rfl, fun k hk => ?_⟩) rfl dd_TR_decode_129
              cases ht : tk ca wa w k with
              | false => rfl
              | true =>
                obtain ⟨i, hi⟩ := List.getElem?_of_mem (hin k hk ht)
                have hil := (List.getElem?_eq_some_iff.mp hi).1
                rw [hno i k (by omega) hi] at ht
                cases ht
            · omega
          | succ j ih =>
            intro k ls hkj hno hl
            refine lv_iload hx hb dd_TR_decode_72 (lv_at hl 0 rfl) ?_
            refine lv_iload hx hb dd_TR_decode_74 (lv_at hl 1 rfl) ?_
            refine tq_ige (tgt := 128) hx hb (by omega) (by omega) dd_TR_decode_76 (by decide) (fun hc => ?_) (fun hc => ?_)
            · omega
            · have hkL : k < L.length := by omega
              obtain ⟨x, hx0⟩ : ∃ x, L[k]? = some x := ⟨_, List.getElem?_eq_getElem hkL⟩
              have hxn : x < n := hsub x (List.mem_of_getElem? hx0)
              refine lv_aload_n hx hb dd_TR_decode_79 rfl (lv_at hl 3 rfl) ?_
              refine va_get (D := D) (cl := classes) (ci := 1) (C := R_TR) (T := F_TR) (N := 11) hx hb hT in_TR hown hK hP 1 rfl rfl 6 (by decide) (hT _ tw_37) (fun _ h9 => h9) rfl dd_TR_decode_80 ?_
              refine lv_iload_n hx hb dd_TR_decode_83 rfl (lv_at hl 2 rfl) ?_
              refine tq_iald (k := q) hx hb hK hP 6 rfl (by omega) (by decide) dd_TR_decode_84 ?_
              rw [hr]
              refine lv_if_ge (tgt := 93) hx hb dd_TR_decode_85 (by decide) (fun hd => ?_) (fun hd => ?_)
              · refine lv_aload_n hx hb dd_TR_decode_93 rfl (lv_at hl 3 rfl) ?_
                refine va_get (D := D) (cl := classes) (ci := 1) (C := R_TR) (T := F_TR) (N := 11) hx hb hT in_TR hown hK hP 1 rfl rfl 8 (by decide) (hT _ tw_39) (fun _ h9 => h9) rfl dd_TR_decode_94 ?_
                refine lv_aload_n hx hb dd_TR_decode_97 rfl (lv_at hl 3 rfl) ?_
                refine va_get (D := D) (cl := classes) (ci := 1) (C := R_TR) (T := F_TR) (N := 11) hx hb hT in_TR hown hK hP 1 rfl rfl 5 (by decide) (hT _ tw_36) (fun _ h9 => h9) rfl dd_TR_decode_98 ?_
                refine lv_iload_n hx hb dd_TR_decode_101 rfl (lv_at hl 2 rfl) ?_
                refine tq_iald (k := q) hx hb hK hP 5 rfl (by omega) (by decide) dd_TR_decode_102 ?_
                rw [hle]
                refine lv_iload hx hb dd_TR_decode_103 (lv_at hl 0 rfl) ?_
                refine lv_iadd hx hb dd_TR_decode_105 ?_
                rw [nI_add]
                refine tq_iald (k := (o + k)) hx hb hK hP 7 rfl (by omega) (by decide) dd_TR_decode_106 ?_
                rw [hli k x hx0]
                refine lv_topi (fun v107 e107 => ?_)
                obtain rfl : v107 = nI x := e107
                refine lv_istore hx hb dd_TR_decode_107 hl (by decide) rfl (fun ls hl => ?_)
                have hl : lv_has ls 7 [(6, .int (nI x)), (5, .int (nI k)), (4, .int (nI L.length)), (3, .int (nI q)), (0, .ref (h 1)), (1, .long w)] := hl
                refine lv_aload_n hx hb dd_TR_decode_109 rfl (lv_at hl 4 rfl) ?_
                refine lv_iload hx hb dd_TR_decode_110 (lv_at hl 0 rfl) ?_
                refine lv_lload_n hx hb dd_TR_decode_112 rfl (lv_at hl 5 rfl) ?_
                refine RdI.callV (c_TR_takes l D cI cL h g cl len n ca wa z x w (by omega)) vs_TR_69 ⟨hx, hb, hml, hown, hT⟩ hK hP 1 rfl rfl ⟨rfl, rfl⟩ (by decide) rfl hl.1 rfl (Nat.le_of_ble_eq_true rfl) dd_TR_decode_113 ⟨Nat.zero_le _, Nat.zero_le _⟩ (fun r1 hr1 => ?_)
                subst hr1
                refine lv_if_eq (tgt := 122) hx hb dd_TR_decode_116 (by decide) (fun he => ?_) (fun he => ?_)
                · have hcf : tk ca wa w x = false := by cases hb2 : tk ca wa w x <;> simp_all [b2i]
                  refine lv_iinc (k := 1) hx hb dd_TR_decode_122 hl rfl (tq_inc k) (by decide) rfl (fun ls hl => ?_)
                  have hl : lv_has ls 7 [(5, .int (nI (k + 1))), (6, .int (nI x)), (4, .int (nI L.length)), (3, .int (nI q)), (0, .ref (h 1)), (1, .long w)] := hl
                  refine lv_goto (tgt := 72) hx hb dd_TR_decode_125 (by decide) ?_
                  refine ih (k + 1) ls (by omega) (fun i y hi hy => ?_) (lv_sub hl [0, 2, 3, 4, 5] rfl)
                  by_cases hik : i = k
                  · subst hik; rw [hx0] at hy; cases hy; exact hcf
                  · exact hno i y (by omega) hy
                · have hcf : tk ca wa w x = true := by cases hb2 : tk ca wa w x <;> simp_all [b2i]
                  refine lv_iload hx hb dd_TR_decode_119 (lv_at hl 0 rfl) ?_
                  exact ret 121 ls _ (Or.inr ⟨x, hxn, rfl, hcf⟩) rfl dd_TR_decode_121
              · exact absurd (nI_pos' (by omega)) hd
        exact scan L.length 0 ls (by omega) (fun i x hi _ => absurd hi (Nat.not_lt_zero i)) hl
      · exact absurd (nI_pos' (by omega)) hc
  have atleaf : ∀ (q : Nat) (L : List Nat) (ls : Array Slot), LF z.2.2.1 z.2.2.2.1 z.2.2.2.2.1 z.2.2.2.2.2.1 lo hi lm q L → (∀ k, k < n → tk ca wa w k = true → k ∈ L) → (∀ k, k ∈ L → k < n) → lv_has ls 7 [(3, .int (nI q)), (0, .ref (h 1)), (1, .long w)] → W p l e (rmK 1) s m ([.ref (h 1), .long w] : List Value).toArray below meth c s.heap [] 0 0 Q (F0 m 2 ls []) := by
    intro q L ls hLF hin hsub hl
    have hq := hLF.2.1
    have hbi := hLF.2.2.1
    refine lv_aload_n hx hb dd_TR_decode_2 rfl (lv_at hl 1 rfl) ?_
    refine va_get (D := D) (cl := classes) (ci := 1) (C := R_TR) (T := F_TR) (N := 11) hx hb hT in_TR hown hK hP 1 rfl rfl 4 (by decide) (hT _ tw_35) (fun _ h9 => h9) rfl dd_TR_decode_3 ?_
    refine lv_iload_n hx hb dd_TR_decode_6 rfl (lv_at hl 0 rfl) ?_
    refine tq_iald (k := q) hx hb hK hP 4 rfl (by omega) (by decide) dd_TR_decode_7 ?_
    rw [hbi]
    refine lv_if_lt (tgt := 45) hx hb dd_TR_decode_8 (by decide) (fun hc => ?_) (fun hc => ?_)
    · exact leaf q L ls hLF hin hsub hl
    · exact absurd (by decide) hc
  have desc : ∀ (d q : Nat) (L : List Nat) (ls : Array Slot), TG ca wa len z.2.2.1 z.2.2.2.1 z.2.2.2.2.1 z.2.2.2.2.2.1 lo hi lm d q L → (∀ k, k < n → tk ca wa w k = true → k ∈ L) → (∀ k, k ∈ L → k < n) → lv_has ls 7 [(3, .int (nI q)), (0, .ref (h 1)), (1, .long w)] → W p l e (rmK 1) s m ([.ref (h 1), .long w] : List Value).toArray below meth c s.heap [] 0 0 Q (F0 m 2 ls []) := by
    intro d
    induction d with
    | zero => exact fun q L ls hT0 hin hsub hl => atleaf q L ls hT0 hin hsub hl
    | succ d ih =>
      intro q L ls hT0 hin hsub hl
      rcases hT0 with hT0 | ⟨hlo, hq, b, l0, r0, hb6, hbi, hle, hri, hl0, hr0⟩
      · exact atleaf q L ls hT0 hin hsub hl
      refine lv_aload_n hx hb dd_TR_decode_2 rfl (lv_at hl 1 rfl) ?_
      refine va_get (D := D) (cl := classes) (ci := 1) (C := R_TR) (T := F_TR) (N := 11) hx hb hT in_TR hown hK hP 1 rfl rfl 4 (by decide) (hT _ tw_35) (fun _ h9 => h9) rfl dd_TR_decode_3 ?_
      refine lv_iload_n hx hb dd_TR_decode_6 rfl (lv_at hl 0 rfl) ?_
      refine tq_iald (k := q) hx hb hK hP 4 rfl (by omega) (by decide) dd_TR_decode_7 ?_
      rw [hbi]
      refine lv_if_lt (tgt := 45) hx hb dd_TR_decode_8 (by decide) (fun hc => ?_) (fun hc => ?_)
      · exact absurd hc (nI_pos (by omega))
      · refine lv_lload_n hx hb dd_TR_decode_11 rfl (lv_at hl 2 rfl) ?_
        refine lv_aload_n hx hb dd_TR_decode_12 rfl (lv_at hl 1 rfl) ?_
        refine va_get (D := D) (cl := classes) (ci := 1) (C := R_TR) (T := F_TR) (N := 11) hx hb hT in_TR hown hK hP 1 rfl rfl 4 (by decide) (hT _ tw_35) (fun _ h9 => h9) rfl dd_TR_decode_13 ?_
        refine lv_iload_n hx hb dd_TR_decode_16 rfl (lv_at hl 0 rfl) ?_
        refine tq_iald (k := q) hx hb hK hP 4 rfl (by omega) (by decide) dd_TR_decode_17 ?_
        rw [hbi]
        refine lv_lushr hx hb dd_TR_decode_18 rfl ?_
        refine lv_lconst (v := 1) hx hb dd_TR_decode_19 (by decide) ?_
        refine lv_land hx hb dd_TR_decode_20 ?_
        refine lv_lconst (v := 0) hx hb dd_TR_decode_21 (by decide) ?_
        refine tq_lne (tgt := 35) hx hb dd_TR_decode_22 dd_TR_decode_23 (by decide) (fun hd => ?_) (fun hd => ?_)
        · have hbt : bt w b = true := by
            cases hh : bt w b with
            | true => rfl
            | false => exact absurd ((ubit0 (by omega)).mpr hh) hd
          refine lv_aload_n hx hb dd_TR_decode_35 rfl (lv_at hl 1 rfl) ?_
          refine va_get (D := D) (cl := classes) (ci := 1) (C := R_TR) (T := F_TR) (N := 11) hx hb hT in_TR hown hK hP 1 rfl rfl 6 (by decide) (hT _ tw_37) (fun _ h9 => h9) rfl dd_TR_decode_36 ?_
          refine lv_iload_n hx hb dd_TR_decode_39 rfl (lv_at hl 0 rfl) ?_
          refine tq_iald (k := q) hx hb hK hP 6 rfl (by omega) (by decide) dd_TR_decode_40 ?_
          rw [hri]
          refine lv_topi (fun v41 e41 => ?_)
          obtain rfl : v41 = nI r0 := e41
          refine lv_istore_n hx hb dd_TR_decode_41 rfl hl (by decide) rfl (fun ls hl => ?_)
          have hl : lv_has ls 7 [(3, .int (nI r0)), (0, .ref (h 1)), (1, .long w)] := hl
          refine lv_goto (tgt := 2) hx hb dd_TR_decode_42 (by decide) ?_
          exact ih r0 _ ls hr0 (fun k hk ht => List.mem_filter.mpr ⟨hin k hk ht, by have ho := tk_okc (b := b) ht; rw [hbt] at ho; exact ho⟩) (fun k hk => hsub k (List.mem_filter.mp hk).1) hl
        · have hbt : bt w b = false := (ubit0 (by omega)).mp hd
          refine lv_aload_n hx hb dd_TR_decode_26 rfl (lv_at hl 1 rfl) ?_
          refine va_get (D := D) (cl := classes) (ci := 1) (C := R_TR) (T := F_TR) (N := 11) hx hb hT in_TR hown hK hP 1 rfl rfl 5 (by decide) (hT _ tw_36) (fun _ h9 => h9) rfl dd_TR_decode_27 ?_
          refine lv_iload_n hx hb dd_TR_decode_30 rfl (lv_at hl 0 rfl) ?_
          refine tq_iald (k := q) hx hb hK hP 5 rfl (by omega) (by decide) dd_TR_decode_31 ?_
          rw [hle]
          refine lv_goto (tgt := 41) hx hb dd_TR_decode_32 (by decide) ?_
          refine lv_topi (fun v41 e41 => ?_)
          obtain rfl : v41 = nI l0 := e41
          refine lv_istore_n hx hb dd_TR_decode_41 rfl hl (by decide) rfl (fun ls hl => ?_)
          have hl : lv_has ls 7 [(3, .int (nI l0)), (0, .ref (h 1)), (1, .long w)] := hl
          refine lv_goto (tgt := 2) hx hb dd_TR_decode_42 (by decide) ?_
          exact ih l0 _ ls hl0 (fun k hk ht => List.mem_filter.mpr ⟨hin k hk ht, by have ho := tk_okc (b := b) ht; rw [hbt] at ho; exact ho⟩) (fun k hk => hsub k (List.mem_filter.mp hk).1) hl
  exact desc d0 0 _ ls hTG (fun k hk _ => List.mem_range.mpr hk) (fun k hk => List.mem_range.mp hk) hl
end
section
theorem up_s {f : Nat → Int32} {k : Nat} {x : Int32} : upd f k x k = x := pk_us
theorem up_n {f : Nat → Int32} {k j : Nat} {x : Int32} (h : j ≠ k) : upd f k x j = f j := pk_un h
theorem so_iff (t so : Bool) : ((if t then (1 : Int64) else 0) = (b2i so).toInt64) ↔ t = so := by cases t <;> cases so <;> decide
theorem okc_1 {ca wa : Nat → Int64} {x b : Nat} {so : Bool} (h : bt (wa x) b = so) : okc ca wa b so x = true := by simp [okc, h]
theorem okc_0 {ca wa : Nat → Int64} {x b : Nat} {so : Bool} (h1 : bt (ca x) b = true) (h : ¬ bt (wa x) b = so) : okc ca wa b so x = false := by
  unfold okc; rw [h1]; revert h; generalize bt (wa x) b = t; cases t <;> cases so <;> decide
set_option maxRecDepth 20000 in
theorem c_TR_leaf (l : Launch) (D : va_G) (cI cL : ClassId) (h : Nat → Nat) (g cl : Int32) (len n : Nat) (ca wa : Nat → Int64) (z : ZT) (q fr tt : Nat) (L : List Nat) (hq : q < 2048) (hlm : z.2.1 ≤ 8192) (hfl : fr + L.length = tt) (hL5 : L.length ≤ 512) (htt : tt ≤ 33792) (hL : ∀ i x, L[i]? = some x → z.2.2.2.2.2.2 (fr + i) = nI x) : MT (S := ZT) l yy_TR_leaf bb_TR_leaf 5 (some .int) [] (rmK 0) D cI cL [.ref (h 1), .int (nI q), .int (nI fr), .int (nI tt)] (wX cI cL h g cl len n ca wa z) (fun y => wX cI cL h g cl len n ca wa y) (pI (fun r y => r = nI q ∧ y.1 = z.1 ∧ y.2.2.2.2.2.2 = z.2.2.2.2.2.2 ∧ (∀ j, j ≠ q → y.2.2.1 j = z.2.2.1 j ∧ y.2.2.2.1 j = z.2.2.2.1 j ∧ y.2.2.2.2.1 j = z.2.2.2.2.1 j) ∧ (∀ j, j < z.2.1 → y.2.2.2.2.2.1 j = z.2.2.2.2.2.1 j) ∧ z.2.1 ≤ y.2.1 ∧ y.2.1 ≤ 8192 ∧ LF y.2.2.1 y.2.2.2.1 y.2.2.2.2.1 y.2.2.2.2.2.1 q (q + 1) y.2.1 q L)) (nx) := by
  refine MT.mkI (by decide) (Nat.le_of_ble_eq_true rfl) ?_
  intro p e s m below meth c A Q B ret lv ls hl
  obtain ⟨hx, hb, hml, hown, hT, hK, hX, hSK, hA, hP, hD, hS, htab, hcode, hpl⟩ := B
  have hown : s.vm.findClass "PatternTree$Tree" = some m.cls := hown
  have hl : lv_has ls 5 [(0, .ref (h 1)), (1, .int (nI q)), (2, .int (nI fr)), (3, .int (nI tt))] := hl
  refine lv_aload_n hx hb dd_TR_leaf_0 rfl (lv_at hl 0 rfl) ?_
  refine va_get (D := D) (cl := classes) (ci := 1) (C := R_TR) (T := F_TR) (N := 11) hx hb hT in_TR hown hK hP 1 rfl rfl 4 (by decide) (hT _ tw_35) (fun _ h9 => h9) rfl dd_TR_leaf_1 ?_
  refine lv_iload_n hx hb dd_TR_leaf_4 rfl (lv_at hl 1 rfl) ?_
  refine lv_iconst (v := -1) hx hb dd_TR_leaf_5 (by decide) ?_
  refine tq_iast (k := q) hx hb hK hP hD hS 4 rfl hq (by decide) dd_TR_leaf_6 (fun H locs hP hD hS => ?_)
  have hP : va_P D classes (wX cI cL h g cl len n ca wa (z.1, z.2.1, (upd z.2.2.1 q (-1)), z.2.2.2.1, z.2.2.2.2.1, z.2.2.2.2.2.1, z.2.2.2.2.2.2)) H := hP
  have hD : va_D A (wX cI cL h g cl len n ca wa (z.1, z.2.1, (upd z.2.2.1 q (-1)), z.2.2.2.1, z.2.2.2.2.1, z.2.2.2.2.2.1, z.2.2.2.2.2.2)) := hD
  refine lv_aload_n hx hb dd_TR_leaf_7 rfl (lv_at hl 0 rfl) ?_
  refine va_get (D := D) (cl := classes) (ci := 1) (C := R_TR) (T := F_TR) (N := 11) hx hb hT in_TR hown hK hP 1 rfl rfl 5 (by decide) (hT _ tw_36) (fun _ h9 => h9) rfl dd_TR_leaf_8 ?_
  refine lv_iload_n hx hb dd_TR_leaf_11 rfl (lv_at hl 1 rfl) ?_
  refine lv_aload_n hx hb dd_TR_leaf_12 rfl (lv_at hl 0 rfl) ?_
  refine va_get (D := D) (cl := classes) (ci := 1) (C := R_TR) (T := F_TR) (N := 11) hx hb hT in_TR hown hK hP 1 rfl rfl 9 (by decide) (hT _ tw_40) (fun _ h9 => h9) rfl dd_TR_leaf_13 ?_
  refine tq_iast (k := q) hx hb hK hP hD hS 5 rfl hq (by decide) dd_TR_leaf_16 (fun H locs hP hD hS => ?_)
  have hP : va_P D classes (wX cI cL h g cl len n ca wa (z.1, z.2.1, (upd z.2.2.1 q (-1)), (upd z.2.2.2.1 q (nI z.2.1)), z.2.2.2.2.1, z.2.2.2.2.2.1, z.2.2.2.2.2.2)) H := hP
  have hD : va_D A (wX cI cL h g cl len n ca wa (z.1, z.2.1, (upd z.2.2.1 q (-1)), (upd z.2.2.2.1 q (nI z.2.1)), z.2.2.2.2.1, z.2.2.2.2.2.1, z.2.2.2.2.2.2)) := hD
  refine lv_aload_n hx hb dd_TR_leaf_17 rfl (lv_at hl 0 rfl) ?_
  refine va_get (D := D) (cl := classes) (ci := 1) (C := R_TR) (T := F_TR) (N := 11) hx hb hT in_TR hown hK hP 1 rfl rfl 6 (by decide) (hT _ tw_37) (fun _ h9 => h9) rfl dd_TR_leaf_18 ?_
  refine lv_iload_n hx hb dd_TR_leaf_21 rfl (lv_at hl 1 rfl) ?_
  refine lv_iload_n hx hb dd_TR_leaf_22 rfl (lv_at hl 3 rfl) ?_
  refine lv_iload_n hx hb dd_TR_leaf_23 rfl (lv_at hl 2 rfl) ?_
  refine lv_isub hx hb dd_TR_leaf_24 ?_
  rw [pk_sub (show fr ≤ tt by omega)]
  refine tq_iast (k := q) hx hb hK hP hD hS 6 rfl hq (by decide) dd_TR_leaf_25 (fun H locs hP hD hS => ?_)
  have hP : va_P D classes (wX cI cL h g cl len n ca wa (z.1, z.2.1, (upd z.2.2.1 q (-1)), (upd z.2.2.2.1 q (nI z.2.1)), (upd z.2.2.2.2.1 q (nI (tt - fr))), z.2.2.2.2.2.1, z.2.2.2.2.2.2)) H := hP
  have hD : va_D A (wX cI cL h g cl len n ca wa (z.1, z.2.1, (upd z.2.2.1 q (-1)), (upd z.2.2.2.1 q (nI z.2.1)), (upd z.2.2.2.2.1 q (nI (tt - fr))), z.2.2.2.2.2.1, z.2.2.2.2.2.2)) := hD
  refine lv_aload_n hx hb dd_TR_leaf_26 rfl (lv_at hl 0 rfl) ?_
  refine va_get (D := D) (cl := classes) (ci := 1) (C := R_TR) (T := F_TR) (N := 11) hx hb hT in_TR hown hK hP 1 rfl rfl 9 (by decide) (hT _ tw_40) (fun _ h9 => h9) rfl dd_TR_leaf_27 ?_
  refine lv_iload_n hx hb dd_TR_leaf_30 rfl (lv_at hl 3 rfl) ?_
  refine lv_iadd hx hb dd_TR_leaf_31 ?_
  rw [nI_add]
  refine lv_iload_n hx hb dd_TR_leaf_32 rfl (lv_at hl 2 rfl) ?_
  refine lv_isub hx hb dd_TR_leaf_33 ?_
  rw [pk_sub (show fr ≤ z.2.1 + tt by omega)]
  refine lv_sipush (v := 8192) hx hb dd_TR_leaf_34 (by decide) ?_
  refine lv_icmp_le (tgt := 49) hx hb dd_TR_leaf_37 (by decide) (fun hc => ?_) (fun hc => ?_)
  · have hfit : z.2.1 + tt - fr ≤ 8192 := (nI_leI (b := 8192) (by omega) (by omega)).mp hc
    refine lv_iload_n hx hb dd_TR_leaf_49 rfl (lv_at hl 2 rfl) ?_
    refine lv_topi (fun v50 e50 => ?_)
    obtain rfl : v50 = nI fr := e50
    refine lv_istore hx hb dd_TR_leaf_50 hl (by decide) rfl (fun ls hl => ?_)
    have hl : lv_has ls 5 [(4, .int (nI fr)), (0, .ref (h 1)), (1, .int (nI q)), (2, .int (nI fr)), (3, .int (nI tt))] := hl
    have loop : ∀ (j k : Nat) (li : Nat → Int32) (H : Heap) (locs : List Loc) (ls : Array Slot), k + j = tt → fr ≤ k → (∀ i, i < z.2.1 → li i = z.2.2.2.2.2.1 i) → (∀ i, i < k - fr → li (z.2.1 + i) = z.2.2.2.2.2.2 (fr + i)) → va_P D classes (wX cI cL h g cl len n ca wa (z.1, z.2.1 + (k - fr), (upd z.2.2.1 q (-1)), (upd z.2.2.2.1 q (nI z.2.1)), (upd z.2.2.2.2.1 q (nI (tt - fr))), li, z.2.2.2.2.2.2)) H → va_D A (wX cI cL h g cl len n ca wa (z.1, z.2.1 + (k - fr), (upd z.2.2.1 q (-1)), (upd z.2.2.2.1 q (nI z.2.1)), (upd z.2.2.2.2.1 q (nI (tt - fr))), li, z.2.2.2.2.2.2)) → va_S A s.heap H locs → lv_has ls 5 [(4, .int (nI k)), (0, .ref (h 1)), (1, .int (nI q)), (2, .int (nI fr)), (3, .int (nI tt))] → W p l e (rmK 0) s m ([.ref (h 1), .int (nI q), .int (nI fr), .int (nI tt)] : List Value).toArray below meth c H locs 0 0 Q (F0 m 52 ls []) := by
      intro j
      induction j with
      | zero =>
        intro k li H locs ls hkj hfk hli1 hli2 hP hD hS hl
        refine lv_iload hx hb dd_TR_leaf_52 (lv_at hl 0 rfl) ?_
        refine lv_iload_n hx hb dd_TR_leaf_54 rfl (lv_at hl 4 rfl) ?_
        refine tq_ige (tgt := 90) hx hb (by omega) (by omega) dd_TR_leaf_55 (by decide) (fun hc => ?_) (fun hc => ?_)
        · refine lv_iload_n hx hb dd_TR_leaf_90 rfl (lv_at hl 2 rfl) ?_
          refine ret (nI q) ((z.1, z.2.1 + (k - fr), (upd z.2.2.1 q (-1)), (upd z.2.2.2.1 q (nI z.2.1)), (upd z.2.2.2.2.1 q (nI (tt - fr))), li, z.2.2.2.2.2.2)) H locs 0 0 91 ls ⟨rfl, rfl, rfl, fun j hj => ⟨up_n hj, up_n hj, up_n hj⟩, hli1, by show z.2.1 ≤ z.2.1 + (k - fr); omega, by show z.2.1 + (k - fr) ≤ 8192; omega, ?_⟩ hP hD hS (Nat.zero_le _) (Nat.zero_le _) rfl dd_TR_leaf_91
          refine ⟨Nat.le_refl _, Nat.lt_succ_self _, up_s, Or.inr ⟨?_, hL5, z.2.1, up_s, by show z.2.1 + L.length ≤ z.2.1 + (k - fr); omega, fun i x hx0 => ?_⟩⟩
          · show upd _ q _ q = _
            rw [up_s, show tt - fr = L.length by omega]
          · have hil := (List.getElem?_eq_some_iff.mp hx0).1
            show li (z.2.1 + i) = _
            rw [hli2 i (by omega)]
            exact hL i x hx0
        · omega
      | succ j ih =>
        intro k li H locs ls hkj hfk hli1 hli2 hP hD hS hl
        refine lv_iload hx hb dd_TR_leaf_52 (lv_at hl 0 rfl) ?_
        refine lv_iload_n hx hb dd_TR_leaf_54 rfl (lv_at hl 4 rfl) ?_
        refine tq_ige (tgt := 90) hx hb (by omega) (by omega) dd_TR_leaf_55 (by decide) (fun hc => ?_) (fun hc => ?_)
        · omega
        · refine lv_aload_n hx hb dd_TR_leaf_58 rfl (lv_at hl 1 rfl) ?_
          refine va_get (D := D) (cl := classes) (ci := 1) (C := R_TR) (T := F_TR) (N := 11) hx hb hT in_TR hown hK hP 1 rfl rfl 8 (by decide) (hT _ tw_39) (fun _ h9 => h9) rfl dd_TR_leaf_59 ?_
          refine lv_aload_n hx hb dd_TR_leaf_62 rfl (lv_at hl 1 rfl) ?_
          refine va_get (D := D) (cl := classes) (ci := 1) (C := R_TR) (T := F_TR) (N := 11) hx hb hT in_TR hown hK hP 1 rfl rfl 9 (by decide) (hT _ tw_40) (fun _ h9 => h9) rfl dd_TR_leaf_63 ?_
          refine lv_aload_n hx hb dd_TR_leaf_66 rfl (lv_at hl 1 rfl) ?_
          refine va_get (D := D) (cl := classes) (ci := 1) (C := R_TR) (T := F_TR) (N := 11) hx hb hT in_TR hown hK hP 1 rfl rfl 10 (by decide) (hT _ tw_41) (fun _ h9 => h9) rfl dd_TR_leaf_67 ?_
          refine lv_iload hx hb dd_TR_leaf_70 (lv_at hl 0 rfl) ?_
          refine tq_iald (k := k) hx hb hK hP 8 rfl (by omega) (by decide) dd_TR_leaf_72 ?_
          refine tq_iast (k := (z.2.1 + (k - fr))) hx hb hK hP hD hS 7 rfl (by omega) (by decide) dd_TR_leaf_73 (fun H locs hP hD hS => ?_)
          have hP : va_P D classes (wX cI cL h g cl len n ca wa (z.1, z.2.1 + (k - fr), (upd z.2.2.1 q (-1)), (upd z.2.2.2.1 q (nI z.2.1)), (upd z.2.2.2.2.1 q (nI (tt - fr))), (upd li (z.2.1 + (k - fr)) (z.2.2.2.2.2.2 k)), z.2.2.2.2.2.2)) H := hP
          have hD : va_D A (wX cI cL h g cl len n ca wa (z.1, z.2.1 + (k - fr), (upd z.2.2.1 q (-1)), (upd z.2.2.2.1 q (nI z.2.1)), (upd z.2.2.2.2.1 q (nI (tt - fr))), (upd li (z.2.1 + (k - fr)) (z.2.2.2.2.2.2 k)), z.2.2.2.2.2.2)) := hD
          refine lv_aload_n hx hb dd_TR_leaf_74 rfl (lv_at hl 1 rfl) ?_
          refine lv_dup hx hb dd_TR_leaf_75 rfl ?_
          refine va_get (D := D) (cl := classes) (ci := 1) (C := R_TR) (T := F_TR) (N := 11) hx hb hT in_TR hown hK hP 1 rfl rfl 9 (by decide) (hT _ tw_40) (fun _ h9 => h9) rfl dd_TR_leaf_76 ?_
          refine lv_iconst (v := 1) hx hb dd_TR_leaf_79 (by decide) ?_
          refine lv_iadd hx hb dd_TR_leaf_80 ?_
          rw [tq_1s, show z.2.1 + (k - fr) + 1 = z.2.1 + (k + 1 - fr) by omega]
          refine va_put (D := D) (cl := classes) (ci := 1) (ty := .int) (C := R_TR) (T := F_TR) (N := 11) hx hb hT in_TR t_TR t_TR_ok n_TR hown hK hP hD hS 1 rfl rfl 9 (by decide) (hT _ tw_40) (fun _ h9 => h9) rfl (by decide +kernel) rfl rfl (Nat.le_of_ble_eq_true rfl) dd_TR_leaf_81 (fun H locs hP hD hS => ?_)
          have hP : va_P D classes (wX cI cL h g cl len n ca wa (z.1, z.2.1 + (k + 1 - fr), (upd z.2.2.1 q (-1)), (upd z.2.2.2.1 q (nI z.2.1)), (upd z.2.2.2.2.1 q (nI (tt - fr))), (upd li (z.2.1 + (k - fr)) (z.2.2.2.2.2.2 k)), z.2.2.2.2.2.2)) H := hP
          have hD : va_D A (wX cI cL h g cl len n ca wa (z.1, z.2.1 + (k + 1 - fr), (upd z.2.2.1 q (-1)), (upd z.2.2.2.1 q (nI z.2.1)), (upd z.2.2.2.2.1 q (nI (tt - fr))), (upd li (z.2.1 + (k - fr)) (z.2.2.2.2.2.2 k)), z.2.2.2.2.2.2)) := hD
          refine lv_iinc (k := 0) hx hb dd_TR_leaf_84 hl rfl (tq_inc k) (by decide) rfl (fun ls hl => ?_)
          have hl : lv_has ls 5 [(4, .int (nI (k + 1))), (0, .ref (h 1)), (1, .int (nI q)), (2, .int (nI fr)), (3, .int (nI tt))] := hl
          refine lv_goto (tgt := 52) hx hb dd_TR_leaf_87 (by decide) ?_
          refine ih (k + 1) _ H locs ls (by omega) (by omega) (fun i hi => ?_) (fun i hi => ?_) hP hD hS hl
          · rw [up_n (by omega)]; exact hli1 i hi
          · by_cases hik : i = k - fr
            · subst hik; rw [up_s, show fr + (k - fr) = k by omega]
            · rw [up_n (by omega)]; exact hli2 i (by omega)
    have e0 : z.2.1 = z.2.1 + (fr - fr) := by omega
    have hP : va_P D classes (wX cI cL h g cl len n ca wa (z.1, z.2.1 + (fr - fr), (upd z.2.2.1 q (-1)), (upd z.2.2.2.1 q (nI z.2.1)), (upd z.2.2.2.2.1 q (nI (tt - fr))), z.2.2.2.2.2.1, z.2.2.2.2.2.2)) H := by rw [← e0]; exact hP
    have hD : va_D A (wX cI cL h g cl len n ca wa (z.1, z.2.1 + (fr - fr), (upd z.2.2.1 q (-1)), (upd z.2.2.2.1 q (nI z.2.1)), (upd z.2.2.2.2.1 q (nI (tt - fr))), z.2.2.2.2.2.1, z.2.2.2.2.2.2)) := by rw [← e0]; exact hD
    exact loop L.length fr _ H locs ls (by omega) (Nat.le_refl _) (fun _ _ => rfl) (fun i hi => absurd hi (by omega)) hP hD hS hl
  · refine lv_aload_n hx hb dd_TR_leaf_40 rfl (lv_at hl 0 rfl) ?_
    refine va_get (D := D) (cl := classes) (ci := 1) (C := R_TR) (T := F_TR) (N := 11) hx hb hT in_TR hown hK hP 1 rfl rfl 6 (by decide) (hT _ tw_37) (fun _ h9 => h9) rfl dd_TR_leaf_41 ?_
    refine lv_iload_n hx hb dd_TR_leaf_44 rfl (lv_at hl 1 rfl) ?_
    refine lv_iconst (v := -1) hx hb dd_TR_leaf_45 (by decide) ?_
    refine tq_iast (k := q) hx hb hK hP hD hS 6 rfl hq (by decide) dd_TR_leaf_46 (fun H locs hP hD hS => ?_)
    have hP : va_P D classes (wX cI cL h g cl len n ca wa (z.1, z.2.1, (upd z.2.2.1 q (-1)), (upd z.2.2.2.1 q (nI z.2.1)), (upd (upd z.2.2.2.2.1 q (nI (tt - fr))) q (-1)), z.2.2.2.2.2.1, z.2.2.2.2.2.2)) H := hP
    have hD : va_D A (wX cI cL h g cl len n ca wa (z.1, z.2.1, (upd z.2.2.1 q (-1)), (upd z.2.2.2.1 q (nI z.2.1)), (upd (upd z.2.2.2.2.1 q (nI (tt - fr))) q (-1)), z.2.2.2.2.2.1, z.2.2.2.2.2.2)) := hD
    refine lv_iload_n hx hb dd_TR_leaf_47 rfl (lv_at hl 1 rfl) ?_
    refine ret (nI q) ((z.1, z.2.1, (upd z.2.2.1 q (-1)), (upd z.2.2.2.1 q (nI z.2.1)), (upd (upd z.2.2.2.2.1 q (nI (tt - fr))) q (-1)), z.2.2.2.2.2.1, z.2.2.2.2.2.2)) H locs 0 0 48 ls ⟨rfl, rfl, rfl, fun j hj => ⟨up_n hj, up_n hj, ?_⟩, fun _ _ => rfl, Nat.le_refl _, hlm, Nat.le_refl _, Nat.lt_succ_self _, up_s, Or.inl up_s⟩ hP hD hS (Nat.zero_le _) (Nat.zero_le _) rfl dd_TR_leaf_48
    show upd (upd _ q _) q _ j = _
    rw [up_n hj, up_n hj]
set_option maxRecDepth 20000 in
theorem c_TR_with (l : Launch) (D : va_G) (cI cL : ClassId) (h : Nat → Nat) (g cl : Int32) (len n : Nat) (ca wa : Nat → Int64) (z : ZT) (fr tt b : Nat) (so : Bool) (L : List Nat) (hb6 : b < 64) (hfl : fr + L.length = tt) (htt : tt + L.length ≤ 33792) (hL : ∀ i x, L[i]? = some x → z.2.2.2.2.2.2 (fr + i) = nI x ∧ x < 512) : MT (S := ZT) l yy_TR_with bb_TR_with 8 (some .int) [] (rmK 0) D cI cL [.ref (h 1), .int (nI fr), .int (nI tt), .int (nI b), .int (b2i so)] (wX cI cL h g cl len n ca wa z) (fun y => wX cI cL h g cl len n ca wa y) (pI (fun r y => r = nI (tt + (L.filter (okc ca wa b so)).length) ∧ (∃ pi : Nat → Int32, y = (z.1, z.2.1, z.2.2.1, z.2.2.2.1, z.2.2.2.2.1, z.2.2.2.2.2.1, pi) ∧ (∀ j, j < tt → pi j = z.2.2.2.2.2.2 j) ∧ ∀ i x, (L.filter (okc ca wa b so))[i]? = some x → pi (tt + i) = nI x))) (nx) := by
  refine MT.mkI (by decide) (Nat.le_of_ble_eq_true rfl) ?_
  intro p e s m below meth c A Q B ret lv ls hl
  obtain ⟨hx, hb, hml, hown, hT, hK, hX, hSK, hA, hP, hD, hS, htab, hcode, hpl⟩ := B
  have hown : s.vm.findClass "PatternTree$Tree" = some m.cls := hown
  have hl : lv_has ls 8 [(0, .ref (h 1)), (1, .int (nI fr)), (2, .int (nI tt)), (3, .int (nI b)), (4, .int (b2i so))] := hl
  refine lv_iload_n hx hb dd_TR_with_0 rfl (lv_at hl 2 rfl) ?_
  refine lv_topi (fun v1 e1 => ?_)
  obtain rfl : v1 = nI tt := e1
  refine lv_istore hx hb dd_TR_with_1 hl (by decide) rfl (fun ls hl => ?_)
  have hl : lv_has ls 8 [(5, .int (nI tt)), (0, .ref (h 1)), (1, .int (nI fr)), (2, .int (nI tt)), (3, .int (nI b)), (4, .int (b2i so))] := hl
  refine lv_iload_n hx hb dd_TR_with_3 rfl (lv_at hl 2 rfl) ?_
  refine lv_topi (fun v4 e4 => ?_)
  obtain rfl : v4 = nI fr := e4
  refine lv_istore hx hb dd_TR_with_4 hl (by decide) rfl (fun ls hl => ?_)
  have hl : lv_has ls 8 [(6, .int (nI fr)), (5, .int (nI tt)), (0, .ref (h 1)), (1, .int (nI fr)), (2, .int (nI tt)), (3, .int (nI b)), (4, .int (b2i so))] := hl
  have loop : ∀ (L2 L1 : List Nat) (pi : Nat → Int32) (H : Heap) (locs : List Loc) (ls : Array Slot), L = L1 ++ L2 → (∀ j, j < tt → pi j = z.2.2.2.2.2.2 j) → (∀ i x, (L1.filter (okc ca wa b so))[i]? = some x → pi (tt + i) = nI x) → va_P D classes (wX cI cL h g cl len n ca wa (z.1, z.2.1, z.2.2.1, z.2.2.2.1, z.2.2.2.2.1, z.2.2.2.2.2.1, pi)) H → va_D A (wX cI cL h g cl len n ca wa (z.1, z.2.1, z.2.2.1, z.2.2.2.1, z.2.2.2.2.1, z.2.2.2.2.2.1, pi)) → va_S A s.heap H locs → lv_has ls 8 [(6, .int (nI (fr + L1.length))), (5, .int (nI (tt + (L1.filter (okc ca wa b so)).length))), (0, .ref (h 1)), (1, .int (nI fr)), (2, .int (nI tt)), (3, .int (nI b)), (4, .int (b2i so))] → W p l e (rmK 0) s m ([.ref (h 1), .int (nI fr), .int (nI tt), .int (nI b), .int (b2i so)] : List Value).toArray below meth c H locs 0 0 Q (F0 m 6 ls []) := by
    intro L2
    induction L2 with
    | nil =>
      intro L1 pi H locs ls hLL hp1 hp2 hP hD hS hl
      rw [List.append_nil] at hLL
      subst hLL
      refine lv_iload hx hb dd_TR_with_6 (lv_at hl 0 rfl) ?_
      refine lv_iload_n hx hb dd_TR_with_8 rfl (lv_at hl 4 rfl) ?_
      refine tq_ige (tgt := 76) hx hb (by omega) (by omega) dd_TR_with_9 (by decide) (fun hc => ?_) (fun hc => ?_)
      · refine lv_iload hx hb dd_TR_with_76 (lv_at hl 1 rfl) ?_
        exact ret _ ((z.1, z.2.1, z.2.2.1, z.2.2.2.1, z.2.2.2.2.1, z.2.2.2.2.2.1, pi)) H locs 0 0 78 ls ⟨rfl, pi, rfl, hp1, hp2⟩ hP hD hS (Nat.zero_le _) (Nat.zero_le _) rfl dd_TR_with_78
      · omega
    | cons x L2 ih =>
      intro L1 pi H locs ls hLL hp1 hp2 hP hD hS hl
      have hlen1 : L.length = L1.length + (L2.length + 1) := by rw [hLL]; simp
      have hx0 : L[L1.length]? = some x := by rw [hLL]; simp
      obtain ⟨hpx, hx5⟩ := hL _ _ hx0
      have hpx2 : pi (fr + L1.length) = nI x := by rw [hp1 _ (by omega)]; exact hpx
      have hf1 : (L1.filter (okc ca wa b so)).length ≤ L1.length := List.length_filter_le _ _
      have hLL2 : L = (L1 ++ [x]) ++ L2 := by rw [hLL]; simp
      have hLn : (L1 ++ [x]).length = L1.length + 1 := by simp
      refine lv_iload hx hb dd_TR_with_6 (lv_at hl 0 rfl) ?_
      refine lv_iload_n hx hb dd_TR_with_8 rfl (lv_at hl 4 rfl) ?_
      refine tq_ige (tgt := 76) hx hb (by omega) (by omega) dd_TR_with_9 (by decide) (fun hc => ?_) (fun hc => ?_)
      · omega
      · refine lv_aload_n hx hb dd_TR_with_12 rfl (lv_at hl 2 rfl) ?_
        refine va_get (D := D) (cl := classes) (ci := 1) (C := R_TR) (T := F_TR) (N := 11) hx hb hT in_TR hown hK hP 1 rfl rfl 10 (by decide) (hT _ tw_41) (fun _ h9 => h9) rfl dd_TR_with_13 ?_
        refine lv_iload hx hb dd_TR_with_16 (lv_at hl 0 rfl) ?_
        refine tq_iald (k := (fr + L1.length)) hx hb hK hP 8 rfl (by omega) (by decide) dd_TR_with_18 ?_
        refine lv_topi (fun y1 ey1 => ?_)
        obtain rfl : y1 = nI x := ey1.trans hpx2
        refine lv_topi (fun v19 e19 => ?_)
        obtain rfl : v19 = nI x := e19
        refine lv_istore hx hb dd_TR_with_19 hl (by decide) rfl (fun ls hl => ?_)
        have hl : lv_has ls 8 [(7, .int (nI x)), (6, .int (nI (fr + L1.length))), (5, .int (nI (tt + (L1.filter (okc ca wa b so)).length))), (0, .ref (h 1)), (1, .int (nI fr)), (2, .int (nI tt)), (3, .int (nI b)), (4, .int (b2i so))] := hl
        refine lv_aload_n hx hb dd_TR_with_21 rfl (lv_at hl 3 rfl) ?_
        refine va_get (D := D) (cl := classes) (ci := 1) (C := R_TR) (T := F_TR) (N := 11) hx hb hT in_TR hown hK hP 1 rfl rfl 2 (by decide) (hT _ tw_31) (fun _ h9 => h9) rfl dd_TR_with_22 ?_
        refine lv_iload hx hb dd_TR_with_25 (lv_at hl 0 rfl) ?_
        refine tq_lald (k := x) hx hb hK hP 2 rfl hx5 (by decide) dd_TR_with_27 ?_
        refine lv_iload_n hx hb dd_TR_with_28 rfl (lv_at hl 6 rfl) ?_
        refine lv_lushr hx hb dd_TR_with_29 rfl ?_
        refine lv_lconst (v := 1) hx hb dd_TR_with_30 (by decide) ?_
        refine lv_land hx hb dd_TR_with_31 ?_
        refine lv_lconst (v := 0) hx hb dd_TR_with_32 (by decide) ?_
        have keep : okc ca wa b so x = true → ∀ (ls : Array Slot), lv_has ls 8 [(7, .int (nI x)), (6, .int (nI (fr + L1.length))), (5, .int (nI (tt + (L1.filter (okc ca wa b so)).length))), (0, .ref (h 1)), (1, .int (nI fr)), (2, .int (nI tt)), (3, .int (nI b)), (4, .int (b2i so))] → W p l e (rmK 0) s m ([.ref (h 1), .int (nI fr), .int (nI tt), .int (nI b), .int (b2i so)] : List Value).toArray below meth c H locs 0 0 Q (F0 m 58 ls []) := by
          intro hok ls hl
          have hfk : (L1 ++ [x]).filter (okc ca wa b so) = (L1.filter (okc ca wa b so)) ++ [x] := by simp [hok]
          refine lv_aload_n hx hb dd_TR_with_58 rfl (lv_at hl 3 rfl) ?_
          refine va_get (D := D) (cl := classes) (ci := 1) (C := R_TR) (T := F_TR) (N := 11) hx hb hT in_TR hown hK hP 1 rfl rfl 10 (by decide) (hT _ tw_41) (fun _ h9 => h9) rfl dd_TR_with_59 ?_
          refine lv_iload hx hb dd_TR_with_62 (lv_at hl 2 rfl) ?_
          refine lv_iload hx hb dd_TR_with_64 (lv_at hl 0 rfl) ?_
          refine tq_iast (k := (tt + (L1.filter (okc ca wa b so)).length)) hx hb hK hP hD hS 8 rfl (by omega) (by decide) dd_TR_with_66 (fun H locs hP hD hS => ?_)
          have hP : va_P D classes (wX cI cL h g cl len n ca wa (z.1, z.2.1, z.2.2.1, z.2.2.2.1, z.2.2.2.2.1, z.2.2.2.2.2.1, (upd pi (tt + (L1.filter (okc ca wa b so)).length) (nI x)))) H := hP
          have hD : va_D A (wX cI cL h g cl len n ca wa (z.1, z.2.1, z.2.2.1, z.2.2.2.1, z.2.2.2.2.1, z.2.2.2.2.2.1, (upd pi (tt + (L1.filter (okc ca wa b so)).length) (nI x)))) := hD
          refine lv_iinc (k := 2) hx hb dd_TR_with_67 hl rfl (tq_inc _) (by decide) rfl (fun ls hl => ?_)
          have hl : lv_has ls 8 [(5, .int (nI (tt + (L1.filter (okc ca wa b so)).length + 1))), (7, .int (nI x)), (6, .int (nI (fr + L1.length))), (0, .ref (h 1)), (1, .int (nI fr)), (2, .int (nI tt)), (3, .int (nI b)), (4, .int (b2i so))] := hl
          refine lv_iinc (k := 2) hx hb dd_TR_with_70 hl rfl (tq_inc _) (by decide) rfl (fun ls hl => ?_)
          have hl : lv_has ls 8 [(6, .int (nI (fr + L1.length + 1))), (5, .int (nI (tt + (L1.filter (okc ca wa b so)).length + 1))), (7, .int (nI x)), (0, .ref (h 1)), (1, .int (nI fr)), (2, .int (nI tt)), (3, .int (nI b)), (4, .int (b2i so))] := hl
          refine lv_goto (tgt := 6) hx hb dd_TR_with_73 (by decide) ?_
          refine ih (L1 ++ [x]) _ H locs ls hLL2 (fun j hj => ?_) (fun i y hy => ?_) hP hD hS ?_
          · rw [up_n (by omega)]; exact hp1 j hj
          · rw [hfk] at hy
            by_cases hi : i < (L1.filter (okc ca wa b so)).length
            · rw [List.getElem?_append_left hi] at hy
              rw [up_n (by omega)]; exact hp2 i y hy
            · have hz : i - (L1.filter (okc ca wa b so)).length < 1 := by
                rw [List.getElem?_append_right (by omega)] at hy
                exact (List.getElem?_eq_some_iff.mp hy).1
              have hi2 : i = (L1.filter (okc ca wa b so)).length := by omega
              subst hi2
              rw [List.getElem?_append_right (by omega), Nat.sub_self] at hy
              cases hy
              rw [up_s]
          · rw [hfk, hLn, List.length_append]
            exact lv_sub hl [0, 1, 3, 4, 5, 6, 7] rfl
        have skip : okc ca wa b so x = false → ∀ (ls : Array Slot), lv_has ls 8 [(7, .int (nI x)), (6, .int (nI (fr + L1.length))), (5, .int (nI (tt + (L1.filter (okc ca wa b so)).length))), (0, .ref (h 1)), (1, .int (nI fr)), (2, .int (nI tt)), (3, .int (nI b)), (4, .int (b2i so))] → W p l e (rmK 0) s m ([.ref (h 1), .int (nI fr), .int (nI tt), .int (nI b), .int (b2i so)] : List Value).toArray below meth c H locs 0 0 Q (F0 m 70 ls []) := by
          intro hok ls hl
          have hfk : (L1 ++ [x]).filter (okc ca wa b so) = (L1.filter (okc ca wa b so)) := by simp [hok]
          refine lv_iinc (k := 1) hx hb dd_TR_with_70 hl rfl (tq_inc _) (by decide) rfl (fun ls hl => ?_)
          have hl : lv_has ls 8 [(6, .int (nI (fr + L1.length + 1))), (7, .int (nI x)), (5, .int (nI (tt + (L1.filter (okc ca wa b so)).length))), (0, .ref (h 1)), (1, .int (nI fr)), (2, .int (nI tt)), (3, .int (nI b)), (4, .int (b2i so))] := hl
          refine lv_goto (tgt := 6) hx hb dd_TR_with_73 (by decide) ?_
          refine ih (L1 ++ [x]) _ H locs ls hLL2 hp1 (fun i y hy => hp2 i y (by rw [← hfk]; exact hy)) hP hD hS ?_
          rw [hfk, hLn]
          exact lv_sub hl [0, 2, 3, 4, 5, 6, 7] rfl
        refine tq_leq (tgt := 58) hx hb dd_TR_with_33 dd_TR_with_34 (by decide) (fun hz => ?_) (fun hz => ?_)
        · exact keep (by simp [okc, (ubit0 hb6).mp hz]) ls hl
        · have hcb : bt (ca x) b = true := by
            cases hh : bt (ca x) b with
            | true => rfl
            | false => exact absurd ((ubit0 hb6).mpr hh) hz
          refine lv_aload_n hx hb dd_TR_with_37 rfl (lv_at hl 3 rfl) ?_
          refine va_get (D := D) (cl := classes) (ci := 1) (C := R_TR) (T := F_TR) (N := 11) hx hb hT in_TR hown hK hP 1 rfl rfl 3 (by decide) (hT _ tw_33) (fun _ h9 => h9) rfl dd_TR_with_38 ?_
          refine lv_iload hx hb dd_TR_with_41 (lv_at hl 0 rfl) ?_
          refine tq_lald (k := x) hx hb hK hP 3 rfl hx5 (by decide) dd_TR_with_43 ?_
          refine lv_iload_n hx hb dd_TR_with_44 rfl (lv_at hl 6 rfl) ?_
          refine lv_lushr hx hb dd_TR_with_45 rfl ?_
          refine lv_lconst (v := 1) hx hb dd_TR_with_46 (by decide) ?_
          refine lv_land hx hb dd_TR_with_47 ?_
          refine lv_iload hx hb dd_TR_with_48 (lv_at hl 7 rfl) ?_
          refine lv_i2l hx hb dd_TR_with_50 rfl ?_
          refine tq_leq (tgt := 58) hx hb dd_TR_with_51 dd_TR_with_52 (by decide) (fun hd => ?_) (fun hd => ?_)
          · rw [ubit1 hb6] at hd
            exact keep (okc_1 ((so_iff _ _).mp hd)) ls hl
          · refine lv_goto (tgt := 70) hx hb dd_TR_with_55 (by decide) ?_
            rw [ubit1 hb6] at hd
            exact skip (okc_0 hcb (fun h5 => hd ((so_iff _ _).mpr h5))) ls hl
  exact loop L [] _ _ _ ls rfl (fun _ _ => rfl) (fun i x hx0 => by cases hx0) hP hD hS hl
end
section
theorem rmK_R {a b k : Nat} (h : a + 1 ≤ b) (hn : k ≤ 13) : (rmK a).frames + 1 ≤ (rmK b).frames ∧ 8 + (k + 11) + (rmK a).locals ≤ (rmK b).locals := ⟨h, by show 8 + (k + 11) + 40 * a ≤ 40 * b; omega⟩
theorem bt_sh1 {b i : Nat} (hb : b < 64) (hi : i < 64) : bt (sh1 b) i = decide (i = b) := by
  have e : sh1 b = lN (1 * 2 ^ b) := wb_shl 1 hb
  unfold bt
  rw [e, wb_tb, BitVec.getLsbD_ofNat, Nat.one_mul, Nat.testBit_two_pow]
  simp only [hi, decide_true, Bool.true_and]
  by_cases h : b = i
  · simp [h]
  · simp [h, Ne.symm h]
/-- how many bits are untested -/
def rem (te : Int64) : Nat → Nat
  | 0 => 0
  | b + 1 => rem te b + (if bt te b then 0 else 1)
theorem rem_le (te : Int64) : ∀ k, rem te k ≤ k
  | 0 => Nat.le_refl _
  | k + 1 => by simp only [rem]; have := rem_le te k; split <;> omega
theorem rem_or {te : Int64} {b : Nat} (hb : b < 64) : ∀ k, k ≤ 64 → rem (te ||| sh1 b) k ≤ rem te k ∧ (b < k → bt te b = false → rem (te ||| sh1 b) k + 1 ≤ rem te k)
  | 0, _ => ⟨Nat.le_refl _, fun h => absurd h (Nat.not_lt_zero _)⟩
  | k + 1, hk => by
    obtain ⟨h1, h2⟩ := rem_or (te := te) hb k (by omega)
    have e : bt (te ||| sh1 b) k = (bt te k || decide (k = b)) := by rw [bt_or, bt_sh1 hb (by omega)]
    simp only [rem, e]
    by_cases hkb : k = b
    · subst hkb
      refine ⟨?_, fun _ hf => ?_⟩
      · simp; omega
      · simp [hf]; omega
    · simp only [hkb, decide_false, Bool.or_false]
      refine ⟨by omega, fun hlt hf => ?_⟩
      have := h2 (by omega) hf
      omega
theorem TG_leaf {ca wa : Nat → Int64} {len : Nat} {bi le ri li : Nat → Int32} {lo hi lm d q : Nat} {L : List Nat} (h : LF bi le ri li lo hi lm q L) : TG ca wa len bi le ri li lo hi lm d q L := by
  cases d with
  | zero => exact h
  | succ d => exact Or.inl h
theorem LF_mono {bi le ri li bi' le' ri' li' : Nat → Int32} {lo hi lm lo' hi' lm' : Nat} (ha : ∀ j, lo ≤ j → j < hi → bi' j = bi j ∧ le' j = le j ∧ ri' j = ri j) (hli : ∀ j, j < lm → li' j = li j) (hlo : lo' ≤ lo) (hhi : hi ≤ hi') (hlm : lm ≤ lm') {q : Nat} {L : List Nat} (h : LF bi le ri li lo hi lm q L) : LF bi' le' ri' li' lo' hi' lm' q L := by
  obtain ⟨h1, h2, h3, h4⟩ := h
  obtain ⟨a1, a2, a3⟩ := ha q h1 h2
  refine ⟨by omega, by omega, a1.trans h3, ?_⟩
  rcases h4 with h4 | ⟨h4, h5, o, h6, h7, h8⟩
  · exact Or.inl (a3.trans h4)
  · refine Or.inr ⟨a3.trans h4, h5, o, a2.trans h6, by omega, fun i x hx => ?_⟩
    have hil := (List.getElem?_eq_some_iff.mp hx).1
    rw [hli _ (by omega)]
    exact h8 i x hx
theorem TG_mono {ca wa : Nat → Int64} {len : Nat} {bi le ri li bi' le' ri' li' : Nat → Int32} {lo hi lm lo' hi' lm' : Nat} (ha : ∀ j, lo ≤ j → j < hi → bi' j = bi j ∧ le' j = le j ∧ ri' j = ri j) (hli : ∀ j, j < lm → li' j = li j) (hlo : lo' ≤ lo) (hhi : hi ≤ hi') (hlm : lm ≤ lm') :
    ∀ (d q : Nat) (L : List Nat), TG ca wa len bi le ri li lo hi lm d q L → TG ca wa len bi' le' ri' li' lo' hi' lm' d q L
  | 0, q, L, h => LF_mono ha hli hlo hhi hlm h
  | d + 1, q, L, h => by
    rcases h with h | ⟨h1, h2, b, l, r, h3, h4, h5, h6, h7, h8⟩
    · exact Or.inl (LF_mono ha hli hlo hhi hlm h)
    · obtain ⟨a1, a2, a3⟩ := ha q h1 h2
      exact Or.inr ⟨by omega, by omega, b, l, r, h3, a1.trans h4, a2.trans h5, a3.trans h6, TG_mono ha hli hlo hhi hlm d l _ h7, TG_mono ha hli hlo hhi hlm d r _ h8⟩
/-- what node does to the tree's inside -/
def NP (ca wa : Nat → Int64) (len r tt : Nat) (L : List Nat) (z y : ZT) : Prop :=
  (y.1 ≤ z.1 + 1 ∨ y.1 ≤ 1919 + r) ∧ z.1 + 1 ≤ y.1 ∧ (∀ j, j < tt → y.2.2.2.2.2.2 j = z.2.2.2.2.2.2 j) ∧ (∀ j, j < z.1 → y.2.2.1 j = z.2.2.1 j ∧ y.2.2.2.1 j = z.2.2.2.1 j ∧ y.2.2.2.2.1 j = z.2.2.2.2.1 j) ∧
  (∀ j, j < z.2.1 → y.2.2.2.2.2.1 j = z.2.2.2.2.2.1 j) ∧ z.2.1 ≤ y.2.1 ∧ y.2.1 ≤ 8192 ∧ TG ca wa len y.2.2.1 y.2.2.2.1 y.2.2.2.2.1 y.2.2.2.2.2.1 z.1 y.1 y.2.1 r z.1 L
set_option maxRecDepth 20000 in
set_option maxHeartbeats 4000000 in
theorem c_TR_node (l : Launch) (D : va_G) (cI cL : ClassId) (h : Nat → Nat) (g cl : Int32) (len n : Nat) (ca wa : Nat → Int64) (hlen : len ≤ 64) : ∀ (rr : Nat), ∀ (z : ZT) (fr tt : Nat) (te : Int64) (L : List Nat), rem te len ≤ rr → rr ≤ 64 → z.1 ≤ 1982 → z.2.1 ≤ 8192 → fr + L.length = tt → L.length ≤ 512 → tt + 512 * rr ≤ 33280 → (∀ i x, L[i]? = some x → z.2.2.2.2.2.2 (fr + i) = nI x ∧ x < 512) →
    MT (S := ZT) l yy_TR_node bb_TR_node 7 (some .int) [] (rmK (rr + 2)) D cI cL [.ref (h 1), .int (nI fr), .int (nI tt), .long te] (wX cI cL h g cl len n ca wa z) (fun y => wX cI cL h g cl len n ca wa y) (pI (fun q y => q = nI z.1 ∧ NP ca wa len rr tt L z y)) nx := by
  intro rr
  induction rr using Nat.strongRecOn with
  | _ rr ihr =>
    intro z fr tt te L hrem hr64 hz1 hlm hfl hL5 htt hL
    refine MT.mkI (by decide) (Nat.le_of_ble_eq_true rfl) ?_
    intro p e s m below meth c A Q B ret lv ls hl
    obtain ⟨hx, hb, hml, hown, hT, hK, hX, hSK, hA, hP, hD, hS, htab, hcode, hpl⟩ := B
    have hown : s.vm.findClass "PatternTree$Tree" = some m.cls := hown
    have hl : lv_has ls 7 [(0, .ref (h 1)), (1, .int (nI fr)), (2, .int (nI tt)), (3, .long te)] := hl
    refine lv_aload_n hx hb dd_TR_node_0 rfl (lv_at hl 0 rfl) ?_
    refine va_get (D := D) (cl := classes) (ci := 1) (C := R_TR) (T := F_TR) (N := 11) hx hb hT in_TR hown hK hP 1 rfl rfl 7 (by decide) (hT _ tw_38) (fun _ h9 => h9) rfl dd_TR_node_1 ?_
    refine lv_topi (fun v4 e4 => ?_)
    obtain rfl : v4 = nI z.1 := e4
    refine lv_istore hx hb dd_TR_node_4 hl (by decide) rfl (fun ls hl => ?_)
    have hl : lv_has ls 7 [(5, .int (nI z.1)), (0, .ref (h 1)), (1, .int (nI fr)), (2, .int (nI tt)), (3, .long te)] := hl
    refine lv_aload_n hx hb dd_TR_node_6 rfl (lv_at hl 1 rfl) ?_
    refine lv_dup hx hb dd_TR_node_7 rfl ?_
    refine va_get (D := D) (cl := classes) (ci := 1) (C := R_TR) (T := F_TR) (N := 11) hx hb hT in_TR hown hK hP 1 rfl rfl 7 (by decide) (hT _ tw_38) (fun _ h9 => h9) rfl dd_TR_node_8 ?_
    refine lv_iconst (v := 1) hx hb dd_TR_node_11 (by decide) ?_
    refine lv_iadd hx hb dd_TR_node_12 ?_
    rw [tq_1s]
    refine va_put (D := D) (cl := classes) (ci := 1) (ty := .int) (C := R_TR) (T := F_TR) (N := 11) hx hb hT in_TR t_TR t_TR_ok n_TR hown hK hP hD hS 1 rfl rfl 7 (by decide) (hT _ tw_38) (fun _ h9 => h9) rfl (by decide +kernel) rfl rfl (Nat.le_of_ble_eq_true rfl) dd_TR_node_13 (fun H locs hP hD hS => ?_)
    have hP : va_P D classes (wX cI cL h g cl len n ca wa (z.1 + 1, z.2.1, z.2.2.1, z.2.2.2.1, z.2.2.2.2.1, z.2.2.2.2.2.1, z.2.2.2.2.2.2)) H := hP
    have hD : va_D A (wX cI cL h g cl len n ca wa (z.1 + 1, z.2.1, z.2.2.1, z.2.2.2.1, z.2.2.2.2.1, z.2.2.2.2.2.1, z.2.2.2.2.2.2)) := hD
    refine lv_iload_n hx hb dd_TR_node_16 rfl (lv_at hl 3 rfl) ?_
    refine lv_iload_n hx hb dd_TR_node_17 rfl (lv_at hl 2 rfl) ?_
    refine lv_isub hx hb dd_TR_node_18 ?_
    rw [pk_sub (show fr ≤ tt by omega)]
    have kleaf : ∀ (ls : Array Slot), lv_has ls 7 [(5, .int (nI z.1)), (0, .ref (h 1)), (1, .int (nI fr)), (2, .int (nI tt)), (3, .long te)] → W p l e (rmK (rr + 2)) s m ([.ref (h 1), .int (nI fr), .int (nI tt), .long te] : List Value).toArray below meth c H locs 0 0 Q (F0 m 44 ls [.int (-1)]) := by
      intro ls hl
      refine lv_topi (fun v44 e44 => ?_)
      obtain rfl : v44 = -1 := e44
      refine lv_istore hx hb dd_TR_node_44 hl (by decide) rfl (fun ls hl => ?_)
      have hl : lv_has ls 7 [(6, .int (-1)), (5, .int (nI z.1)), (0, .ref (h 1)), (1, .int (nI fr)), (2, .int (nI tt)), (3, .long te)] := hl
      refine lv_iload hx hb dd_TR_node_46 (lv_at hl 0 rfl) ?_
      refine lv_if_ge (tgt := 60) hx hb dd_TR_node_48 (by decide) (fun hc => ?_) (fun hc => ?_)
      · exact absurd hc (by decide)
      · refine lv_aload_n hx hb dd_TR_node_51 rfl (lv_at hl 2 rfl) ?_
        refine lv_iload hx hb dd_TR_node_52 (lv_at hl 1 rfl) ?_
        refine lv_iload_n hx hb dd_TR_node_54 rfl (lv_at hl 3 rfl) ?_
        refine lv_iload_n hx hb dd_TR_node_55 rfl (lv_at hl 4 rfl) ?_
        refine MT.callV (c_TR_leaf l D cI cL h g cl len n ca wa (z.1 + 1, z.2.1, z.2.2.1, z.2.2.2.1, z.2.2.2.2.1, z.2.2.2.2.2.1, z.2.2.2.2.2.2) z.1 fr tt L (by omega) hlm hfl hL5 (by omega) (fun i x hx => (hL i x hx).1)) vs_TR_61 ⟨hx, hb, hml, hown, hT⟩ ⟨hK, hX, hSK _ _ hS, hP, hD, hS, hA⟩ (tq_J.same _) 1 rfl rfl (rmK_R (by omega) (by decide)) rfl hl.1 rfl (Nat.le_of_ble_eq_true rfl) dd_TR_node_56 ⟨Nat.le_refl _, Nat.le_refl _⟩ (fun v y H locs hp hP hD hS => ?_) (fun x C u H locs hp hxf hP hD hS => hp.elim)
        obtain ⟨r1, rfl, hr1, q1, q2, q3, q4, q5, q6, q7⟩ := hp
        subst hr1
        refine ret (nI z.1) y H locs 0 0 59 ls ⟨rfl, Or.inl (by rw [q1]; exact Nat.le_refl _), by rw [q1]; exact Nat.le_refl _, fun j hj => by rw [q2], fun j hj => q3 j (by omega), q4, q5, q6, ?_⟩ hP hD hS (Nat.zero_le _) (Nat.zero_le _) rfl dd_TR_node_59
        rw [q1]
        exact TG_leaf q7
    refine lv_iconst (v := 2) hx hb dd_TR_node_19 (by decide) ?_
    refine lv_icmp_lt (tgt := 33) hx hb dd_TR_node_20 (by decide) (fun hc => ?_) (fun hc => ?_)
    · refine lv_iconst (v := -1) hx hb dd_TR_node_33 (by decide) ?_
      refine lv_goto (tgt := 44) hx hb dd_TR_node_34 (by decide) ?_
      exact kleaf ls hl
    · refine lv_aload_n hx hb dd_TR_node_23 rfl (lv_at hl 1 rfl) ?_
      refine va_get (D := D) (cl := classes) (ci := 1) (C := R_TR) (T := F_TR) (N := 11) hx hb hT in_TR hown hK hP 1 rfl rfl 7 (by decide) (hT _ tw_38) (fun _ h9 => h9) rfl dd_TR_node_24 ?_
      refine lv_sipush (v := 1918) hx hb dd_TR_node_27 (by decide) ?_
      refine lv_icmp_le (tgt := 37) hx hb dd_TR_node_30 (by decide) (fun hc2 => ?_) (fun hc2 => ?_)
      · have h18 : z.1 + 1 ≤ 1918 := (nI_leI (b := 1918) (by omega) (by omega)).mp hc2
        refine lv_aload_n hx hb dd_TR_node_37 rfl (lv_at hl 1 rfl) ?_
        refine lv_iload_n hx hb dd_TR_node_38 rfl (lv_at hl 2 rfl) ?_
        refine lv_iload_n hx hb dd_TR_node_39 rfl (lv_at hl 3 rfl) ?_
        refine lv_lload_n hx hb dd_TR_node_40 rfl (lv_at hl 4 rfl) ?_
        refine RdI.callV (c_TR_best l D cI cL h g cl len n ca wa (z.1 + 1, z.2.1, z.2.2.1, z.2.2.2.1, z.2.2.2.2.1, z.2.2.2.2.2.1, z.2.2.2.2.2.2) fr tt te hlen (by omega) (by omega) (fun k h1 h2 => ?_)) vs_TR_58 ⟨hx, hb, hml, hown, hT⟩ hK hP 1 rfl rfl ⟨rfl, rfl⟩ (rmK_R (by omega) (by decide)) rfl hl.1 rfl (Nat.le_of_ble_eq_true rfl) dd_TR_node_41 ⟨Nat.zero_le _, Nat.zero_le _⟩ (fun bb hbb => ?_)
        · obtain ⟨x, hx0⟩ : ∃ x, L[k - fr]? = some x := ⟨_, List.getElem?_eq_getElem (by omega)⟩
          obtain ⟨a1, a2⟩ := hL _ _ hx0
          rw [show fr + (k - fr) = k by omega] at a1
          exact ⟨x, a2, a1⟩
        rcases hbb with rfl | ⟨b, hbl, rfl, hbt⟩
        · exact kleaf ls hl
        obtain ⟨r2, rfl⟩ : ∃ r2, rr = r2 + 1 := by
          have := (rem_or (te := te) (b := b) (by omega) len hlen).2 hbl hbt
          exact ⟨rr - 1, by omega⟩
        have hrem2 : rem (te ||| sh1 b) len ≤ r2 := by
          have := (rem_or (te := te) (b := b) (by omega) len hlen).2 hbl hbt
          omega
        refine lv_topi (fun v44 e44 => ?_)
        obtain rfl : v44 = nI b := e44
        refine lv_istore hx hb dd_TR_node_44 hl (by decide) rfl (fun ls hl => ?_)
        have hl : lv_has ls 7 [(6, .int (nI b)), (5, .int (nI z.1)), (0, .ref (h 1)), (1, .int (nI fr)), (2, .int (nI tt)), (3, .long te)] := hl
        refine lv_iload hx hb dd_TR_node_46 (lv_at hl 0 rfl) ?_
        refine lv_if_ge (tgt := 60) hx hb dd_TR_node_48 (by decide) (fun hc => ?_) (fun hc => ?_)
        · refine lv_aload_n hx hb dd_TR_node_60 rfl (lv_at hl 2 rfl) ?_
          refine va_get (D := D) (cl := classes) (ci := 1) (C := R_TR) (T := F_TR) (N := 11) hx hb hT in_TR hown hK hP 1 rfl rfl 4 (by decide) (hT _ tw_35) (fun _ h9 => h9) rfl dd_TR_node_61 ?_
          refine lv_iload hx hb dd_TR_node_64 (lv_at hl 1 rfl) ?_
          refine lv_iload hx hb dd_TR_node_66 (lv_at hl 0 rfl) ?_
          refine tq_iast (k := z.1) hx hb hK hP hD hS 4 rfl (by omega) (by decide) dd_TR_node_68 (fun H locs hP hD hS => ?_)
          have hP : va_P D classes (wX cI cL h g cl len n ca wa (z.1 + 1, z.2.1, (upd z.2.2.1 z.1 (nI b)), z.2.2.2.1, z.2.2.2.2.1, z.2.2.2.2.2.1, z.2.2.2.2.2.2)) H := hP
          have hD : va_D A (wX cI cL h g cl len n ca wa (z.1 + 1, z.2.1, (upd z.2.2.1 z.1 (nI b)), z.2.2.2.1, z.2.2.2.2.1, z.2.2.2.2.2.1, z.2.2.2.2.2.2)) := hD
          refine lv_aload_n hx hb dd_TR_node_69 rfl (lv_at hl 2 rfl) ?_
          refine va_get (D := D) (cl := classes) (ci := 1) (C := R_TR) (T := F_TR) (N := 11) hx hb hT in_TR hown hK hP 1 rfl rfl 5 (by decide) (hT _ tw_36) (fun _ h9 => h9) rfl dd_TR_node_70 ?_
          refine lv_iload hx hb dd_TR_node_73 (lv_at hl 1 rfl) ?_
          refine lv_aload_n hx hb dd_TR_node_75 rfl (lv_at hl 2 rfl) ?_
          refine lv_iload_n hx hb dd_TR_node_76 rfl (lv_at hl 4 rfl) ?_
          refine lv_aload_n hx hb dd_TR_node_77 rfl (lv_at hl 2 rfl) ?_
          refine lv_iload_n hx hb dd_TR_node_78 rfl (lv_at hl 3 rfl) ?_
          refine lv_iload_n hx hb dd_TR_node_79 rfl (lv_at hl 4 rfl) ?_
          refine lv_iload hx hb dd_TR_node_80 (lv_at hl 0 rfl) ?_
          refine lv_iconst (v := 0) hx hb dd_TR_node_82 (by decide) ?_
          refine MT.callV (c_TR_with l D cI cL h g cl len n ca wa (z.1 + 1, z.2.1, (upd z.2.2.1 z.1 (nI b)), z.2.2.2.1, z.2.2.2.2.1, z.2.2.2.2.2.1, z.2.2.2.2.2.2) fr tt b false L (by omega) hfl (by omega) hL) vs_TR_65 ⟨hx, hb, hml, hown, hT⟩ ⟨hK, hX, hSK _ _ hS, hP, hD, hS, hA⟩ (tq_J.same _) 1 rfl rfl (rmK_R (by omega) (by decide)) rfl hl.1 rfl (Nat.le_of_ble_eq_true rfl) dd_TR_node_83 ⟨Nat.le_refl _, Nat.le_refl _⟩ (fun v u1 H locs hp hP hD hS => ?_) (fun x C u H locs hp hxf hP hD hS => hp.elim)
          obtain ⟨r1, rfl, hr1, pi1, rfl, hpa, hpb⟩ := hp
          subst hr1
          have hLa : (L.filter (okc ca wa b false)).length ≤ L.length := List.length_filter_le _ _
          refine lv_lload_n hx hb dd_TR_node_86 rfl (lv_at hl 5 rfl) ?_
          refine lv_lconst (v := 1) hx hb dd_TR_node_87 (by decide) ?_
          refine lv_iload hx hb dd_TR_node_88 (lv_at hl 0 rfl) ?_
          refine lv_lshl hx hb dd_TR_node_90 rfl ?_
          refine lv_lor hx hb dd_TR_node_91 ?_
          refine MT.callV (ihr r2 (by omega) (z.1 + 1, z.2.1, (upd z.2.2.1 z.1 (nI b)), z.2.2.2.1, z.2.2.2.2.1, z.2.2.2.2.2.1, pi1) tt (tt + (L.filter (okc ca wa b false)).length) (te ||| sh1 b) (L.filter (okc ca wa b false)) hrem2 (by omega) (by show z.1 + 1 ≤ 1982; omega) hlm rfl (by omega) (by omega) (fun i x hx0 => ⟨hpb i x hx0, ?_⟩)) vs_TR_48 ⟨hx, hb, hml, hown, hT⟩ ⟨hK, hX, hSK _ _ hS, hP, hD, hS, hA⟩ (tq_J.same _) 1 rfl rfl (rmK_R (by omega) (by decide)) rfl hl.1 rfl (Nat.le_of_ble_eq_true rfl) dd_TR_node_92 ⟨Nat.le_refl _, Nat.le_refl _⟩ (fun v y H locs hp hP hD hS => ?_) (fun x C u H locs hp hxf hP hD hS => hp.elim)
          · have hm := (List.mem_filter.mp (List.mem_of_getElem? hx0)).1
            obtain ⟨i2, hi2⟩ := List.getElem?_of_mem hm
            exact (hL i2 x hi2).2
          obtain ⟨r1, rfl, hr1, m1, m2, m3, m4, m5, m6, m7, m8⟩ := hp
          subst hr1
          have m1 : y.1 ≤ 1918 + (r2 + 1) := by
            have m1' : y.1 ≤ z.1 + 1 + 1 ∨ y.1 ≤ 1919 + r2 := m1
            omega
          have m2 : z.1 + 2 ≤ y.1 := m2
          have m3 : ∀ j, j < tt + (L.filter (okc ca wa b false)).length → y.2.2.2.2.2.2 j = pi1 j := m3
          have m6 : z.2.1 ≤ y.2.1 := m6
          refine tq_iast (k := z.1) hx hb hK hP hD hS 5 rfl (by omega) (by decide) dd_TR_node_95 (fun H locs hP hD hS => ?_)
          have hP : va_P D classes (wX cI cL h g cl len n ca wa (y.1, y.2.1, y.2.2.1, (upd y.2.2.2.1 z.1 (nI (z.1 + 1))), y.2.2.2.2.1, y.2.2.2.2.2.1, y.2.2.2.2.2.2)) H := hP
          have hD : va_D A (wX cI cL h g cl len n ca wa (y.1, y.2.1, y.2.2.1, (upd y.2.2.2.1 z.1 (nI (z.1 + 1))), y.2.2.2.2.1, y.2.2.2.2.2.1, y.2.2.2.2.2.2)) := hD
          refine lv_aload_n hx hb dd_TR_node_96 rfl (lv_at hl 2 rfl) ?_
          refine va_get (D := D) (cl := classes) (ci := 1) (C := R_TR) (T := F_TR) (N := 11) hx hb hT in_TR hown hK hP 1 rfl rfl 6 (by decide) (hT _ tw_37) (fun _ h9 => h9) rfl dd_TR_node_97 ?_
          refine lv_iload hx hb dd_TR_node_100 (lv_at hl 1 rfl) ?_
          refine lv_aload_n hx hb dd_TR_node_102 rfl (lv_at hl 2 rfl) ?_
          refine lv_iload_n hx hb dd_TR_node_103 rfl (lv_at hl 4 rfl) ?_
          refine lv_aload_n hx hb dd_TR_node_104 rfl (lv_at hl 2 rfl) ?_
          refine lv_iload_n hx hb dd_TR_node_105 rfl (lv_at hl 3 rfl) ?_
          refine lv_iload_n hx hb dd_TR_node_106 rfl (lv_at hl 4 rfl) ?_
          refine lv_iload hx hb dd_TR_node_107 (lv_at hl 0 rfl) ?_
          refine lv_iconst (v := 1) hx hb dd_TR_node_109 (by decide) ?_
          have hL2 : ∀ i x, L[i]? = some x → y.2.2.2.2.2.2 (fr + i) = nI x ∧ x < 512 := by
            intro i x hx0
            have hil := (List.getElem?_eq_some_iff.mp hx0).1
            obtain ⟨a1, a2⟩ := hL i x hx0
            refine ⟨?_, a2⟩
            rw [m3 _ (by omega), hpa _ (by omega)]
            exact a1
          refine MT.callV (c_TR_with l D cI cL h g cl len n ca wa (y.1, y.2.1, y.2.2.1, (upd y.2.2.2.1 z.1 (nI (z.1 + 1))), y.2.2.2.2.1, y.2.2.2.2.2.1, y.2.2.2.2.2.2) fr tt b true L (by omega) hfl (by omega) hL2) vs_TR_65 ⟨hx, hb, hml, hown, hT⟩ ⟨hK, hX, hSK _ _ hS, hP, hD, hS, hA⟩ (tq_J.same _) 1 rfl rfl (rmK_R (by omega) (by decide)) rfl hl.1 rfl (Nat.le_of_ble_eq_true rfl) dd_TR_node_110 ⟨Nat.le_refl _, Nat.le_refl _⟩ (fun v u1 H locs hp hP hD hS => ?_) (fun x C u H locs hp hxf hP hD hS => hp.elim)
          obtain ⟨r1, rfl, hr1, pi2, rfl, hpc, hpd⟩ := hp
          subst hr1
          have hLb : (L.filter (okc ca wa b true)).length ≤ L.length := List.length_filter_le _ _
          refine lv_lload_n hx hb dd_TR_node_113 rfl (lv_at hl 5 rfl) ?_
          refine lv_lconst (v := 1) hx hb dd_TR_node_114 (by decide) ?_
          refine lv_iload hx hb dd_TR_node_115 (lv_at hl 0 rfl) ?_
          refine lv_lshl hx hb dd_TR_node_117 rfl ?_
          refine lv_lor hx hb dd_TR_node_118 ?_
          refine MT.callV (ihr r2 (by omega) (y.1, y.2.1, y.2.2.1, (upd y.2.2.2.1 z.1 (nI (z.1 + 1))), y.2.2.2.2.1, y.2.2.2.2.2.1, pi2) tt (tt + (L.filter (okc ca wa b true)).length) (te ||| sh1 b) (L.filter (okc ca wa b true)) hrem2 (by omega) (by show y.1 ≤ 1982; omega) m7 rfl (by omega) (by omega) (fun i x hx0 => ⟨hpd i x hx0, ?_⟩)) vs_TR_48 ⟨hx, hb, hml, hown, hT⟩ ⟨hK, hX, hSK _ _ hS, hP, hD, hS, hA⟩ (tq_J.same _) 1 rfl rfl (rmK_R (by omega) (by decide)) rfl hl.1 rfl (Nat.le_of_ble_eq_true rfl) dd_TR_node_119 ⟨Nat.le_refl _, Nat.le_refl _⟩ (fun v t H locs hp hP hD hS => ?_) (fun x C u H locs hp hxf hP hD hS => hp.elim)
          · have hm := (List.mem_filter.mp (List.mem_of_getElem? hx0)).1
            obtain ⟨i2, hi2⟩ := List.getElem?_of_mem hm
            exact (hL i2 x hi2).2
          obtain ⟨r1, rfl, hr1, n1, n2, n3, n4, n5, n6, n7, n8⟩ := hp
          subst hr1
          have n1 : t.1 ≤ y.1 + 1 ∨ t.1 ≤ 1919 + r2 := n1
          have n2 : y.1 + 1 ≤ t.1 := n2
          have n3 : ∀ j, j < tt + (L.filter (okc ca wa b true)).length → t.2.2.2.2.2.2 j = pi2 j := n3
          have n4 : ∀ j, j < y.1 → t.2.2.1 j = y.2.2.1 j ∧ t.2.2.2.1 j = upd y.2.2.2.1 z.1 (nI (z.1 + 1)) j ∧ t.2.2.2.2.1 j = y.2.2.2.2.1 j := n4
          have n6 : y.2.1 ≤ t.2.1 := n6
          refine tq_iast (k := z.1) hx hb hK hP hD hS 6 rfl (by omega) (by decide) dd_TR_node_122 (fun H locs hP hD hS => ?_)
          have hP : va_P D classes (wX cI cL h g cl len n ca wa (t.1, t.2.1, t.2.2.1, t.2.2.2.1, upd t.2.2.2.2.1 z.1 (nI y.1), t.2.2.2.2.2.1, t.2.2.2.2.2.2)) H := hP
          have hD : va_D A (wX cI cL h g cl len n ca wa (t.1, t.2.1, t.2.2.1, t.2.2.2.1, upd t.2.2.2.2.1 z.1 (nI y.1), t.2.2.2.2.2.1, t.2.2.2.2.2.2)) := hD
          refine lv_iload hx hb dd_TR_node_123 (lv_at hl 1 rfl) ?_
          have m4 : ∀ j, j < z.1 + 1 → y.2.2.1 j = upd z.2.2.1 z.1 (nI b) j ∧ y.2.2.2.1 j = z.2.2.2.1 j ∧ y.2.2.2.2.1 j = z.2.2.2.2.1 j := m4
          refine ret (nI z.1) (t.1, t.2.1, t.2.2.1, t.2.2.2.1, upd t.2.2.2.2.1 z.1 (nI y.1), t.2.2.2.2.2.1, t.2.2.2.2.2.2) H locs 0 0 125 ls ⟨rfl, Or.inr ?_, ?_, fun j hj => ?_, fun j hj => ?_, fun j hj => ?_, ?_, n7, Or.inr ⟨Nat.le_refl _, ?_, b, z.1 + 1, y.1, hbl, ?_, ?_, up_s, ?_, ?_⟩⟩ hP hD hS (Nat.zero_le _) (Nat.zero_le _) rfl dd_TR_node_125
          · show t.1 ≤ 1919 + (r2 + 1); omega
          · show z.1 + 1 ≤ t.1; omega
          · show t.2.2.2.2.2.2 j = _
            rw [n3 j (by omega), hpc j hj]
            show y.2.2.2.2.2.2 j = _
            rw [m3 j (by omega), hpa j hj]
          · obtain ⟨a1, a2, a3⟩ := n4 j (by omega)
            obtain ⟨c1, c2, c3⟩ := m4 j (by omega)
            refine ⟨?_, ?_, ?_⟩
            · show t.2.2.1 j = _
              rw [a1, c1, up_n (by omega)]
            · show t.2.2.2.1 j = _
              rw [a2, up_n (by omega), c2]
            · show upd t.2.2.2.2.1 z.1 _ j = _
              rw [up_n (by omega), a3, c3]
          · show t.2.2.2.2.2.1 j = _
            rw [n5 j (by show j < y.2.1; omega)]
            exact m5 j hj
          · show z.2.1 ≤ t.2.1; omega
          · show z.1 < t.1; omega
          · show t.2.2.1 z.1 = _
            rw [(n4 z.1 (by omega)).1, (m4 z.1 (by omega)).1, up_s]
          · show t.2.2.2.1 z.1 = _
            rw [(n4 z.1 (by omega)).2.1, up_s]
          · refine TG_mono (lo := z.1 + 1) (hi := y.1) (lm := y.2.1) (fun j h1 h2 => ?_) (fun j hj => n5 j hj) (by omega) (by show y.1 ≤ t.1; omega) (by show y.2.1 ≤ t.2.1; omega) _ _ _ m8
            obtain ⟨a1, a2, a3⟩ := n4 j h2
            exact ⟨a1, a2.trans (up_n (by omega)), (up_n (by omega)).trans a3⟩
          · refine TG_mono (lo := y.1) (hi := t.1) (lm := t.2.1) (fun j h1 h2 => ⟨rfl, rfl, up_n (by omega)⟩) (fun j hj => rfl) (by omega) (by show t.1 ≤ t.1; omega) (by show t.2.1 ≤ t.2.1; omega) _ _ _ n8
        · exact absurd (nI_pos' (by omega)) hc
      · refine lv_iconst (v := -1) hx hb dd_TR_node_33 (by decide) ?_
        refine lv_goto (tgt := 44) hx hb dd_TR_node_34 (by decide) ?_
        exact kleaf ls hl
set_option maxRecDepth 20000 in
theorem c_TR_grow (l : Launch) (D : va_G) (cI cL : ClassId) (h : Nat → Nat) (g cl : Int32) (len n : Nat) (ca wa : Nat → Int64) (z : ZT) (hlen : len ≤ 64) (hn : n ≤ 512) : MT (S := ZT) l yy_TR_grow bb_TR_grow 2 none [] (rmK 67) D cI cL [.ref (h 1)] (wX cI cL h g cl len n ca wa z) (fun y => wX cI cL h g cl len n ca wa y) (pV (fun y => y.1 ≤ 2048 ∧ y.2.1 ≤ 8192 ∧ TG ca wa len y.2.2.1 y.2.2.2.1 y.2.2.2.2.1 y.2.2.2.2.2.1 0 y.1 y.2.1 64 0 (List.range n))) (nx) := by
  refine MT.mkV (by decide) (Nat.le_of_ble_eq_true rfl) ?_
  intro p e s m below meth c A Q B ret lv ls hl
  obtain ⟨hx, hb, hml, hown, hT, hK, hX, hSK, hA, hP, hD, hS, htab, hcode, hpl⟩ := B
  have hown : s.vm.findClass "PatternTree$Tree" = some m.cls := hown
  have hl : lv_has ls 2 [(0, .ref (h 1))] := hl
  refine lv_aload_n hx hb dd_TR_grow_0 rfl (lv_at hl 0 rfl) ?_
  refine lv_iconst (v := 0) hx hb dd_TR_grow_1 (by decide) ?_
  refine va_put (D := D) (cl := classes) (ci := 1) (ty := .int) (C := R_TR) (T := F_TR) (N := 11) hx hb hT in_TR t_TR t_TR_ok n_TR hown hK hP hD hS 1 rfl rfl 7 (by decide) (hT _ tw_38) (fun _ h9 => h9) rfl (by decide +kernel) rfl rfl (Nat.le_of_ble_eq_true rfl) dd_TR_grow_2 (fun H locs hP hD hS => ?_)
  have hP : va_P D classes (wX cI cL h g cl len n ca wa (0, z.2.1, z.2.2.1, z.2.2.2.1, z.2.2.2.2.1, z.2.2.2.2.2.1, z.2.2.2.2.2.2)) H := hP
  have hD : va_D A (wX cI cL h g cl len n ca wa (0, z.2.1, z.2.2.1, z.2.2.2.1, z.2.2.2.2.1, z.2.2.2.2.2.1, z.2.2.2.2.2.2)) := hD
  refine lv_aload_n hx hb dd_TR_grow_5 rfl (lv_at hl 0 rfl) ?_
  refine lv_iconst (v := 0) hx hb dd_TR_grow_6 (by decide) ?_
  refine va_put (D := D) (cl := classes) (ci := 1) (ty := .int) (C := R_TR) (T := F_TR) (N := 11) hx hb hT in_TR t_TR t_TR_ok n_TR hown hK hP hD hS 1 rfl rfl 9 (by decide) (hT _ tw_40) (fun _ h9 => h9) rfl (by decide +kernel) rfl rfl (Nat.le_of_ble_eq_true rfl) dd_TR_grow_7 (fun H locs hP hD hS => ?_)
  have hP : va_P D classes (wX cI cL h g cl len n ca wa (0, 0, z.2.2.1, z.2.2.2.1, z.2.2.2.2.1, z.2.2.2.2.2.1, z.2.2.2.2.2.2)) H := hP
  have hD : va_D A (wX cI cL h g cl len n ca wa (0, 0, z.2.2.1, z.2.2.2.1, z.2.2.2.2.1, z.2.2.2.2.2.1, z.2.2.2.2.2.2)) := hD
  refine lv_iconst (v := 0) hx hb dd_TR_grow_10 (by decide) ?_
  refine lv_topi (fun v11 e11 => ?_)
  obtain rfl : v11 = nI 0 := e11
  refine lv_istore_n hx hb dd_TR_grow_11 rfl hl (by decide) rfl (fun ls hl => ?_)
  have hl : lv_has ls 2 [(1, .int (nI 0)), (0, .ref (h 1))] := hl
  have loop : ∀ (j k : Nat) (pi : Nat → Int32) (H : Heap) (locs : List Loc) (ls : Array Slot), k + j = n → (∀ i, i < k → pi i = nI i) → va_P D classes (wX cI cL h g cl len n ca wa (0, 0, z.2.2.1, z.2.2.2.1, z.2.2.2.2.1, z.2.2.2.2.2.1, pi)) H → va_D A (wX cI cL h g cl len n ca wa (0, 0, z.2.2.1, z.2.2.2.1, z.2.2.2.2.1, z.2.2.2.2.2.1, pi)) → va_S A s.heap H locs → lv_has ls 2 [(1, .int (nI k)), (0, .ref (h 1))] → W p l e (rmK 67) s m ([.ref (h 1)] : List Value).toArray below meth c H locs 0 0 Q (F0 m 12 ls []) := by
    intro j
    induction j with
    | zero =>
      intro k pi H locs ls hkj hpi hP hD hS hl
      refine lv_iload_n hx hb dd_TR_grow_12 rfl (lv_at hl 0 rfl) ?_
      refine lv_aload_n hx hb dd_TR_grow_13 rfl (lv_at hl 1 rfl) ?_
      refine va_get (D := D) (cl := classes) (ci := 1) (C := R_TR) (T := F_TR) (N := 11) hx hb hT in_TR hown hK hP 1 rfl rfl 1 (by decide) (hT _ tw_30) (fun _ h9 => h9) rfl dd_TR_grow_14 ?_
      refine tq_ige (tgt := 33) hx hb (by omega) (by omega) dd_TR_grow_17 (by decide) (fun hc => ?_) (fun hc => ?_)
      · refine lv_aload_n hx hb dd_TR_grow_33 rfl (lv_at hl 1 rfl) ?_
        refine lv_iconst (v := 0) hx hb dd_TR_grow_34 (by decide) ?_
        refine lv_aload_n hx hb dd_TR_grow_35 rfl (lv_at hl 1 rfl) ?_
        refine va_get (D := D) (cl := classes) (ci := 1) (C := R_TR) (T := F_TR) (N := 11) hx hb hT in_TR hown hK hP 1 rfl rfl 1 (by decide) (hT _ tw_30) (fun _ h9 => h9) rfl dd_TR_grow_36 ?_
        refine lv_lconst (v := 0) hx hb dd_TR_grow_39 (by decide) ?_
        refine MT.callV (c_TR_node l D cI cL h g cl len n ca wa hlen 64 (0, 0, z.2.2.1, z.2.2.2.1, z.2.2.2.2.1, z.2.2.2.2.2.1, pi) 0 n 0 (List.range n) (Nat.le_trans (rem_le _ _) hlen) (Nat.le_refl _) (Nat.zero_le _) (Nat.zero_le _) (by simp) (by simp; omega) (by omega) (fun i x hx0 => ?_)) vs_TR_48 ⟨hx, hb, hml, hown, hT⟩ ⟨hK, hX, hSK _ _ hS, hP, hD, hS, hA⟩ (tq_J.same _) 1 rfl rfl (by decide) rfl hl.1 rfl (Nat.le_of_ble_eq_true rfl) dd_TR_grow_40 ⟨by decide, by decide⟩ (fun v y H locs hp hP hD hS => ?_) (fun x C u H locs hp hxf hP hD hS => hp.elim)
        · have hil := (List.getElem?_eq_some_iff.mp hx0).1
          rw [List.length_range] at hil
          rw [List.getElem?_range hil] at hx0
          cases hx0
          exact ⟨by rw [Nat.zero_add]; exact hpi i (by omega), by omega⟩
        obtain ⟨r1, rfl, hr1, m1, m2, m3, m4, m5, m6, m7, m8⟩ := hp
        have m1 : y.1 ≤ 0 + 1 ∨ y.1 ≤ 1919 + 64 := m1
        refine lv_topi (fun v43 e43 => ?_)
        refine lv_istore_n hx hb dd_TR_grow_43 rfl hl (by decide) rfl (fun ls hl => ?_)
        have hl : lv_has ls 2 [(1, .int v43), (0, .ref (h 1))] := hl
        exact ret y H locs 0 0 44 ls ⟨by omega, m7, m8⟩ hP hD hS (Nat.zero_le _) (Nat.zero_le _) dd_TR_grow_44
      · omega
    | succ j ih =>
      intro k pi H locs ls hkj hpi hP hD hS hl
      refine lv_iload_n hx hb dd_TR_grow_12 rfl (lv_at hl 0 rfl) ?_
      refine lv_aload_n hx hb dd_TR_grow_13 rfl (lv_at hl 1 rfl) ?_
      refine va_get (D := D) (cl := classes) (ci := 1) (C := R_TR) (T := F_TR) (N := 11) hx hb hT in_TR hown hK hP 1 rfl rfl 1 (by decide) (hT _ tw_30) (fun _ h9 => h9) rfl dd_TR_grow_14 ?_
      refine tq_ige (tgt := 33) hx hb (by omega) (by omega) dd_TR_grow_17 (by decide) (fun hc => ?_) (fun hc => ?_)
      · omega
      · refine lv_aload_n hx hb dd_TR_grow_20 rfl (lv_at hl 1 rfl) ?_
        refine va_get (D := D) (cl := classes) (ci := 1) (C := R_TR) (T := F_TR) (N := 11) hx hb hT in_TR hown hK hP 1 rfl rfl 10 (by decide) (hT _ tw_41) (fun _ h9 => h9) rfl dd_TR_grow_21 ?_
        refine lv_iload_n hx hb dd_TR_grow_24 rfl (lv_at hl 0 rfl) ?_
        refine lv_iload_n hx hb dd_TR_grow_25 rfl (lv_at hl 0 rfl) ?_
        refine tq_iast (k := k) hx hb hK hP hD hS 8 rfl (by omega) (by decide) dd_TR_grow_26 (fun H locs hP hD hS => ?_)
        have hP : va_P D classes (wX cI cL h g cl len n ca wa (0, 0, z.2.2.1, z.2.2.2.1, z.2.2.2.2.1, z.2.2.2.2.2.1, (upd pi k (nI k)))) H := hP
        have hD : va_D A (wX cI cL h g cl len n ca wa (0, 0, z.2.2.1, z.2.2.2.1, z.2.2.2.2.1, z.2.2.2.2.2.1, (upd pi k (nI k)))) := hD
        refine lv_iinc (k := 0) hx hb dd_TR_grow_27 hl rfl (tq_inc k) (by decide) rfl (fun ls hl => ?_)
        have hl : lv_has ls 2 [(1, .int (nI (k + 1))), (0, .ref (h 1))] := hl
        refine lv_goto (tgt := 12) hx hb dd_TR_grow_30 (by decide) ?_
        refine ih (k + 1) _ H locs ls (by omega) (fun i hi => ?_) hP hD hS hl
        by_cases hik : i = k
        · subst hik; exact up_s
        · rw [up_n hik]; exact hpi i (by omega)
  exact loop n 0 _ _ _ ls (by omega) (fun i hi => absurd hi (Nat.not_lt_zero i)) hP hD hS hl
end
section
def msh (len : Nat) (ca wa : Nat → Int64) (c w : Int64) (k : Nat) : Bool := decide (((wa k ^^^ w) &&& ca k &&& c &&& mk len) = 0)
def mnone (len n : Nat) (ca wa : Nat → Int64) (c w : Int64) : Int64 := por (msh len ca wa c w) (fun k => psz len ((c ||| ca k) &&& mk len)) 0 n (psz len (c &&& mk len))
def msome (len n : Nat) (ca wa : Nat → Int64) (c w : Int64) : Bool := !decide (mnone len n ca wa c w = 0) || (decide (pcnt (c &&& mk len) = 0) && decide (len = 64) && decide (n = 0))
theorem nI_bit (a : Nat) (t : Bool) : nI a + (if t then (1 : Int64) else 0).toInt32 = nI (a + (if t then 1 else 0)) := by
  cases t
  · show nI a + 0 = nI (a + 0)
    rw [Nat.add_zero, Int32.add_zero]
  · exact tq_1s a
theorem pcn_le (v : Int64) : ∀ k, pcn v k ≤ k
  | 0 => Nat.le_refl _
  | k + 1 => by simp only [pcn]; have := pcn_le v k; split <;> omega
theorem pcnt_le (v : Int64) : pcnt v ≤ 64 := pcn_le v 64
set_option maxRecDepth 20000 in
theorem c_MO_thrown (l : Launch) (D : va_G) (cI cL : ClassId) (h : Nat → Nat) (len n : Nat) (cl be th : Int32) (ca wa : Nat → Int64) : RdI l yy_MO_thrown bb_MO_thrown 1 (some .int) (rmK 0) D cI cL [.ref (h 0)] (wM cL h len n cl be th ca wa) (fun r => r = th) := by
  refine RdI.mk (by decide) (Nat.le_of_ble_eq_true rfl) ?_
  intro p e s m below meth c Q hx hb hml hown hT hK hP ret ls hl
  have hown : s.vm.findClass "PatternTreeModel" = some m.cls := hown
  have hl : lv_has ls 1 [(0, .ref (h 0))] := hl
  refine lv_aload_n hx hb dd_MO_thrown_0 rfl (lv_at hl 0 rfl) ?_
  refine va_get (D := D) (cl := classes) (ci := 2) (C := R_MO) (T := F_MO) (N := 7) hx hb hT in_MO hown hK hP 0 rfl rfl 6 (by decide) (hT _ tw_336) (fun _ h9 => h9) rfl dd_MO_thrown_1 ?_
  exact ret 4 ls _ rfl rfl dd_MO_thrown_4
set_option maxRecDepth 20000 in
theorem c_MO_mask (l : Launch) (D : va_G) (cI cL : ClassId) (h : Nat → Nat) (len n : Nat) (cl be th : Int32) (ca wa : Nat → Int64) (hlen : len ≤ 64) : RdL l yy_MO_mask bb_MO_mask 1 (some .long) (rmK 0) D cI cL [.ref (h 0)] (wM cL h len n cl be th ca wa) (fun r => r = mk len) := by
  refine RdL.mk (by decide) (Nat.le_of_ble_eq_true rfl) ?_
  intro p e s m below meth c Q hx hb hml hown hT hK hP ret ls hl
  have hown : s.vm.findClass "PatternTreeModel" = some m.cls := hown
  have hl : lv_has ls 1 [(0, .ref (h 0))] := hl
  refine lv_aload_n hx hb dd_MO_mask_0 rfl (lv_at hl 0 rfl) ?_
  refine va_get (D := D) (cl := classes) (ci := 2) (C := R_MO) (T := F_MO) (N := 7) hx hb hT in_MO hown hK hP 0 rfl rfl 3 (by decide) (hT _ tw_333) (fun _ h9 => h9) rfl dd_MO_mask_1 ?_
  refine lv_bipush (v := 64) hx hb dd_MO_mask_4 (by decide) ?_
  refine lv_icmp_ne (tgt := 15) hx hb dd_MO_mask_6 (by decide) (fun hc => ?_) (fun hc => ?_)
  · have hne : len ≠ 64 := fun h6 => hc (by rw [h6]; rfl)
    refine lv_lconst (v := 1) hx hb dd_MO_mask_15 (by decide) ?_
    refine lv_aload_n hx hb dd_MO_mask_16 rfl (lv_at hl 0 rfl) ?_
    refine va_get (D := D) (cl := classes) (ci := 2) (C := R_MO) (T := F_MO) (N := 7) hx hb hT in_MO hown hK hP 0 rfl rfl 3 (by decide) (hT _ tw_333) (fun _ h9 => h9) rfl dd_MO_mask_17 ?_
    refine lv_lshl hx hb dd_MO_mask_20 rfl ?_
    refine lv_lconst (v := 1) hx hb dd_MO_mask_21 (by decide) ?_
    refine lv_lsub hx hb dd_MO_mask_22 ?_
    exact ret 23 ls _ (by unfold mk; rw [if_neg hne]; rfl) dd_MO_mask_23
  · have h64 : len = 64 := (nI_eq (b := 64) (by omega) (by omega)).mp hc
    refine lv_ldc2 (v := -1) hx hb hown (hT _ tw_372) dd_MO_mask_9 ?_
    refine lv_goto (tgt := 23) hx hb dd_MO_mask_12 (by decide) ?_
    exact ret 23 ls _ (by unfold mk; rw [if_pos h64]) dd_MO_mask_23
set_option maxRecDepth 20000 in
theorem c_MO_bits (l : Launch) (D : va_G) (cI cL : ClassId) (ww : va_W) (v : Int64) : RdI l yy_MO_bits bb_MO_bits 4 (some .int) (rmK 0) D cI cL [.long v] (ww) (fun r => r = nI (pcnt v)) := by
  refine RdI.mk (by decide) (Nat.le_of_ble_eq_true rfl) ?_
  intro p e s m below meth c Q hx hb hml hown hT hK hP ret ls hl
  have hown : s.vm.findClass "PatternTreeModel" = some m.cls := hown
  have hl : lv_has ls 4 [(0, .long v)] := hl
  refine lv_iconst (v := 0) hx hb dd_MO_bits_0 (by decide) ?_
  refine lv_topi (fun v1 e1 => ?_)
  obtain rfl : v1 = nI (pcn v 0) := e1
  refine lv_istore_n hx hb dd_MO_bits_1 rfl hl (by decide) rfl (fun ls hl => ?_)
  have hl : lv_has ls 4 [(2, .int (nI (pcn v 0))), (0, .long v)] := hl
  refine lv_iconst (v := 0) hx hb dd_MO_bits_2 (by decide) ?_
  refine lv_topi (fun v3 e3 => ?_)
  obtain rfl : v3 = nI 0 := e3
  refine lv_istore_n hx hb dd_MO_bits_3 rfl hl (by decide) rfl (fun ls hl => ?_)
  have hl : lv_has ls 4 [(3, .int (nI 0)), (2, .int (nI (pcn v 0))), (0, .long v)] := hl
  have loop : ∀ (j k : Nat) (ls : Array Slot), k + j = 64 → lv_has ls 4 [(3, .int (nI k)), (2, .int (nI (pcn v k))), (0, .long v)] → W p l e (rmK 0) s m ([.long v] : List Value).toArray below meth c s.heap [] 0 0 Q (F0 m 4 ls []) := by
    intro j
    induction j with
    | zero =>
      intro k ls hk hl
      refine lv_iload_n hx hb dd_MO_bits_4 rfl (lv_at hl 0 rfl) ?_
      refine lv_bipush (v := 64) hx hb dd_MO_bits_5 (by decide) ?_
      refine lv_icmp_ge (tgt := 25) hx hb dd_MO_bits_7 (by decide) (fun hc => ?_) (fun hc => ?_)
      · have h64 : k = 64 := by omega
        subst h64
        refine lv_iload_n hx hb dd_MO_bits_25 rfl (lv_at hl 1 rfl) ?_
        exact ret 26 ls _ rfl rfl dd_MO_bits_26
      · exact absurd ((nI_leI (a := 64) (by omega) (by omega)).mpr (by omega)) hc
    | succ j ih =>
      intro k ls hk hl
      refine lv_iload_n hx hb dd_MO_bits_4 rfl (lv_at hl 0 rfl) ?_
      refine lv_bipush (v := 64) hx hb dd_MO_bits_5 (by decide) ?_
      refine lv_icmp_ge (tgt := 25) hx hb dd_MO_bits_7 (by decide) (fun hc => ?_) (fun hc => ?_)
      · exact absurd ((nI_leI (a := 64) (by omega) (by omega)).mp hc) (by omega)
      · refine lv_iload_n hx hb dd_MO_bits_10 rfl (lv_at hl 1 rfl) ?_
        refine lv_lload_n hx hb dd_MO_bits_11 rfl (lv_at hl 2 rfl) ?_
        refine lv_iload_n hx hb dd_MO_bits_12 rfl (lv_at hl 0 rfl) ?_
        refine lv_lushr hx hb dd_MO_bits_13 rfl ?_
        refine lv_lconst (v := 1) hx hb dd_MO_bits_14 (by decide) ?_
        refine lv_land hx hb dd_MO_bits_15 ?_
        rw [ubit1 (show k < 64 by omega)]
        refine lv_l2i hx hb dd_MO_bits_16 rfl ?_
        refine lv_iadd hx hb dd_MO_bits_17 ?_
        rw [nI_bit]
        refine lv_topi (fun v18 e18 => ?_)
        obtain rfl : v18 = nI (pcn v (k + 1)) := e18
        refine lv_istore_n hx hb dd_MO_bits_18 rfl hl (by decide) rfl (fun ls hl => ?_)
        have hl : lv_has ls 4 [(2, .int (nI (pcn v (k + 1)))), (3, .int (nI k)), (0, .long v)] := hl
        refine lv_iinc (k := 1) hx hb dd_MO_bits_19 hl rfl (tq_inc k) (by decide) rfl (fun ls hl => ?_)
        have hl : lv_has ls 4 [(3, .int (nI (k + 1))), (2, .int (nI (pcn v (k + 1)))), (0, .long v)] := hl
        refine lv_goto (tgt := 4) hx hb dd_MO_bits_22 (by decide) ?_
        exact ih (k + 1) ls (by omega) hl
  exact loop 64 0 ls (by omega) hl
set_option maxRecDepth 20000 in
theorem c_MO_power (l : Launch) (D : va_G) (cI cL : ClassId) (ww : va_W) (o : Int32) : RdL l yy_MO_power bb_MO_power 1 (some .long) (rmK 0) D cI cL [.int o] (ww) (fun r => r = pow2 o) := by
  refine RdL.mk (by decide) (Nat.le_of_ble_eq_true rfl) ?_
  intro p e s m below meth c Q hx hb hml hown hT hK hP ret ls hl
  have hown : s.vm.findClass "PatternTreeModel" = some m.cls := hown
  have hl : lv_has ls 1 [(0, .int o)] := hl
  refine lv_iload_n hx hb dd_MO_power_0 rfl (lv_at hl 0 rfl) ?_
  refine lv_bipush (v := 64) hx hb dd_MO_power_1 (by decide) ?_
  refine lv_icmp_ne (tgt := 10) hx hb dd_MO_power_3 (by decide) (fun hc => ?_) (fun hc => ?_)
  · refine lv_lconst (v := 1) hx hb dd_MO_power_10 (by decide) ?_
    refine lv_iload_n hx hb dd_MO_power_11 rfl (lv_at hl 0 rfl) ?_
    refine lv_lshl hx hb dd_MO_power_12 rfl ?_
    exact ret 13 ls _ (by unfold pow2; rw [if_neg hc]) dd_MO_power_13
  · refine lv_lconst (v := 0) hx hb dd_MO_power_6 (by decide) ?_
    refine lv_goto (tgt := 13) hx hb dd_MO_power_7 (by decide) ?_
    exact ret 13 ls _ (by unfold pow2; rw [if_pos hc]) dd_MO_power_13
set_option maxRecDepth 20000 in
theorem c_MO_wrong (l : Launch) (D : va_G) (cI cL : ClassId) (h : Nat → Nat) (len n : Nat) (cl be th : Int32) (ca wa : Nat → Int64) (c0 w : Int64) (hlen : len ≤ 64) : RdI l yy_MO_wrong bb_MO_wrong 5 (some .boolean) (rmK 1) D cI cL [.ref (h 0), .long c0, .long w] (wM cL h len n cl be th ca wa) (fun r => r = b2i (!isP len c0 w)) := by
  refine RdI.mk (by decide) (Nat.le_of_ble_eq_true rfl) ?_
  intro p e s m below meth c Q hx hb hml hown hT hK hP ret ls hl
  have hown : s.vm.findClass "PatternTreeModel" = some m.cls := hown
  have hl : lv_has ls 5 [(0, .ref (h 0)), (1, .long c0), (3, .long w)] := hl
  refine lv_lload_n hx hb dd_MO_wrong_0 rfl (lv_at hl 2 rfl) ?_
  refine lv_lload_n hx hb dd_MO_wrong_1 rfl (lv_at hl 1 rfl) ?_
  refine lv_ldc2 (v := -1) hx hb hown (hT _ tw_372) dd_MO_wrong_2 ?_
  refine lv_lxor hx hb dd_MO_wrong_5 ?_
  refine lv_land hx hb dd_MO_wrong_6 ?_
  refine lv_aload_n hx hb dd_MO_wrong_7 rfl (lv_at hl 0 rfl) ?_
  refine RdL.callV (c_MO_mask l D cI cL h len n cl be th ca wa hlen) vs_MO_28 ⟨hx, hb, hml, hown, hT⟩ hK hP 0 rfl rfl ⟨rfl, rfl⟩ (by decide) rfl hl.1 rfl (Nat.le_of_ble_eq_true rfl) dd_MO_wrong_8 ⟨Nat.zero_le _, Nat.zero_le _⟩ (fun r hr => ?_)
  subst hr
  refine lv_land hx hb dd_MO_wrong_11 ?_
  refine lv_lconst (v := 0) hx hb dd_MO_wrong_12 (by decide) ?_
  refine tq_leq (tgt := 21) hx hb dd_MO_wrong_13 dd_MO_wrong_14 (by decide) (fun hc => ?_) (fun hc => ?_)
  · refine lv_iconst (v := 0) hx hb dd_MO_wrong_21 (by decide) ?_
    exact ret 22 ls 0 (by unfold isP b2i; rw [decide_eq_true hc]; rfl) rfl dd_MO_wrong_22
  · refine lv_iconst (v := 1) hx hb dd_MO_wrong_17 (by decide) ?_
    refine lv_goto (tgt := 22) hx hb dd_MO_wrong_18 (by decide) ?_
    exact ret 22 ls 1 (by unfold isP b2i; rw [decide_eq_false hc]; rfl) rfl dd_MO_wrong_22
set_option maxRecDepth 20000 in
theorem c_MO_meet (l : Launch) (D : va_G) (cI cL : ClassId) (h : Nat → Nat) (len n : Nat) (cl be th : Int32) (ca wa : Nat → Int64) (k : Nat) (c0 w : Int64) (hlen : len ≤ 64) (hk : k < 512) : RdI l yy_MO_meet bb_MO_meet 6 (some .boolean) (rmK 1) D cI cL [.ref (h 0), .int (nI k), .long c0, .long w] (wM cL h len n cl be th ca wa) (fun r => r = b2i (msh len ca wa c0 w k)) := by
  refine RdI.mk (by decide) (Nat.le_of_ble_eq_true rfl) ?_
  intro p e s m below meth c Q hx hb hml hown hT hK hP ret ls hl
  have hown : s.vm.findClass "PatternTreeModel" = some m.cls := hown
  have hl : lv_has ls 6 [(0, .ref (h 0)), (1, .int (nI k)), (2, .long c0), (4, .long w)] := hl
  refine lv_aload_n hx hb dd_MO_meet_0 rfl (lv_at hl 0 rfl) ?_
  refine va_get (D := D) (cl := classes) (ci := 2) (C := R_MO) (T := F_MO) (N := 7) hx hb hT in_MO hown hK hP 0 rfl rfl 1 (by decide) (hT _ tw_331) (fun _ h9 => h9) rfl dd_MO_meet_1 ?_
  refine lv_iload_n hx hb dd_MO_meet_4 rfl (lv_at hl 1 rfl) ?_
  refine tq_lald (k := k) hx hb hK hP 2 rfl hk (by decide) dd_MO_meet_5 ?_
  refine lv_lload hx hb dd_MO_meet_6 (lv_at hl 3 rfl) ?_
  refine lv_lxor hx hb dd_MO_meet_8 ?_
  refine lv_aload_n hx hb dd_MO_meet_9 rfl (lv_at hl 0 rfl) ?_
  refine va_get (D := D) (cl := classes) (ci := 2) (C := R_MO) (T := F_MO) (N := 7) hx hb hT in_MO hown hK hP 0 rfl rfl 0 (by decide) (hT _ tw_330) (fun _ h9 => h9) rfl dd_MO_meet_10 ?_
  refine lv_iload_n hx hb dd_MO_meet_13 rfl (lv_at hl 1 rfl) ?_
  refine tq_lald (k := k) hx hb hK hP 1 rfl hk (by decide) dd_MO_meet_14 ?_
  refine lv_land hx hb dd_MO_meet_15 ?_
  refine lv_lload_n hx hb dd_MO_meet_16 rfl (lv_at hl 2 rfl) ?_
  refine lv_land hx hb dd_MO_meet_17 ?_
  refine lv_aload_n hx hb dd_MO_meet_18 rfl (lv_at hl 0 rfl) ?_
  refine RdL.callV (c_MO_mask l D cI cL h len n cl be th ca wa hlen) vs_MO_28 ⟨hx, hb, hml, hown, hT⟩ hK hP 0 rfl rfl ⟨rfl, rfl⟩ (by decide) rfl hl.1 rfl (Nat.le_of_ble_eq_true rfl) dd_MO_meet_19 ⟨Nat.zero_le _, Nat.zero_le _⟩ (fun r hr => ?_)
  subst hr
  refine lv_land hx hb dd_MO_meet_22 ?_
  refine lv_lconst (v := 0) hx hb dd_MO_meet_23 (by decide) ?_
  refine tq_lne (tgt := 32) hx hb dd_MO_meet_24 dd_MO_meet_25 (by decide) (fun hc => ?_) (fun hc => ?_)
  · refine lv_iconst (v := 0) hx hb dd_MO_meet_32 (by decide) ?_
    exact ret 33 ls 0 (by unfold msh b2i; rw [decide_eq_false hc]; rfl) rfl dd_MO_meet_33
  · refine lv_iconst (v := 1) hx hb dd_MO_meet_28 (by decide) ?_
    refine lv_goto (tgt := 33) hx hb dd_MO_meet_29 (by decide) ?_
    exact ret 33 ls 1 (by unfold msh b2i; rw [decide_eq_true hc]; rfl) rfl dd_MO_meet_33
set_option maxRecDepth 20000 in
theorem c_MO_first (l : Launch) (D : va_G) (cI cL : ClassId) (h : Nat → Nat) (len n : Nat) (cl be th : Int32) (ca wa : Nat → Int64) (c0 w : Int64) (hlen : len ≤ 64) (hn : n ≤ 512) : RdI l yy_MO_first bb_MO_first 6 (some .int) (rmK 2) D cI cL [.ref (h 0), .long c0, .long w] (wM cL h len n cl be th ca wa) (fun r => r = ff (msh len ca wa c0 w) n) := by
  refine RdI.mk (by decide) (Nat.le_of_ble_eq_true rfl) ?_
  intro p e s m below meth c Q hx hb hml hown hT hK hP ret ls hl
  have hown : s.vm.findClass "PatternTreeModel" = some m.cls := hown
  have hl : lv_has ls 6 [(0, .ref (h 0)), (1, .long c0), (3, .long w)] := hl
  refine lv_iconst (v := 0) hx hb dd_MO_first_0 (by decide) ?_
  refine lv_topi (fun v1 e1 => ?_)
  obtain rfl : v1 = nI 0 := e1
  refine lv_istore hx hb dd_MO_first_1 hl (by decide) rfl (fun ls hl => ?_)
  have hl : lv_has ls 6 [(5, .int (nI 0)), (0, .ref (h 0)), (1, .long c0), (3, .long w)] := hl
  have loop : ∀ (j k : Nat) (ls : Array Slot), k + j = n → ff (msh len ca wa c0 w) n = ffr (msh len ca wa c0 w) k j → lv_has ls 6 [(5, .int (nI k)), (0, .ref (h 0)), (1, .long c0), (3, .long w)] → W p l e (rmK 2) s m ([.ref (h 0), .long c0, .long w] : List Value).toArray below meth c s.heap [] 0 0 Q (F0 m 3 ls []) := by
    intro j
    induction j with
    | zero =>
      intro k ls hk hf hl
      refine lv_iload hx hb dd_MO_first_3 (lv_at hl 0 rfl) ?_
      refine lv_aload_n hx hb dd_MO_first_5 rfl (lv_at hl 1 rfl) ?_
      refine va_get (D := D) (cl := classes) (ci := 2) (C := R_MO) (T := F_MO) (N := 7) hx hb hT in_MO hown hK hP 0 rfl rfl 2 (by decide) (hT _ tw_332) (fun _ h9 => h9) rfl dd_MO_first_6 ?_
      refine tq_ige (tgt := 32) hx hb (by omega) (by omega) dd_MO_first_9 (by decide) (fun hc => ?_) (fun hc => ?_)
      · refine lv_iconst (v := -1) hx hb dd_MO_first_32 (by decide) ?_
        exact ret 33 ls _ hf.symm rfl dd_MO_first_33
      · omega
    | succ j ih =>
      intro k ls hk hf hl
      refine lv_iload hx hb dd_MO_first_3 (lv_at hl 0 rfl) ?_
      refine lv_aload_n hx hb dd_MO_first_5 rfl (lv_at hl 1 rfl) ?_
      refine va_get (D := D) (cl := classes) (ci := 2) (C := R_MO) (T := F_MO) (N := 7) hx hb hT in_MO hown hK hP 0 rfl rfl 2 (by decide) (hT _ tw_332) (fun _ h9 => h9) rfl dd_MO_first_6 ?_
      refine tq_ige (tgt := 32) hx hb (by omega) (by omega) dd_MO_first_9 (by decide) (fun hc => ?_) (fun hc => ?_)
      · omega
      · refine lv_aload_n hx hb dd_MO_first_12 rfl (lv_at hl 1 rfl) ?_
        refine lv_iload hx hb dd_MO_first_13 (lv_at hl 0 rfl) ?_
        refine lv_lload_n hx hb dd_MO_first_15 rfl (lv_at hl 2 rfl) ?_
        refine lv_lload_n hx hb dd_MO_first_16 rfl (lv_at hl 3 rfl) ?_
        refine RdI.callV (c_MO_meet l D cI cL h len n cl be th ca wa k c0 w hlen (by omega)) vs_MO_35 ⟨hx, hb, hml, hown, hT⟩ hK hP 0 rfl rfl ⟨rfl, rfl⟩ (by decide) rfl hl.1 rfl (Nat.le_of_ble_eq_true rfl) dd_MO_first_17 ⟨Nat.zero_le _, Nat.zero_le _⟩ (fun r hr => ?_)
        subst hr
        refine lv_if_eq (tgt := 26) hx hb dd_MO_first_20 (by decide) (fun hc => ?_) (fun hc => ?_)
        · have hcf : msh len ca wa c0 w k = false := by cases hb2 : msh len ca wa c0 w k <;> simp_all [b2i]
          refine lv_iinc (k := 0) hx hb dd_MO_first_26 hl rfl (tq_inc k) (by decide) rfl (fun ls hl => ?_)
          have hl : lv_has ls 6 [(5, .int (nI (k + 1))), (0, .ref (h 0)), (1, .long c0), (3, .long w)] := hl
          refine lv_goto (tgt := 3) hx hb dd_MO_first_29 (by decide) ?_
          exact ih (k + 1) ls (by omega) (by rw [hf]; simp [ffr, hcf]) hl
        · have hcf : msh len ca wa c0 w k = true := by cases hb2 : msh len ca wa c0 w k <;> simp_all [b2i]
          refine lv_iload hx hb dd_MO_first_23 (lv_at hl 0 rfl) ?_
          exact ret 25 ls _ (by rw [hf]; simp [ffr, hcf]) rfl dd_MO_first_25
  exact loop n 0 ls (by omega) rfl hl
set_option maxRecDepth 20000 in
theorem c_MO_none (l : Launch) (D : va_G) (cI cL : ClassId) (h : Nat → Nat) (len n : Nat) (cl be th : Int32) (ca wa : Nat → Int64) (c0 w : Int64) (hlen : len ≤ 64) (hn : n ≤ 512) : RdL l yy_MO_none bb_MO_none 8 (some .long) (rmK 2) D cI cL [.ref (h 0), .long c0, .long w] (wM cL h len n cl be th ca wa) (fun r => r = mnone len n ca wa c0 w) := by
  refine RdL.mk (by decide) (Nat.le_of_ble_eq_true rfl) ?_
  intro p e s m below meth c Q hx hb hml hown hT hK hP ret ls hl
  have hown : s.vm.findClass "PatternTreeModel" = some m.cls := hown
  have hl : lv_has ls 8 [(0, .ref (h 0)), (1, .long c0), (3, .long w)] := hl
  refine lv_aload_n hx hb dd_MO_none_0 rfl (lv_at hl 0 rfl) ?_
  refine va_get (D := D) (cl := classes) (ci := 2) (C := R_MO) (T := F_MO) (N := 7) hx hb hT in_MO hown hK hP 0 rfl rfl 3 (by decide) (hT _ tw_333) (fun _ h9 => h9) rfl dd_MO_none_1 ?_
  refine lv_lload_n hx hb dd_MO_none_4 rfl (lv_at hl 1 rfl) ?_
  refine lv_aload_n hx hb dd_MO_none_5 rfl (lv_at hl 0 rfl) ?_
  refine RdL.callV (c_MO_mask l D cI cL h len n cl be th ca wa hlen) vs_MO_28 ⟨hx, hb, hml, hown, hT⟩ hK hP 0 rfl rfl ⟨rfl, rfl⟩ (by decide) rfl hl.1 rfl (Nat.le_of_ble_eq_true rfl) dd_MO_none_6 ⟨Nat.zero_le _, Nat.zero_le _⟩ (fun r hr => ?_)
  subst hr
  refine lv_land hx hb dd_MO_none_9 ?_
  refine RdI.callS (c_MO_bits l D cI cL (wM cL h len n cl be th ca wa) (c0 &&& mk len)) ss_MO_61 ⟨hx, hb, hml, hown, hT⟩ hK hP ⟨rfl, rfl⟩ (by decide) rfl hl.1 rfl (Nat.le_of_ble_eq_true rfl) dd_MO_none_10 ⟨Nat.zero_le _, Nat.zero_le _⟩ (fun r hr => ?_)
  subst hr
  refine lv_isub hx hb dd_MO_none_13 ?_
  refine RdL.callS (c_MO_power l D cI cL (wM cL h len n cl be th ca wa) (nI len - nI (pcnt (c0 &&& mk len)))) ss_MO_65 ⟨hx, hb, hml, hown, hT⟩ hK hP ⟨rfl, rfl⟩ (by decide) rfl hl.1 rfl (Nat.le_of_ble_eq_true rfl) dd_MO_none_14 ⟨Nat.zero_le _, Nat.zero_le _⟩ (fun r hr => ?_)
  subst hr
  refine lv_topl (fun v17 e17 => ?_)
  obtain rfl : v17 = psz len (c0 &&& mk len) := e17
  refine lv_lstore hx hb dd_MO_none_17 hl (by decide) rfl (fun ls hl => ?_)
  have hl : lv_has ls 8 [(5, .long (psz len (c0 &&& mk len))), (0, .ref (h 0)), (1, .long c0), (3, .long w)] := hl
  refine lv_iconst (v := 0) hx hb dd_MO_none_19 (by decide) ?_
  refine lv_topi (fun v20 e20 => ?_)
  obtain rfl : v20 = nI 0 := e20
  refine lv_istore hx hb dd_MO_none_20 hl (by decide) rfl (fun ls hl => ?_)
  have hl : lv_has ls 8 [(7, .int (nI 0)), (5, .long (psz len (c0 &&& mk len))), (0, .ref (h 0)), (1, .long c0), (3, .long w)] := hl
  have loop : ∀ (j k : Nat) (a : Int64) (ls : Array Slot), k + j = n → mnone len n ca wa c0 w = por (msh len ca wa c0 w) (fun k => psz len ((c0 ||| ca k) &&& mk len)) k j a → lv_has ls 8 [(7, .int (nI k)), (5, .long a), (0, .ref (h 0)), (1, .long c0), (3, .long w)] → W p l e (rmK 2) s m ([.ref (h 0), .long c0, .long w] : List Value).toArray below meth c s.heap [] 0 0 Q (F0 m 22 ls []) := by
    intro j
    induction j with
    | zero =>
      intro k a ls hk hf hl
      refine lv_iload hx hb dd_MO_none_22 (lv_at hl 0 rfl) ?_
      refine lv_aload_n hx hb dd_MO_none_24 rfl (lv_at hl 2 rfl) ?_
      refine va_get (D := D) (cl := classes) (ci := 2) (C := R_MO) (T := F_MO) (N := 7) hx hb hT in_MO hown hK hP 0 rfl rfl 2 (by decide) (hT _ tw_332) (fun _ h9 => h9) rfl dd_MO_none_25 ?_
      refine tq_ige (tgt := 78) hx hb (by omega) (by omega) dd_MO_none_28 (by decide) (fun hc => ?_) (fun hc => ?_)
      · refine lv_lload hx hb dd_MO_none_78 (lv_at hl 1 rfl) ?_
        exact ret 80 ls _ hf.symm dd_MO_none_80
      · omega
    | succ j ih =>
      intro k a ls hk hf hl
      refine lv_iload hx hb dd_MO_none_22 (lv_at hl 0 rfl) ?_
      refine lv_aload_n hx hb dd_MO_none_24 rfl (lv_at hl 2 rfl) ?_
      refine va_get (D := D) (cl := classes) (ci := 2) (C := R_MO) (T := F_MO) (N := 7) hx hb hT in_MO hown hK hP 0 rfl rfl 2 (by decide) (hT _ tw_332) (fun _ h9 => h9) rfl dd_MO_none_25 ?_
      refine tq_ige (tgt := 78) hx hb (by omega) (by omega) dd_MO_none_28 (by decide) (fun hc => ?_) (fun hc => ?_)
      · omega
      · refine lv_aload_n hx hb dd_MO_none_31 rfl (lv_at hl 2 rfl) ?_
        refine lv_iload hx hb dd_MO_none_32 (lv_at hl 0 rfl) ?_
        refine lv_lload_n hx hb dd_MO_none_34 rfl (lv_at hl 3 rfl) ?_
        refine lv_lload_n hx hb dd_MO_none_35 rfl (lv_at hl 4 rfl) ?_
        refine RdI.callV (c_MO_meet l D cI cL h len n cl be th ca wa k c0 w hlen (by omega)) vs_MO_35 ⟨hx, hb, hml, hown, hT⟩ hK hP 0 rfl rfl ⟨rfl, rfl⟩ (by decide) rfl hl.1 rfl (Nat.le_of_ble_eq_true rfl) dd_MO_none_36 ⟨Nat.zero_le _, Nat.zero_le _⟩ (fun r hr => ?_)
        subst hr
        refine lv_if_eq (tgt := 72) hx hb dd_MO_none_39 (by decide) (fun hc => ?_) (fun hc => ?_)
        · have hcf : msh len ca wa c0 w k = false := by cases hb2 : msh len ca wa c0 w k <;> simp_all [b2i]
          refine lv_iinc (k := 0) hx hb dd_MO_none_72 hl rfl (tq_inc k) (by decide) rfl (fun ls hl => ?_)
          have hl : lv_has ls 8 [(7, .int (nI (k + 1))), (5, .long a), (0, .ref (h 0)), (1, .long c0), (3, .long w)] := hl
          refine lv_goto (tgt := 22) hx hb dd_MO_none_75 (by decide) ?_
          exact ih (k + 1) a ls (by omega) (by rw [hf]; simp [por, hcf]) hl
        · have hcf : msh len ca wa c0 w k = true := by cases hb2 : msh len ca wa c0 w k <;> simp_all [b2i]
          refine lv_lload hx hb dd_MO_none_42 (lv_at hl 1 rfl) ?_
          refine lv_aload_n hx hb dd_MO_none_44 rfl (lv_at hl 2 rfl) ?_
          refine va_get (D := D) (cl := classes) (ci := 2) (C := R_MO) (T := F_MO) (N := 7) hx hb hT in_MO hown hK hP 0 rfl rfl 3 (by decide) (hT _ tw_333) (fun _ h9 => h9) rfl dd_MO_none_45 ?_
          refine lv_lload_n hx hb dd_MO_none_48 rfl (lv_at hl 3 rfl) ?_
          refine lv_aload_n hx hb dd_MO_none_49 rfl (lv_at hl 2 rfl) ?_
          refine va_get (D := D) (cl := classes) (ci := 2) (C := R_MO) (T := F_MO) (N := 7) hx hb hT in_MO hown hK hP 0 rfl rfl 0 (by decide) (hT _ tw_330) (fun _ h9 => h9) rfl dd_MO_none_50 ?_
          refine lv_iload hx hb dd_MO_none_53 (lv_at hl 0 rfl) ?_
          refine tq_lald (k := k) hx hb hK hP 1 rfl (by omega) (by decide) dd_MO_none_55 ?_
          refine lv_lor hx hb dd_MO_none_56 ?_
          refine lv_aload_n hx hb dd_MO_none_57 rfl (lv_at hl 2 rfl) ?_
          refine RdL.callV (c_MO_mask l D cI cL h len n cl be th ca wa hlen) vs_MO_28 ⟨hx, hb, hml, hown, hT⟩ hK hP 0 rfl rfl ⟨rfl, rfl⟩ (by decide) rfl hl.1 rfl (Nat.le_of_ble_eq_true rfl) dd_MO_none_58 ⟨Nat.zero_le _, Nat.zero_le _⟩ (fun r hr => ?_)
          subst hr
          refine lv_land hx hb dd_MO_none_61 ?_
          refine RdI.callS (c_MO_bits l D cI cL (wM cL h len n cl be th ca wa) ((c0 ||| ca k) &&& mk len)) ss_MO_61 ⟨hx, hb, hml, hown, hT⟩ hK hP ⟨rfl, rfl⟩ (by decide) rfl hl.1 rfl (Nat.le_of_ble_eq_true rfl) dd_MO_none_62 ⟨Nat.zero_le _, Nat.zero_le _⟩ (fun r hr => ?_)
          subst hr
          refine lv_isub hx hb dd_MO_none_65 ?_
          refine RdL.callS (c_MO_power l D cI cL (wM cL h len n cl be th ca wa) (nI len - nI (pcnt ((c0 ||| ca k) &&& mk len)))) ss_MO_65 ⟨hx, hb, hml, hown, hT⟩ hK hP ⟨rfl, rfl⟩ (by decide) rfl hl.1 rfl (Nat.le_of_ble_eq_true rfl) dd_MO_none_66 ⟨Nat.zero_le _, Nat.zero_le _⟩ (fun r hr => ?_)
          subst hr
          refine lv_lsub hx hb dd_MO_none_69 ?_
          refine lv_topl (fun v70 e70 => ?_)
          obtain rfl : v70 = a - psz len ((c0 ||| ca k) &&& mk len) := e70
          refine lv_lstore hx hb dd_MO_none_70 hl (by decide) rfl (fun ls hl => ?_)
          have hl : lv_has ls 8 [(5, .long (a - psz len ((c0 ||| ca k) &&& mk len))), (7, .int (nI k)), (0, .ref (h 0)), (1, .long c0), (3, .long w)] := hl
          refine lv_iinc (k := 1) hx hb dd_MO_none_72 hl rfl (tq_inc k) (by decide) rfl (fun ls hl => ?_)
          have hl : lv_has ls 8 [(7, .int (nI (k + 1))), (5, .long (a - psz len ((c0 ||| ca k) &&& mk len))), (0, .ref (h 0)), (1, .long c0), (3, .long w)] := hl
          refine lv_goto (tgt := 22) hx hb dd_MO_none_75 (by decide) ?_
          exact ih (k + 1) _ ls (by omega) (by rw [hf]; simp [por, hcf]) (lv_sub hl [0, 1, 2, 3, 4] rfl)
  exact loop n 0 _ ls (by omega) rfl hl
set_option maxRecDepth 20000 in
theorem c_MO_some (l : Launch) (D : va_G) (cI cL : ClassId) (h : Nat → Nat) (len n : Nat) (cl be th : Int32) (ca wa : Nat → Int64) (c0 w : Int64) (hlen : len ≤ 64) (hn : n ≤ 512) : RdI l yy_MO_some bb_MO_some 5 (some .boolean) (rmK 3) D cI cL [.ref (h 0), .long c0, .long w] (wM cL h len n cl be th ca wa) (fun r => r = b2i (msome len n ca wa c0 w)) := by
  refine RdI.mk (by decide) (Nat.le_of_ble_eq_true rfl) ?_
  intro p e s m below meth c Q hx hb hml hown hT hK hP ret ls hl
  have hown : s.vm.findClass "PatternTreeModel" = some m.cls := hown
  have hl : lv_has ls 5 [(0, .ref (h 0)), (1, .long c0), (3, .long w)] := hl
  refine lv_aload_n hx hb dd_MO_some_0 rfl (lv_at hl 0 rfl) ?_
  refine lv_lload_n hx hb dd_MO_some_1 rfl (lv_at hl 1 rfl) ?_
  refine lv_lload_n hx hb dd_MO_some_2 rfl (lv_at hl 2 rfl) ?_
  refine RdL.callV (c_MO_none l D cI cL h len n cl be th ca wa c0 w hlen hn) vs_MO_69 ⟨hx, hb, hml, hown, hT⟩ hK hP 0 rfl rfl ⟨rfl, rfl⟩ (by decide) rfl hl.1 rfl (Nat.le_of_ble_eq_true rfl) dd_MO_some_3 ⟨Nat.zero_le _, Nat.zero_le _⟩ (fun r hr => ?_)
  subst hr
  refine lv_lconst (v := 0) hx hb dd_MO_some_6 (by decide) ?_
  refine tq_lne (tgt := 39) hx hb dd_MO_some_7 dd_MO_some_8 (by decide) (fun hc => ?_) (fun hc => ?_)
  · refine lv_iconst (v := 1) hx hb dd_MO_some_39 (by decide) ?_
    refine lv_goto (tgt := 44) hx hb dd_MO_some_40 (by decide) ?_
    exact ret 44 ls 1 (by unfold msome; rw [decide_eq_false hc]; rfl) rfl dd_MO_some_44
  · refine lv_lload_n hx hb dd_MO_some_11 rfl (lv_at hl 1 rfl) ?_
    refine lv_aload_n hx hb dd_MO_some_12 rfl (lv_at hl 0 rfl) ?_
    refine RdL.callV (c_MO_mask l D cI cL h len n cl be th ca wa hlen) vs_MO_28 ⟨hx, hb, hml, hown, hT⟩ hK hP 0 rfl rfl ⟨rfl, rfl⟩ (by decide) rfl hl.1 rfl (Nat.le_of_ble_eq_true rfl) dd_MO_some_13 ⟨Nat.zero_le _, Nat.zero_le _⟩ (fun r hr => ?_)
    subst hr
    refine lv_land hx hb dd_MO_some_16 ?_
    refine RdI.callS (c_MO_bits l D cI cL (wM cL h len n cl be th ca wa) (c0 &&& mk len)) ss_MO_61 ⟨hx, hb, hml, hown, hT⟩ hK hP ⟨rfl, rfl⟩ (by decide) rfl hl.1 rfl (Nat.le_of_ble_eq_true rfl) dd_MO_some_17 ⟨Nat.zero_le _, Nat.zero_le _⟩ (fun r hr => ?_)
    subst hr
    have hp6 := pcnt_le (c0 &&& mk len)
    refine lv_if_ne (tgt := 43) hx hb dd_MO_some_20 (by decide) (fun hc2 => ?_) (fun hc2 => ?_)
    · have hp0 : pcnt (c0 &&& mk len) ≠ 0 := fun h6 => hc2 (by rw [h6]; rfl)
      refine lv_iconst (v := 0) hx hb dd_MO_some_43 (by decide) ?_
      exact ret 44 ls 0 (by unfold msome; rw [decide_eq_true hc, decide_eq_false hp0]; rfl) rfl dd_MO_some_44
    · have hp0 : pcnt (c0 &&& mk len) = 0 := (nI_eq (b := 0) (by omega) (by omega)).mp hc2
      refine lv_aload_n hx hb dd_MO_some_23 rfl (lv_at hl 0 rfl) ?_
      refine va_get (D := D) (cl := classes) (ci := 2) (C := R_MO) (T := F_MO) (N := 7) hx hb hT in_MO hown hK hP 0 rfl rfl 3 (by decide) (hT _ tw_333) (fun _ h9 => h9) rfl dd_MO_some_24 ?_
      refine lv_bipush (v := 64) hx hb dd_MO_some_27 (by decide) ?_
      refine lv_icmp_ne (tgt := 43) hx hb dd_MO_some_29 (by decide) (fun hc3 => ?_) (fun hc3 => ?_)
      · have h64 : len ≠ 64 := fun h6 => hc3 (by rw [h6]; rfl)
        refine lv_iconst (v := 0) hx hb dd_MO_some_43 (by decide) ?_
        exact ret 44 ls 0 (by unfold msome; rw [decide_eq_true hc, decide_eq_true hp0, decide_eq_false h64]; rfl) rfl dd_MO_some_44
      · have h64 : len = 64 := (nI_eq (b := 64) (by omega) (by omega)).mp hc3
        refine lv_aload_n hx hb dd_MO_some_32 rfl (lv_at hl 0 rfl) ?_
        refine va_get (D := D) (cl := classes) (ci := 2) (C := R_MO) (T := F_MO) (N := 7) hx hb hT in_MO hown hK hP 0 rfl rfl 2 (by decide) (hT _ tw_332) (fun _ h9 => h9) rfl dd_MO_some_33 ?_
        refine lv_if_ne (tgt := 43) hx hb dd_MO_some_36 (by decide) (fun hc4 => ?_) (fun hc4 => ?_)
        · have h0 : n ≠ 0 := fun h6 => hc4 (by rw [h6]; rfl)
          refine lv_iconst (v := 0) hx hb dd_MO_some_43 (by decide) ?_
          exact ret 44 ls 0 (by unfold msome; rw [decide_eq_true hc, decide_eq_true hp0, decide_eq_true h64, decide_eq_false h0]; rfl) rfl dd_MO_some_44
        · have h0 : n = 0 := (nI_eq (b := 0) (by omega) (by omega)).mp hc4
          refine lv_iconst (v := 1) hx hb dd_MO_some_39 (by decide) ?_
          refine lv_goto (tgt := 44) hx hb dd_MO_some_40 (by decide) ?_
          exact ret 44 ls 1 (by unfold msome; rw [decide_eq_true hc, decide_eq_true hp0, decide_eq_true h64, decide_eq_true h0]; rfl) rfl dd_MO_some_44
end
section
abbrev MS : Type := Nat × Nat × Int32 × Int32 × Int32 × (Nat → Int64) × (Nat → Int64)
abbrev wMs (cL : ClassId) (h : Nat → Nat) (u : MS) : va_W := wM cL h u.1 u.2.1 u.2.2.1 u.2.2.2.1 u.2.2.2.2.1 u.2.2.2.2.2.1 u.2.2.2.2.2.2
abbrev SR : Type := Int32 × Int32 × Nat × (Nat → Int64) × (Nat → Int64) × Int32
/-- put: code, answer, many, care, want, clash -/
def sPut (n : Nat) (ca wa : Nat → Int64) (cl k : Int32) (c w : Int64) : SR :=
  if n = 512 then (2, 0, n, ca, wa, -1) else if 0 ≤ k then (2, 0, n, ca, wa, k) else (0, nI n, n + 1, vp_updL ca n c, vp_updL wa n w, cl)
def mAdd (len n : Nat) (ca wa : Nat → Int64) (cl : Int32) (c w : Int64) : SR :=
  if isP len c w then sPut n ca wa cl (ff (msh len ca wa c w) n) (c &&& mk len) (w &&& mk len) else (1, 0, n, ca, wa, cl)
def sgs (i : Nat) (t : Int64 × Int64 × Int64) : Int64 × Int64 × Int64 :=
  (if t.2.2 - t.2.2 / 3 * 3 < 2 then t.1 ||| sh1 i else t.1, if t.2.2 - t.2.2 / 3 * 3 = 1 then t.2.1 ||| sh1 i else t.2.1, t.2.2 / 3)
def sgn (d : Int64) : Nat → Int64 × Int64 × Int64
  | 0 => (0, 0, d)
  | i + 1 => sgs i (sgn d i)
def mSigns (len n : Nat) (ca wa : Nat → Int64) (cl : Int32) (d : Int64) : SR :=
  if d < 0 then (1, 0, n, ca, wa, cl) else mAdd len n ca wa cl (sgn d (min 40 len)).1 (sgn d (min 40 len)).2.1
def shf (f : Nat → Int64) (i m : Nat) : Nat → Int64 := fun k => if i ≤ k ∧ k < m then f (k + 1) else f k
theorem shf_0 (f : Nat → Int64) (i : Nat) : shf f i i = f := by funext k; unfold shf; rw [if_neg (by omega)]
theorem shf_s (f : Nat → Int64) {i k : Nat} (h : i ≤ k) : vp_updL (shf f i k) k (shf f i k (k + 1)) = shf f i (k + 1) := by
  funext j
  unfold vp_updL shf
  by_cases hj : j = k
  · subst hj; rw [if_pos rfl, if_neg (by omega), if_pos (by omega)]
  · rw [if_neg hj]
    by_cases h2 : i ≤ j ∧ j < k
    · rw [if_pos h2, if_pos (by omega)]
    · rw [if_neg h2, if_neg (by omega)]
def sDrop (n : Nat) (ca wa : Nat → Int64) (i : Int32) : Int32 × Nat × (Nat → Int64) × (Nat → Int64) :=
  if 0 ≤ i ∧ i < nI n then (0, n - 1, shf ca i.toNatClampNeg (n - 1), shf wa i.toNatClampNeg (n - 1)) else (1, n, ca, wa)
def sTold (len n : Nat) (ca wa : Nat → Int64) (i what : Int32) : Int32 × Int64 :=
  if 0 ≤ what ∧ what ≤ 2 then (if 0 ≤ i ∧ i < nI n then (0, if what = 0 then ca i.toNatClampNeg else if what = 1 then wa i.toNatClampNeg else (nI len - nI (pcnt (ca i.toNatClampNeg))).toInt64) else (2, 0)) else (1, 0)
def sCount (len n : Nat) (cl be what : Int32) : Int32 := if what = 0 then nI n else if what = 1 then nI len else if what = 2 then cl else if what = 3 then be else -1
def mClear (len n : Nat) (cl be : Int32) (ca wa : Nat → Int64) (x : Int32) : MS := if 1 ≤ x ∧ x ≤ 64 then (x.toNatClampNeg, 0, cl, be, 0, ca, wa) else (len, n, cl, be, 1, ca, wa)
theorem ix_of {i : Int32} {n : Nat} (hn : n < 2 ^ 31) (h0 : ¬ i < 0) (h1 : i < nI n) : ∃ k, k < n ∧ i = nI k := by
  obtain ⟨k, hk, rfl⟩ := nI_of h0
  exact ⟨k, (nI_ltI hk hn).mp h1, rfl⟩
set_option maxRecDepth 20000 in
theorem c_MO_fail (l : Launch) (D : va_G) (cI cL : ClassId) (h : Nat → Nat) (len n : Nat) (cl be th : Int32) (ca wa : Nat → Int64) (k : Int32) : MT (S := MS) l yy_MO_fail bb_MO_fail 2 (some .int) [] (rmK 0) D cI cL [.ref (h 0), .int k] (wM cL h len n cl be th ca wa) (fun u => wMs cL h u) (pI (fun r u => r = 0 ∧ u = (len, n, cl, be, k, ca, wa))) (nx) := by
  refine MT.mkI (by decide) (Nat.le_of_ble_eq_true rfl) ?_
  intro p e s m below meth c A Q B ret lv ls hl
  obtain ⟨hx, hb, hml, hown, hT, hK, hX, hSK, hA, hP, hD, hS, htab, hcode, hpl⟩ := B
  have hown : s.vm.findClass "PatternTreeModel" = some m.cls := hown
  have hl : lv_has ls 2 [(0, .ref (h 0)), (1, .int k)] := hl
  refine lv_aload_n hx hb dd_MO_fail_0 rfl (lv_at hl 0 rfl) ?_
  refine lv_iload_n hx hb dd_MO_fail_1 rfl (lv_at hl 1 rfl) ?_
  refine va_put (D := D) (cl := classes) (ci := 2) (ty := .int) (C := R_MO) (T := F_MO) (N := 7) hx hb hT in_MO t_MO t_MO_ok n_MO hown hK hP hD hS 0 rfl rfl 6 (by decide) (hT _ tw_336) (fun _ h9 => h9) rfl (by decide +kernel) rfl rfl (Nat.le_of_ble_eq_true rfl) dd_MO_fail_2 (fun H locs hP hD hS => ?_)
  have hP : va_P D classes (wM cL h len n cl be k ca wa) H := hP
  have hD : va_D A (wM cL h len n cl be k ca wa) := hD
  refine lv_iconst (v := 0) hx hb dd_MO_fail_5 (by decide) ?_
  exact ret 0 (len, n, cl, be, k, ca, wa) H locs 0 0 6 ls ⟨rfl, rfl⟩ hP hD hS (Nat.zero_le _) (Nat.zero_le _) rfl dd_MO_fail_6
set_option maxRecDepth 20000 in
theorem c_MO_clear (l : Launch) (D : va_G) (cI cL : ClassId) (h : Nat → Nat) (len n : Nat) (cl be th : Int32) (ca wa : Nat → Int64) (x : Int32) : MT (S := MS) l yy_MO_clear bb_MO_clear 2 none [] (rmK 1) D cI cL [.ref (h 0), .int x] (wM cL h len n cl be th ca wa) (fun u => wMs cL h u) (pV (fun u => u = mClear len n cl be ca wa x)) (nx) := by
  refine MT.mkV (by decide) (Nat.le_of_ble_eq_true rfl) ?_
  intro p e s m below meth c A Q B ret lv ls hl
  obtain ⟨hx, hb, hml, hown, hT, hK, hX, hSK, hA, hP, hD, hS, htab, hcode, hpl⟩ := B
  have hown : s.vm.findClass "PatternTreeModel" = some m.cls := hown
  have hl : lv_has ls 2 [(0, .ref (h 0)), (1, .int x)] := hl
  refine lv_aload_n hx hb dd_MO_clear_0 rfl (lv_at hl 0 rfl) ?_
  refine lv_iconst (v := 0) hx hb dd_MO_clear_1 (by decide) ?_
  refine va_put (D := D) (cl := classes) (ci := 2) (ty := .int) (C := R_MO) (T := F_MO) (N := 7) hx hb hT in_MO t_MO t_MO_ok n_MO hown hK hP hD hS 0 rfl rfl 6 (by decide) (hT _ tw_336) (fun _ h9 => h9) rfl (by decide +kernel) rfl rfl (Nat.le_of_ble_eq_true rfl) dd_MO_clear_2 (fun H locs hP hD hS => ?_)
  have hP : va_P D classes (wM cL h len n cl be 0 ca wa) H := hP
  have hD : va_D A (wM cL h len n cl be 0 ca wa) := hD
  refine lv_iload_n hx hb dd_MO_clear_5 rfl (lv_at hl 1 rfl) ?_
  refine lv_iconst (v := 1) hx hb dd_MO_clear_6 (by decide) ?_
  refine lv_icmp_lt (tgt := 16) hx hb dd_MO_clear_7 (by decide) (fun hc => ?_) (fun hc => ?_)
  · refine lv_aload_n hx hb dd_MO_clear_16 rfl (lv_at hl 0 rfl) ?_
    refine lv_iconst (v := 1) hx hb dd_MO_clear_17 (by decide) ?_
    refine MT.callV (c_MO_fail l D cI cL h len n cl be 0 ca wa 1) vs_MO_39 ⟨hx, hb, hml, hown, hT⟩ ⟨hK, hX, hSK _ _ hS, hP, hD, hS, hA⟩ (tq_J.same _) 0 rfl rfl (by decide) rfl hl.1 rfl (Nat.le_of_ble_eq_true rfl) dd_MO_clear_18 ⟨by decide, by decide⟩ (fun v u H locs hp hP hD hS => ?_) (fun x C u H locs hp hxf hP hD hS => hp.elim)
    obtain ⟨r1, rfl, hr1, rfl⟩ := hp
    subst hr1
    refine lv_pop hx hb dd_MO_clear_21 rfl ?_
    refine lv_goto (tgt := 35) hx hb dd_MO_clear_22 (by decide) ?_
    exact ret (len, n, cl, be, 1, ca, wa) H locs 0 0 35 ls (by unfold mClear; rw [if_neg (fun hh => absurd hc (Int32.not_lt.mpr hh.1))]) hP hD hS (Nat.zero_le _) (Nat.zero_le _) dd_MO_clear_35
  · refine lv_iload_n hx hb dd_MO_clear_10 rfl (lv_at hl 1 rfl) ?_
    refine lv_bipush (v := 64) hx hb dd_MO_clear_11 (by decide) ?_
    refine lv_icmp_le (tgt := 25) hx hb dd_MO_clear_13 (by decide) (fun hc2 => ?_) (fun hc2 => ?_)
    · obtain ⟨j, hj, rfl⟩ : ∃ j, j ≤ 64 ∧ x = nI j := nI_of2 (M := 64) (by decide) (fun h0 => hc (Int32.lt_trans h0 (by decide))) hc2
      refine lv_aload_n hx hb dd_MO_clear_25 rfl (lv_at hl 0 rfl) ?_
      refine lv_iconst (v := 0) hx hb dd_MO_clear_26 (by decide) ?_
      refine va_put (D := D) (cl := classes) (ci := 2) (ty := .int) (C := R_MO) (T := F_MO) (N := 7) hx hb hT in_MO t_MO t_MO_ok n_MO hown hK hP hD hS 0 rfl rfl 2 (by decide) (hT _ tw_332) (fun _ h9 => h9) rfl (by decide +kernel) rfl rfl (Nat.le_of_ble_eq_true rfl) dd_MO_clear_27 (fun H locs hP hD hS => ?_)
      have hP : va_P D classes (wM cL h len 0 cl be 0 ca wa) H := hP
      have hD : va_D A (wM cL h len 0 cl be 0 ca wa) := hD
      refine lv_aload_n hx hb dd_MO_clear_30 rfl (lv_at hl 0 rfl) ?_
      refine lv_iload_n hx hb dd_MO_clear_31 rfl (lv_at hl 1 rfl) ?_
      refine va_put (D := D) (cl := classes) (ci := 2) (ty := .int) (C := R_MO) (T := F_MO) (N := 7) hx hb hT in_MO t_MO t_MO_ok n_MO hown hK hP hD hS 0 rfl rfl 3 (by decide) (hT _ tw_333) (fun _ h9 => h9) rfl (by decide +kernel) rfl rfl (Nat.le_of_ble_eq_true rfl) dd_MO_clear_32 (fun H locs hP hD hS => ?_)
      have hP : va_P D classes (wM cL h j 0 cl be 0 ca wa) H := hP
      have hD : va_D A (wM cL h j 0 cl be 0 ca wa) := hD
      exact ret (j, 0, cl, be, 0, ca, wa) H locs 0 0 35 ls (by unfold mClear; rw [if_pos ⟨Int32.not_lt.mp hc, hc2⟩, nI_clamp (by omega)]) hP hD hS (Nat.zero_le _) (Nat.zero_le _) dd_MO_clear_35
    · refine lv_aload_n hx hb dd_MO_clear_16 rfl (lv_at hl 0 rfl) ?_
      refine lv_iconst (v := 1) hx hb dd_MO_clear_17 (by decide) ?_
      refine MT.callV (c_MO_fail l D cI cL h len n cl be 0 ca wa 1) vs_MO_39 ⟨hx, hb, hml, hown, hT⟩ ⟨hK, hX, hSK _ _ hS, hP, hD, hS, hA⟩ (tq_J.same _) 0 rfl rfl (by decide) rfl hl.1 rfl (Nat.le_of_ble_eq_true rfl) dd_MO_clear_18 ⟨by decide, by decide⟩ (fun v u H locs hp hP hD hS => ?_) (fun x C u H locs hp hxf hP hD hS => hp.elim)
      obtain ⟨r1, rfl, hr1, rfl⟩ := hp
      subst hr1
      refine lv_pop hx hb dd_MO_clear_21 rfl ?_
      refine lv_goto (tgt := 35) hx hb dd_MO_clear_22 (by decide) ?_
      exact ret (len, n, cl, be, 1, ca, wa) H locs 0 0 35 ls (by unfold mClear; rw [if_neg (fun hh => hc2 hh.2)]) hP hD hS (Nat.zero_le _) (Nat.zero_le _) dd_MO_clear_35
set_option maxRecDepth 20000 in
theorem c_MO_add (l : Launch) (D : va_G) (cI cL : ClassId) (h : Nat → Nat) (len n : Nat) (cl be th : Int32) (ca wa : Nat → Int64) (c0 w : Int64) (hlen : len ≤ 64) (hn : n ≤ 512) : MT (S := MS) l yy_MO_add bb_MO_add 6 (some .int) [] (rmK 3) D cI cL [.ref (h 0), .long c0, .long w] (wM cL h len n cl be th ca wa) (fun u => wMs cL h u) (pI (fun r u => r = (mAdd len n ca wa cl c0 w).2.1 ∧ u = (len, (mAdd len n ca wa cl c0 w).2.2.1, (mAdd len n ca wa cl c0 w).2.2.2.2.2, be, (mAdd len n ca wa cl c0 w).1, (mAdd len n ca wa cl c0 w).2.2.2.1, (mAdd len n ca wa cl c0 w).2.2.2.2.1))) (nx) := by
  refine MT.mkI (by decide) (Nat.le_of_ble_eq_true rfl) ?_
  intro p e s m below meth c A Q B ret lv ls hl
  obtain ⟨hx, hb, hml, hown, hT, hK, hX, hSK, hA, hP, hD, hS, htab, hcode, hpl⟩ := B
  have hown : s.vm.findClass "PatternTreeModel" = some m.cls := hown
  have hl : lv_has ls 6 [(0, .ref (h 0)), (1, .long c0), (3, .long w)] := hl
  refine lv_aload_n hx hb dd_MO_add_0 rfl (lv_at hl 0 rfl) ?_
  refine lv_iconst (v := 0) hx hb dd_MO_add_1 (by decide) ?_
  refine va_put (D := D) (cl := classes) (ci := 2) (ty := .int) (C := R_MO) (T := F_MO) (N := 7) hx hb hT in_MO t_MO t_MO_ok n_MO hown hK hP hD hS 0 rfl rfl 6 (by decide) (hT _ tw_336) (fun _ h9 => h9) rfl (by decide +kernel) rfl rfl (Nat.le_of_ble_eq_true rfl) dd_MO_add_2 (fun H locs hP hD hS => ?_)
  have hP : va_P D classes (wM cL h len n cl be 0 ca wa) H := hP
  have hD : va_D A (wM cL h len n cl be 0 ca wa) := hD
  refine lv_aload_n hx hb dd_MO_add_5 rfl (lv_at hl 0 rfl) ?_
  refine lv_lload_n hx hb dd_MO_add_6 rfl (lv_at hl 1 rfl) ?_
  refine lv_lload_n hx hb dd_MO_add_7 rfl (lv_at hl 2 rfl) ?_
  refine RdI.callV (c_MO_wrong l D cI cL h len n cl be 0 ca wa c0 w hlen) vs_MO_43 ⟨hx, hb, hml, hown, hT⟩ hK hP 0 rfl rfl ⟨rfl, rfl⟩ (by decide) rfl hl.1 rfl (Nat.le_of_ble_eq_true rfl) dd_MO_add_8 ⟨Nat.zero_le _, Nat.zero_le _⟩ (fun r hr => ?_)
  subst hr
  refine lv_if_eq (tgt := 20) hx hb dd_MO_add_11 (by decide) (fun hc => ?_) (fun hc => ?_)
  · have hP1 : isP len c0 w = true := by cases hb2 : isP len c0 w <;> simp_all [b2i]
    have eA : (mAdd len n ca wa cl c0 w) = sPut n ca wa cl (ff (msh len ca wa c0 w) n) (c0 &&& mk len) (w &&& mk len) := by unfold mAdd; rw [if_pos hP1]
    refine lv_aload_n hx hb dd_MO_add_20 rfl (lv_at hl 0 rfl) ?_
    refine va_get (D := D) (cl := classes) (ci := 2) (C := R_MO) (T := F_MO) (N := 7) hx hb hT in_MO hown hK hP 0 rfl rfl 2 (by decide) (hT _ tw_332) (fun _ h9 => h9) rfl dd_MO_add_21 ?_
    refine lv_sipush (v := 512) hx hb dd_MO_add_24 (by decide) ?_
    refine lv_icmp_ne (tgt := 34) hx hb dd_MO_add_27 (by decide) (fun hc1 => ?_) (fun hc1 => ?_)
    · have hne : n ≠ 512 := fun h6 => hc1 (by rw [h6]; rfl)
      refine lv_aload_n hx hb dd_MO_add_34 rfl (lv_at hl 0 rfl) ?_
      refine lv_lload_n hx hb dd_MO_add_35 rfl (lv_at hl 1 rfl) ?_
      refine lv_lload_n hx hb dd_MO_add_36 rfl (lv_at hl 2 rfl) ?_
      refine RdI.callV (c_MO_first l D cI cL h len n cl be 0 ca wa c0 w hlen hn) vs_MO_47 ⟨hx, hb, hml, hown, hT⟩ hK hP 0 rfl rfl ⟨rfl, rfl⟩ (by decide) rfl hl.1 rfl (Nat.le_of_ble_eq_true rfl) dd_MO_add_37 ⟨Nat.zero_le _, Nat.zero_le _⟩ (fun r hr => ?_)
      subst hr
      refine lv_topi (fun v40 e40 => ?_)
      obtain rfl : v40 = ff (msh len ca wa c0 w) n := e40
      refine lv_istore hx hb dd_MO_add_40 hl (by decide) rfl (fun ls hl => ?_)
      have hl : lv_has ls 6 [(5, .int (ff (msh len ca wa c0 w) n)), (0, .ref (h 0)), (1, .long c0), (3, .long w)] := hl
      refine lv_aload_n hx hb dd_MO_add_42 rfl (lv_at hl 1 rfl) ?_
      refine va_get (D := D) (cl := classes) (ci := 2) (C := R_MO) (T := F_MO) (N := 7) hx hb hT in_MO hown hK hP 0 rfl rfl 2 (by decide) (hT _ tw_332) (fun _ h9 => h9) rfl dd_MO_add_43 ?_
      refine lv_sipush (v := 512) hx hb dd_MO_add_46 (by decide) ?_
      refine lv_icmp_eq (tgt := 57) hx hb dd_MO_add_49 (by decide) (fun hc2 => ?_) (fun hc2 => ?_)
      · exact absurd hc2 hc1
      · refine lv_iload hx hb dd_MO_add_52 (lv_at hl 0 rfl) ?_
        refine lv_if_lt (tgt := 69) hx hb dd_MO_add_54 (by decide) (fun hc3 => ?_) (fun hc3 => ?_)
        · have eB := eA
          unfold sPut at eB
          rw [if_neg hne, if_neg (Int32.not_le.mpr hc3)] at eB
          refine lv_aload_n hx hb dd_MO_add_69 rfl (lv_at hl 1 rfl) ?_
          refine va_get (D := D) (cl := classes) (ci := 2) (C := R_MO) (T := F_MO) (N := 7) hx hb hT in_MO hown hK hP 0 rfl rfl 0 (by decide) (hT _ tw_330) (fun _ h9 => h9) rfl dd_MO_add_70 ?_
          refine lv_aload_n hx hb dd_MO_add_73 rfl (lv_at hl 1 rfl) ?_
          refine va_get (D := D) (cl := classes) (ci := 2) (C := R_MO) (T := F_MO) (N := 7) hx hb hT in_MO hown hK hP 0 rfl rfl 2 (by decide) (hT _ tw_332) (fun _ h9 => h9) rfl dd_MO_add_74 ?_
          refine lv_lload_n hx hb dd_MO_add_77 rfl (lv_at hl 2 rfl) ?_
          refine lv_aload_n hx hb dd_MO_add_78 rfl (lv_at hl 1 rfl) ?_
          refine RdL.callV (c_MO_mask l D cI cL h len n cl be 0 ca wa hlen) vs_MO_28 ⟨hx, hb, hml, hown, hT⟩ hK hP 0 rfl rfl ⟨rfl, rfl⟩ (by decide) rfl hl.1 rfl (Nat.le_of_ble_eq_true rfl) dd_MO_add_79 ⟨Nat.zero_le _, Nat.zero_le _⟩ (fun r hr => ?_)
          subst hr
          refine lv_land hx hb dd_MO_add_82 ?_
          refine tq_last (k := n) hx hb hK hP hD hS 1 rfl (by omega) (by decide) dd_MO_add_83 (fun H locs hP hD hS => ?_)
          have hP : va_P D classes (wM cL h len n cl be 0 (vp_updL ca n (c0 &&& mk len)) wa) H := hP
          have hD : va_D A (wM cL h len n cl be 0 (vp_updL ca n (c0 &&& mk len)) wa) := hD
          refine lv_aload_n hx hb dd_MO_add_84 rfl (lv_at hl 1 rfl) ?_
          refine va_get (D := D) (cl := classes) (ci := 2) (C := R_MO) (T := F_MO) (N := 7) hx hb hT in_MO hown hK hP 0 rfl rfl 1 (by decide) (hT _ tw_331) (fun _ h9 => h9) rfl dd_MO_add_85 ?_
          refine lv_aload_n hx hb dd_MO_add_88 rfl (lv_at hl 1 rfl) ?_
          refine va_get (D := D) (cl := classes) (ci := 2) (C := R_MO) (T := F_MO) (N := 7) hx hb hT in_MO hown hK hP 0 rfl rfl 2 (by decide) (hT _ tw_332) (fun _ h9 => h9) rfl dd_MO_add_89 ?_
          refine lv_lload_n hx hb dd_MO_add_92 rfl (lv_at hl 3 rfl) ?_
          refine lv_aload_n hx hb dd_MO_add_93 rfl (lv_at hl 1 rfl) ?_
          refine RdL.callV (c_MO_mask l D cI cL h len n cl be 0 (vp_updL ca n (c0 &&& mk len)) wa hlen) vs_MO_28 ⟨hx, hb, hml, hown, hT⟩ hK hP 0 rfl rfl ⟨rfl, rfl⟩ (by decide) rfl hl.1 rfl (Nat.le_of_ble_eq_true rfl) dd_MO_add_94 ⟨Nat.zero_le _, Nat.zero_le _⟩ (fun r hr => ?_)
          subst hr
          refine lv_land hx hb dd_MO_add_97 ?_
          refine tq_last (k := n) hx hb hK hP hD hS 2 rfl (by omega) (by decide) dd_MO_add_98 (fun H locs hP hD hS => ?_)
          have hP : va_P D classes (wM cL h len n cl be 0 (vp_updL ca n (c0 &&& mk len)) (vp_updL wa n (w &&& mk len))) H := hP
          have hD : va_D A (wM cL h len n cl be 0 (vp_updL ca n (c0 &&& mk len)) (vp_updL wa n (w &&& mk len))) := hD
          refine lv_aload_n hx hb dd_MO_add_99 rfl (lv_at hl 1 rfl) ?_
          refine lv_dup hx hb dd_MO_add_100 rfl ?_
          refine va_get (D := D) (cl := classes) (ci := 2) (C := R_MO) (T := F_MO) (N := 7) hx hb hT in_MO hown hK hP 0 rfl rfl 2 (by decide) (hT _ tw_332) (fun _ h9 => h9) rfl dd_MO_add_101 ?_
          refine lv_iconst (v := 1) hx hb dd_MO_add_104 (by decide) ?_
          refine lv_iadd hx hb dd_MO_add_105 ?_
          rw [tq_1s]
          refine va_put (D := D) (cl := classes) (ci := 2) (ty := .int) (C := R_MO) (T := F_MO) (N := 7) hx hb hT in_MO t_MO t_MO_ok n_MO hown hK hP hD hS 0 rfl rfl 2 (by decide) (hT _ tw_332) (fun _ h9 => h9) rfl (by decide +kernel) rfl rfl (Nat.le_of_ble_eq_true rfl) dd_MO_add_106 (fun H locs hP hD hS => ?_)
          have hP : va_P D classes (wM cL h len (n + 1) cl be 0 (vp_updL ca n (c0 &&& mk len)) (vp_updL wa n (w &&& mk len))) H := hP
          have hD : va_D A (wM cL h len (n + 1) cl be 0 (vp_updL ca n (c0 &&& mk len)) (vp_updL wa n (w &&& mk len))) := hD
          refine lv_aload_n hx hb dd_MO_add_109 rfl (lv_at hl 1 rfl) ?_
          refine va_get (D := D) (cl := classes) (ci := 2) (C := R_MO) (T := F_MO) (N := 7) hx hb hT in_MO hown hK hP 0 rfl rfl 2 (by decide) (hT _ tw_332) (fun _ h9 => h9) rfl dd_MO_add_110 ?_
          refine lv_iconst (v := 1) hx hb dd_MO_add_113 (by decide) ?_
          refine lv_isub hx hb dd_MO_add_114 ?_
          rw [nI_pred]
          exact ret _ (len, (n + 1), cl, be, 0, (vp_updL ca n (c0 &&& mk len)), (vp_updL wa n (w &&& mk len))) H locs 0 0 115 ls ⟨by rw [eB], by rw [eB]⟩ hP hD hS (Nat.zero_le _) (Nat.zero_le _) rfl dd_MO_add_115
        · have eB := eA
          unfold sPut at eB
          rw [if_neg hne, if_pos (Int32.not_lt.mp hc3)] at eB
          refine lv_aload_n hx hb dd_MO_add_57 rfl (lv_at hl 1 rfl) ?_
          refine lv_iload hx hb dd_MO_add_58 (lv_at hl 0 rfl) ?_
          refine va_put (D := D) (cl := classes) (ci := 2) (ty := .int) (C := R_MO) (T := F_MO) (N := 7) hx hb hT in_MO t_MO t_MO_ok n_MO hown hK hP hD hS 0 rfl rfl 4 (by decide) (hT _ tw_334) (fun _ h9 => h9) rfl (by decide +kernel) rfl rfl (Nat.le_of_ble_eq_true rfl) dd_MO_add_60 (fun H locs hP hD hS => ?_)
          have hP : va_P D classes (wM cL h len n (ff (msh len ca wa c0 w) n) be 0 ca wa) H := hP
          have hD : va_D A (wM cL h len n (ff (msh len ca wa c0 w) n) be 0 ca wa) := hD
          refine lv_aload_n hx hb dd_MO_add_63 rfl (lv_at hl 1 rfl) ?_
          refine lv_iconst (v := 2) hx hb dd_MO_add_64 (by decide) ?_
          refine MT.callV (c_MO_fail l D cI cL h len n (ff (msh len ca wa c0 w) n) be 0 ca wa 2) vs_MO_39 ⟨hx, hb, hml, hown, hT⟩ ⟨hK, hX, hSK _ _ hS, hP, hD, hS, hA⟩ (tq_J.same _) 0 rfl rfl (by decide) rfl hl.1 rfl (Nat.le_of_ble_eq_true rfl) dd_MO_add_65 ⟨by decide, by decide⟩ (fun v u H locs hp hP hD hS => ?_) (fun x C u H locs hp hxf hP hD hS => hp.elim)
          obtain ⟨r1, rfl, hr1, rfl⟩ := hp
          subst hr1
          exact ret _ (len, n, (ff (msh len ca wa c0 w) n), be, 2, ca, wa) H locs 0 0 68 ls ⟨by rw [eB], by rw [eB]⟩ hP hD hS (Nat.zero_le _) (Nat.zero_le _) rfl dd_MO_add_68
    · have h512 : n = 512 := (nI_eq (b := 512) (by omega) (by omega)).mp hc1
      have eB := eA
      unfold sPut at eB
      rw [if_pos h512] at eB
      refine lv_iconst (v := -1) hx hb dd_MO_add_30 (by decide) ?_
      refine lv_goto (tgt := 40) hx hb dd_MO_add_31 (by decide) ?_
      refine lv_topi (fun v40 e40 => ?_)
      obtain rfl : v40 = -1 := e40
      refine lv_istore hx hb dd_MO_add_40 hl (by decide) rfl (fun ls hl => ?_)
      have hl : lv_has ls 6 [(5, .int (-1)), (0, .ref (h 0)), (1, .long c0), (3, .long w)] := hl
      refine lv_aload_n hx hb dd_MO_add_42 rfl (lv_at hl 1 rfl) ?_
      refine va_get (D := D) (cl := classes) (ci := 2) (C := R_MO) (T := F_MO) (N := 7) hx hb hT in_MO hown hK hP 0 rfl rfl 2 (by decide) (hT _ tw_332) (fun _ h9 => h9) rfl dd_MO_add_43 ?_
      refine lv_sipush (v := 512) hx hb dd_MO_add_46 (by decide) ?_
      refine lv_icmp_eq (tgt := 57) hx hb dd_MO_add_49 (by decide) (fun hc2 => ?_) (fun hc2 => ?_)
      · refine lv_aload_n hx hb dd_MO_add_57 rfl (lv_at hl 1 rfl) ?_
        refine lv_iload hx hb dd_MO_add_58 (lv_at hl 0 rfl) ?_
        refine va_put (D := D) (cl := classes) (ci := 2) (ty := .int) (C := R_MO) (T := F_MO) (N := 7) hx hb hT in_MO t_MO t_MO_ok n_MO hown hK hP hD hS 0 rfl rfl 4 (by decide) (hT _ tw_334) (fun _ h9 => h9) rfl (by decide +kernel) rfl rfl (Nat.le_of_ble_eq_true rfl) dd_MO_add_60 (fun H locs hP hD hS => ?_)
        have hP : va_P D classes (wM cL h len n (-1) be 0 ca wa) H := hP
        have hD : va_D A (wM cL h len n (-1) be 0 ca wa) := hD
        refine lv_aload_n hx hb dd_MO_add_63 rfl (lv_at hl 1 rfl) ?_
        refine lv_iconst (v := 2) hx hb dd_MO_add_64 (by decide) ?_
        refine MT.callV (c_MO_fail l D cI cL h len n (-1) be 0 ca wa 2) vs_MO_39 ⟨hx, hb, hml, hown, hT⟩ ⟨hK, hX, hSK _ _ hS, hP, hD, hS, hA⟩ (tq_J.same _) 0 rfl rfl (by decide) rfl hl.1 rfl (Nat.le_of_ble_eq_true rfl) dd_MO_add_65 ⟨by decide, by decide⟩ (fun v u H locs hp hP hD hS => ?_) (fun x C u H locs hp hxf hP hD hS => hp.elim)
        obtain ⟨r1, rfl, hr1, rfl⟩ := hp
        subst hr1
        exact ret _ (len, n, (-1), be, 2, ca, wa) H locs 0 0 68 ls ⟨by rw [eB], by rw [eB]⟩ hP hD hS (Nat.zero_le _) (Nat.zero_le _) rfl dd_MO_add_68
      · exact absurd hc1 hc2
  · have hP1 : isP len c0 w = false := by cases hb2 : isP len c0 w <;> simp_all [b2i]
    have eA : (mAdd len n ca wa cl c0 w) = (1, 0, n, ca, wa, cl) := by unfold mAdd; rw [if_neg (by rw [hP1]; decide)]
    refine lv_aload_n hx hb dd_MO_add_14 rfl (lv_at hl 0 rfl) ?_
    refine lv_iconst (v := 1) hx hb dd_MO_add_15 (by decide) ?_
    refine MT.callV (c_MO_fail l D cI cL h len n cl be 0 ca wa 1) vs_MO_39 ⟨hx, hb, hml, hown, hT⟩ ⟨hK, hX, hSK _ _ hS, hP, hD, hS, hA⟩ (tq_J.same _) 0 rfl rfl (by decide) rfl hl.1 rfl (Nat.le_of_ble_eq_true rfl) dd_MO_add_16 ⟨by decide, by decide⟩ (fun v u H locs hp hP hD hS => ?_) (fun x C u H locs hp hxf hP hD hS => hp.elim)
    obtain ⟨r1, rfl, hr1, rfl⟩ := hp
    subst hr1
    exact ret _ (len, n, cl, be, 1, ca, wa) H locs 0 0 19 ls ⟨by rw [eA], by rw [eA]⟩ hP hD hS (Nat.zero_le _) (Nat.zero_le _) rfl dd_MO_add_19
set_option maxRecDepth 20000 in
theorem c_MO_signs (l : Launch) (D : va_G) (cI cL : ClassId) (h : Nat → Nat) (len n : Nat) (cl be th : Int32) (ca wa : Nat → Int64) (d : Int64) (hlen : len ≤ 64) (hn : n ≤ 512) : MT (S := MS) l yy_MO_signs bb_MO_signs 12 (some .int) [] (rmK 4) D cI cL [.ref (h 0), .long d] (wM cL h len n cl be th ca wa) (fun u => wMs cL h u) (pI (fun r u => r = (mSigns len n ca wa cl d).2.1 ∧ u = (len, (mSigns len n ca wa cl d).2.2.1, (mSigns len n ca wa cl d).2.2.2.2.2, be, (mSigns len n ca wa cl d).1, (mSigns len n ca wa cl d).2.2.2.1, (mSigns len n ca wa cl d).2.2.2.2.1))) (nx) := by
  refine MT.mkI (by decide) (Nat.le_of_ble_eq_true rfl) ?_
  intro p e s m below meth c A Q B ret lv ls hl
  obtain ⟨hx, hb, hml, hown, hT, hK, hX, hSK, hA, hP, hD, hS, htab, hcode, hpl⟩ := B
  have hown : s.vm.findClass "PatternTreeModel" = some m.cls := hown
  have hl : lv_has ls 12 [(0, .ref (h 0)), (1, .long d)] := hl
  refine lv_aload_n hx hb dd_MO_signs_0 rfl (lv_at hl 0 rfl) ?_
  refine lv_iconst (v := 0) hx hb dd_MO_signs_1 (by decide) ?_
  refine va_put (D := D) (cl := classes) (ci := 2) (ty := .int) (C := R_MO) (T := F_MO) (N := 7) hx hb hT in_MO t_MO t_MO_ok n_MO hown hK hP hD hS 0 rfl rfl 6 (by decide) (hT _ tw_336) (fun _ h9 => h9) rfl (by decide +kernel) rfl rfl (Nat.le_of_ble_eq_true rfl) dd_MO_signs_2 (fun H locs hP hD hS => ?_)
  have hP : va_P D classes (wM cL h len n cl be 0 ca wa) H := hP
  have hD : va_D A (wM cL h len n cl be 0 ca wa) := hD
  refine lv_lload_n hx hb dd_MO_signs_5 rfl (lv_at hl 1 rfl) ?_
  refine lv_lconst (v := 0) hx hb dd_MO_signs_6 (by decide) ?_
  refine tq_lge (tgt := 17) hx hb dd_MO_signs_7 dd_MO_signs_8 (by decide) (fun hd => ?_) (fun hd => ?_)
  · refine lv_lconst (v := 0) hx hb dd_MO_signs_17 (by decide) ?_
    refine lv_topl (fun v18 e18 => ?_)
    obtain rfl : v18 = (sgn d 0).1 := e18
    refine lv_lstore_n hx hb dd_MO_signs_18 rfl hl (by decide) rfl (fun ls hl => ?_)
    have hl : lv_has ls 12 [(3, .long ((sgn d 0).1)), (0, .ref (h 0)), (1, .long d)] := hl
    refine lv_lconst (v := 0) hx hb dd_MO_signs_19 (by decide) ?_
    refine lv_topl (fun v20 e20 => ?_)
    obtain rfl : v20 = (sgn d 0).2.1 := e20
    refine lv_lstore hx hb dd_MO_signs_20 hl (by decide) rfl (fun ls hl => ?_)
    have hl : lv_has ls 12 [(5, .long ((sgn d 0).2.1)), (3, .long ((sgn d 0).1)), (0, .ref (h 0)), (1, .long d)] := hl
    refine lv_lload_n hx hb dd_MO_signs_22 rfl (lv_at hl 3 rfl) ?_
    refine lv_topl (fun v23 e23 => ?_)
    obtain rfl : d = v23 := (e23).symm
    refine lv_lstore hx hb dd_MO_signs_23 hl (by decide) rfl (fun ls hl => ?_)
    have hl : lv_has ls 12 [(7, .long d), (5, .long ((sgn d 0).2.1)), (3, .long ((sgn d 0).1)), (0, .ref (h 0)), (1, .long d)] := hl
    refine lv_iconst (v := 0) hx hb dd_MO_signs_25 (by decide) ?_
    refine lv_topi (fun v26 e26 => ?_)
    obtain rfl : v26 = nI 0 := e26
    refine lv_istore hx hb dd_MO_signs_26 hl (by decide) rfl (fun ls hl => ?_)
    have hl : lv_has ls 12 [(9, .int (nI 0)), (7, .long d), (5, .long ((sgn d 0).2.1)), (3, .long ((sgn d 0).1)), (0, .ref (h 0)), (1, .long d)] := hl
    have hl : lv_has ls 12 [(9, .int (nI 0)), (7, .long (sgn d 0).2.2), (5, .long (sgn d 0).2.1), (3, .long (sgn d 0).1), (0, .ref (h 0))] := lv_sub hl [0, 1, 2, 3, 4] rfl
    have loop : ∀ (j i : Nat) (ls : Array Slot), i + j = min 40 len → lv_has ls 12 [(9, .int (nI i)), (7, .long (sgn d i).2.2), (5, .long (sgn d i).2.1), (3, .long (sgn d i).1), (0, .ref (h 0))] → W p l e (rmK 4) s m ([.ref (h 0), .long d] : List Value).toArray below meth c H locs 0 0 Q (F0 m 28 ls []) := by
      intro j
      induction j with
      | zero =>
        intro i ls hij hl
        have hi : i = min 40 len := by omega
        subst hi
        have fin : W p l e (rmK 4) s m ([.ref (h 0), .long d] : List Value).toArray below meth c H locs 0 0 Q (F0 m 98 ls []) := by
          refine lv_aload_n hx hb dd_MO_signs_98 rfl (lv_at hl 4 rfl) ?_
          refine lv_lload_n hx hb dd_MO_signs_99 rfl (lv_at hl 3 rfl) ?_
          refine lv_lload hx hb dd_MO_signs_100 (lv_at hl 2 rfl) ?_
          refine MT.callV (c_MO_add l D cI cL h len n cl be 0 ca wa (sgn d (min 40 len)).1 (sgn d (min 40 len)).2.1 hlen hn) vs_MO_55 ⟨hx, hb, hml, hown, hT⟩ ⟨hK, hX, hSK _ _ hS, hP, hD, hS, hA⟩ (tq_J.same _) 0 rfl rfl (by decide) rfl hl.1 rfl (Nat.le_of_ble_eq_true rfl) dd_MO_signs_102 ⟨by decide, by decide⟩ (fun v u H locs hp hP hD hS => ?_) (fun x C u H locs hp hxf hP hD hS => hp.elim)
          obtain ⟨r1, rfl, hr1, rfl⟩ := hp
          have eA : (mSigns len n ca wa cl d) = mAdd len n ca wa cl (sgn d (min 40 len)).1 (sgn d (min 40 len)).2.1 := by unfold mSigns; rw [if_neg hd]
          exact ret _ _ H locs 0 0 105 ls ⟨by rw [eA]; exact hr1, by rw [eA]⟩ hP hD hS (Nat.zero_le _) (Nat.zero_le _) rfl dd_MO_signs_105
        refine lv_iload hx hb dd_MO_signs_28 (lv_at hl 0 rfl) ?_
        refine lv_bipush (v := 40) hx hb dd_MO_signs_30 (by decide) ?_
        refine lv_icmp_ge (tgt := 98) hx hb dd_MO_signs_32 (by decide) (fun hc => ?_) (fun hc => ?_)
        · exact fin
        · refine lv_iload hx hb dd_MO_signs_35 (lv_at hl 0 rfl) ?_
          refine lv_aload_n hx hb dd_MO_signs_37 rfl (lv_at hl 4 rfl) ?_
          refine va_get (D := D) (cl := classes) (ci := 2) (C := R_MO) (T := F_MO) (N := 7) hx hb hT in_MO hown hK hP 0 rfl rfl 3 (by decide) (hT _ tw_333) (fun _ h9 => h9) rfl dd_MO_signs_38 ?_
          refine tq_ige (tgt := 98) hx hb (by omega) (by omega) dd_MO_signs_41 (by decide) (fun hc2 => ?_) (fun hc2 => ?_)
          · exact fin
          · exact absurd ((nI_leI (a := 40) (by omega) (by omega)).mpr (by omega)) hc
      | succ j ih =>
        intro i ls hij hl
        refine lv_iload hx hb dd_MO_signs_28 (lv_at hl 0 rfl) ?_
        refine lv_bipush (v := 40) hx hb dd_MO_signs_30 (by decide) ?_
        refine lv_icmp_ge (tgt := 98) hx hb dd_MO_signs_32 (by decide) (fun hc => ?_) (fun hc => ?_)
        · exact absurd ((nI_leI (a := 40) (by omega) (by omega)).mp hc) (by omega)
        · refine lv_iload hx hb dd_MO_signs_35 (lv_at hl 0 rfl) ?_
          refine lv_aload_n hx hb dd_MO_signs_37 rfl (lv_at hl 4 rfl) ?_
          refine va_get (D := D) (cl := classes) (ci := 2) (C := R_MO) (T := F_MO) (N := 7) hx hb hT in_MO hown hK hP 0 rfl rfl 3 (by decide) (hT _ tw_333) (fun _ h9 => h9) rfl dd_MO_signs_38 ?_
          refine tq_ige (tgt := 98) hx hb (by omega) (by omega) dd_MO_signs_41 (by decide) (fun hc2 => ?_) (fun hc2 => ?_)
          · omega
          · refine lv_lload hx hb dd_MO_signs_44 (lv_at hl 1 rfl) ?_
            refine lv_ldc2 (v := 3) hx hb hown (hT _ tw_389) dd_MO_signs_46 ?_
            refine lv_lrem hx hb dd_MO_signs_49 (by decide) ?_
            refine lv_topl (fun v50 e50 => ?_)
            obtain rfl : v50 = ((sgn d i).2.2 - (sgn d i).2.2 / 3 * 3) := e50
            refine lv_lstore hx hb dd_MO_signs_50 hl (by decide) rfl (fun ls hl => ?_)
            have hl : lv_has ls 12 [(10, .long (((sgn d i).2.2 - (sgn d i).2.2 / 3 * 3))), (9, .int (nI i)), (7, .long (sgn d i).2.2), (5, .long (sgn d i).2.1), (3, .long (sgn d i).1), (0, .ref (h 0))] := hl
            refine lv_lload hx hb dd_MO_signs_52 (lv_at hl 2 rfl) ?_
            refine lv_ldc2 (v := 3) hx hb hown (hT _ tw_389) dd_MO_signs_54 ?_
            refine lv_ldiv hx hb dd_MO_signs_57 (by decide) ?_
            refine lv_topl (fun v58 e58 => ?_)
            obtain rfl : v58 = (sgn d i).2.2 / 3 := e58
            refine lv_lstore hx hb dd_MO_signs_58 hl (by decide) rfl (fun ls hl => ?_)
            have hl : lv_has ls 12 [(7, .long ((sgn d i).2.2 / 3)), (10, .long (((sgn d i).2.2 - (sgn d i).2.2 / 3 * 3))), (9, .int (nI i)), (5, .long (sgn d i).2.1), (3, .long (sgn d i).1), (0, .ref (h 0))] := hl
            refine lv_lload hx hb dd_MO_signs_60 (lv_at hl 1 rfl) ?_
            refine lv_ldc2 (v := 2) hx hb hown (hT _ tw_390) dd_MO_signs_62 ?_
            refine tq_lge (tgt := 76) hx hb dd_MO_signs_65 dd_MO_signs_66 (by decide) (fun hd2 => ?_) (fun hd2 => ?_)
            · refine lv_lload hx hb dd_MO_signs_76 (lv_at hl 1 rfl) ?_
              refine lv_lconst (v := 1) hx hb dd_MO_signs_78 (by decide) ?_
              refine tq_lne (tgt := 92) hx hb dd_MO_signs_79 dd_MO_signs_80 (by decide) (fun hd1 => ?_) (fun hd1 => ?_)
              · refine lv_iinc (k := 2) hx hb dd_MO_signs_92 hl rfl (tq_inc i) (by decide) rfl (fun ls hl => ?_)
                have hl : lv_has ls 12 [(9, .int (nI (i + 1))), (7, .long ((sgn d i).2.2 / 3)), (10, .long (((sgn d i).2.2 - (sgn d i).2.2 / 3 * 3))), (5, .long (sgn d i).2.1), (3, .long (sgn d i).1), (0, .ref (h 0))] := hl
                refine lv_goto (tgt := 28) hx hb dd_MO_signs_95 (by decide) ?_
                have eS : sgn d (i + 1) = ((sgn d i).1, (sgn d i).2.1, (sgn d i).2.2 / 3) := by show sgs i (sgn d i) = _; unfold sgs; rw [if_neg hd2, if_neg hd1]
                refine ih (i + 1) ls (by omega) ?_
                rw [eS]
                exact lv_sub hl [0, 1, 3, 4, 5] rfl
              · refine lv_lload hx hb dd_MO_signs_83 (lv_at hl 3 rfl) ?_
                refine lv_lconst (v := 1) hx hb dd_MO_signs_85 (by decide) ?_
                refine lv_iload hx hb dd_MO_signs_86 (lv_at hl 2 rfl) ?_
                refine lv_lshl hx hb dd_MO_signs_88 rfl ?_
                refine lv_lor hx hb dd_MO_signs_89 ?_
                refine lv_topl (fun v90 e90 => ?_)
                obtain rfl : v90 = (sgn d i).2.1 ||| sh1 i := e90
                refine lv_lstore hx hb dd_MO_signs_90 hl (by decide) rfl (fun ls hl => ?_)
                have hl : lv_has ls 12 [(5, .long ((sgn d i).2.1 ||| sh1 i)), (7, .long ((sgn d i).2.2 / 3)), (10, .long (((sgn d i).2.2 - (sgn d i).2.2 / 3 * 3))), (9, .int (nI i)), (3, .long (sgn d i).1), (0, .ref (h 0))] := hl
                refine lv_iinc (k := 3) hx hb dd_MO_signs_92 hl rfl (tq_inc i) (by decide) rfl (fun ls hl => ?_)
                have hl : lv_has ls 12 [(9, .int (nI (i + 1))), (5, .long ((sgn d i).2.1 ||| sh1 i)), (7, .long ((sgn d i).2.2 / 3)), (10, .long (((sgn d i).2.2 - (sgn d i).2.2 / 3 * 3))), (3, .long (sgn d i).1), (0, .ref (h 0))] := hl
                refine lv_goto (tgt := 28) hx hb dd_MO_signs_95 (by decide) ?_
                have eS : sgn d (i + 1) = ((sgn d i).1, (sgn d i).2.1 ||| sh1 i, (sgn d i).2.2 / 3) := by show sgs i (sgn d i) = _; unfold sgs; rw [if_neg hd2, if_pos hd1]
                refine ih (i + 1) ls (by omega) ?_
                rw [eS]
                exact lv_sub hl [0, 2, 1, 4, 5] rfl
            · refine lv_lload_n hx hb dd_MO_signs_69 rfl (lv_at hl 4 rfl) ?_
              refine lv_lconst (v := 1) hx hb dd_MO_signs_70 (by decide) ?_
              refine lv_iload hx hb dd_MO_signs_71 (lv_at hl 2 rfl) ?_
              refine lv_lshl hx hb dd_MO_signs_73 rfl ?_
              refine lv_lor hx hb dd_MO_signs_74 ?_
              refine lv_topl (fun v75 e75 => ?_)
              obtain rfl : v75 = (sgn d i).1 ||| sh1 i := e75
              refine lv_lstore_n hx hb dd_MO_signs_75 rfl hl (by decide) rfl (fun ls hl => ?_)
              have hl : lv_has ls 12 [(3, .long ((sgn d i).1 ||| sh1 i)), (7, .long ((sgn d i).2.2 / 3)), (10, .long (((sgn d i).2.2 - (sgn d i).2.2 / 3 * 3))), (9, .int (nI i)), (5, .long (sgn d i).2.1), (0, .ref (h 0))] := hl
              refine lv_lload hx hb dd_MO_signs_76 (lv_at hl 2 rfl) ?_
              refine lv_lconst (v := 1) hx hb dd_MO_signs_78 (by decide) ?_
              refine tq_lne (tgt := 92) hx hb dd_MO_signs_79 dd_MO_signs_80 (by decide) (fun hd1 => ?_) (fun hd1 => ?_)
              · refine lv_iinc (k := 3) hx hb dd_MO_signs_92 hl rfl (tq_inc i) (by decide) rfl (fun ls hl => ?_)
                have hl : lv_has ls 12 [(9, .int (nI (i + 1))), (3, .long ((sgn d i).1 ||| sh1 i)), (7, .long ((sgn d i).2.2 / 3)), (10, .long (((sgn d i).2.2 - (sgn d i).2.2 / 3 * 3))), (5, .long (sgn d i).2.1), (0, .ref (h 0))] := hl
                refine lv_goto (tgt := 28) hx hb dd_MO_signs_95 (by decide) ?_
                have eS : sgn d (i + 1) = ((sgn d i).1 ||| sh1 i, (sgn d i).2.1, (sgn d i).2.2 / 3) := by show sgs i (sgn d i) = _; unfold sgs; rw [if_pos hd2, if_neg hd1]
                refine ih (i + 1) ls (by omega) ?_
                rw [eS]
                exact lv_sub hl [0, 2, 4, 1, 5] rfl
              · refine lv_lload hx hb dd_MO_signs_83 (lv_at hl 4 rfl) ?_
                refine lv_lconst (v := 1) hx hb dd_MO_signs_85 (by decide) ?_
                refine lv_iload hx hb dd_MO_signs_86 (lv_at hl 3 rfl) ?_
                refine lv_lshl hx hb dd_MO_signs_88 rfl ?_
                refine lv_lor hx hb dd_MO_signs_89 ?_
                refine lv_topl (fun v90 e90 => ?_)
                obtain rfl : v90 = (sgn d i).2.1 ||| sh1 i := e90
                refine lv_lstore hx hb dd_MO_signs_90 hl (by decide) rfl (fun ls hl => ?_)
                have hl : lv_has ls 12 [(5, .long ((sgn d i).2.1 ||| sh1 i)), (3, .long ((sgn d i).1 ||| sh1 i)), (7, .long ((sgn d i).2.2 / 3)), (10, .long (((sgn d i).2.2 - (sgn d i).2.2 / 3 * 3))), (9, .int (nI i)), (0, .ref (h 0))] := hl
                refine lv_iinc (k := 4) hx hb dd_MO_signs_92 hl rfl (tq_inc i) (by decide) rfl (fun ls hl => ?_)
                have hl : lv_has ls 12 [(9, .int (nI (i + 1))), (5, .long ((sgn d i).2.1 ||| sh1 i)), (3, .long ((sgn d i).1 ||| sh1 i)), (7, .long ((sgn d i).2.2 / 3)), (10, .long (((sgn d i).2.2 - (sgn d i).2.2 / 3 * 3))), (0, .ref (h 0))] := hl
                refine lv_goto (tgt := 28) hx hb dd_MO_signs_95 (by decide) ?_
                have eS : sgn d (i + 1) = ((sgn d i).1 ||| sh1 i, (sgn d i).2.1 ||| sh1 i, (sgn d i).2.2 / 3) := by show sgs i (sgn d i) = _; unfold sgs; rw [if_pos hd2, if_pos hd1]
                refine ih (i + 1) ls (by omega) ?_
                rw [eS]
                exact lv_sub hl [0, 3, 1, 2, 5] rfl
    exact loop (min 40 len) 0 ls (by omega) hl
  · refine lv_aload_n hx hb dd_MO_signs_11 rfl (lv_at hl 0 rfl) ?_
    refine lv_iconst (v := 1) hx hb dd_MO_signs_12 (by decide) ?_
    refine MT.callV (c_MO_fail l D cI cL h len n cl be 0 ca wa 1) vs_MO_39 ⟨hx, hb, hml, hown, hT⟩ ⟨hK, hX, hSK _ _ hS, hP, hD, hS, hA⟩ (tq_J.same _) 0 rfl rfl (by decide) rfl hl.1 rfl (Nat.le_of_ble_eq_true rfl) dd_MO_signs_13 ⟨by decide, by decide⟩ (fun v u H locs hp hP hD hS => ?_) (fun x C u H locs hp hxf hP hD hS => hp.elim)
    obtain ⟨r1, rfl, hr1, rfl⟩ := hp
    subst hr1
    have eA : (mSigns len n ca wa cl d) = (1, 0, n, ca, wa, cl) := by unfold mSigns; rw [if_pos hd]
    exact ret _ (len, n, cl, be, 1, ca, wa) H locs 0 0 16 ls ⟨by rw [eA], by rw [eA]⟩ hP hD hS (Nat.zero_le _) (Nat.zero_le _) rfl dd_MO_signs_16
set_option maxRecDepth 20000 in
theorem c_MO_drop (l : Launch) (D : va_G) (cI cL : ClassId) (h : Nat → Nat) (len n : Nat) (cl be th : Int32) (ca wa : Nat → Int64) (i : Int32) (hn : n ≤ 512) : MT (S := MS) l yy_MO_drop bb_MO_drop 3 none [] (rmK 1) D cI cL [.ref (h 0), .int i] (wM cL h len n cl be th ca wa) (fun u => wMs cL h u) (pV (fun u => u = (len, (sDrop n ca wa i).2.1, cl, be, (sDrop n ca wa i).1, (sDrop n ca wa i).2.2.1, (sDrop n ca wa i).2.2.2))) (nx) := by
  refine MT.mkV (by decide) (Nat.le_of_ble_eq_true rfl) ?_
  intro p e s m below meth c A Q B ret lv ls hl
  obtain ⟨hx, hb, hml, hown, hT, hK, hX, hSK, hA, hP, hD, hS, htab, hcode, hpl⟩ := B
  have hown : s.vm.findClass "PatternTreeModel" = some m.cls := hown
  have hl : lv_has ls 3 [(0, .ref (h 0)), (1, .int i)] := hl
  refine lv_aload_n hx hb dd_MO_drop_0 rfl (lv_at hl 0 rfl) ?_
  refine lv_iconst (v := 0) hx hb dd_MO_drop_1 (by decide) ?_
  refine va_put (D := D) (cl := classes) (ci := 2) (ty := .int) (C := R_MO) (T := F_MO) (N := 7) hx hb hT in_MO t_MO t_MO_ok n_MO hown hK hP hD hS 0 rfl rfl 6 (by decide) (hT _ tw_336) (fun _ h9 => h9) rfl (by decide +kernel) rfl rfl (Nat.le_of_ble_eq_true rfl) dd_MO_drop_2 (fun H locs hP hD hS => ?_)
  have hP : va_P D classes (wM cL h len n cl be 0 ca wa) H := hP
  have hD : va_D A (wM cL h len n cl be 0 ca wa) := hD
  refine lv_iload_n hx hb dd_MO_drop_5 rfl (lv_at hl 1 rfl) ?_
  refine lv_if_lt (tgt := 17) hx hb dd_MO_drop_6 (by decide) (fun hc => ?_) (fun hc => ?_)
  · refine lv_aload_n hx hb dd_MO_drop_17 rfl (lv_at hl 0 rfl) ?_
    refine lv_iconst (v := 1) hx hb dd_MO_drop_18 (by decide) ?_
    refine MT.callV (c_MO_fail l D cI cL h len n cl be 0 ca wa 1) vs_MO_39 ⟨hx, hb, hml, hown, hT⟩ ⟨hK, hX, hSK _ _ hS, hP, hD, hS, hA⟩ (tq_J.same _) 0 rfl rfl (by decide) rfl hl.1 rfl (Nat.le_of_ble_eq_true rfl) dd_MO_drop_19 ⟨by decide, by decide⟩ (fun v u H locs hp hP hD hS => ?_) (fun x C u H locs hp hxf hP hD hS => hp.elim)
    obtain ⟨r1, rfl, hr1, rfl⟩ := hp
    have eA : (sDrop n ca wa i) = (1, n, ca, wa) := by unfold sDrop; rw [if_neg (fun hh => absurd hc (Int32.not_lt.mpr hh.1))]
    refine lv_pop hx hb dd_MO_drop_22 rfl ?_
    exact ret (len, n, cl, be, 1, ca, wa) H locs 0 0 23 ls (by rw [eA]) hP hD hS (Nat.zero_le _) (Nat.zero_le _) dd_MO_drop_23
  · refine lv_iload_n hx hb dd_MO_drop_9 rfl (lv_at hl 1 rfl) ?_
    refine lv_aload_n hx hb dd_MO_drop_10 rfl (lv_at hl 0 rfl) ?_
    refine va_get (D := D) (cl := classes) (ci := 2) (C := R_MO) (T := F_MO) (N := 7) hx hb hT in_MO hown hK hP 0 rfl rfl 2 (by decide) (hT _ tw_332) (fun _ h9 => h9) rfl dd_MO_drop_11 ?_
    refine lv_icmp_lt (tgt := 24) hx hb dd_MO_drop_14 (by decide) (fun hc2 => ?_) (fun hc2 => ?_)
    · obtain ⟨q, hq, rfl⟩ := ix_of (by omega) hc hc2
      have eA : (sDrop n ca wa (nI q)) = (0, n - 1, shf ca q (n - 1), shf wa q (n - 1)) := by unfold sDrop; rw [if_pos ⟨Int32.not_lt.mp hc, hc2⟩, nI_clamp (by omega)]
      refine lv_iload_n hx hb dd_MO_drop_24 rfl (lv_at hl 1 rfl) ?_
      refine lv_topi (fun v25 e25 => ?_)
      obtain rfl : v25 = nI q := e25
      refine lv_istore_n hx hb dd_MO_drop_25 rfl hl (by decide) rfl (fun ls hl => ?_)
      have hl : lv_has ls 3 [(2, .int (nI q)), (0, .ref (h 0)), (1, .int (nI q))] := hl
      have hl : lv_has ls 3 [(2, .int (nI q)), (0, .ref (h 0))] := lv_sub hl [0, 1] rfl
      have loop : ∀ (j k : Nat) (H : Heap) (locs : List Loc) (ls : Array Slot), k + j = n - 1 → q ≤ k → va_P D classes (wM cL h len n cl be 0 (shf ca q k) (shf wa q k)) H → va_D A (wM cL h len n cl be 0 (shf ca q k) (shf wa q k)) → va_S A s.heap H locs → lv_has ls 3 [(2, .int (nI k)), (0, .ref (h 0))] → W p l e (rmK 1) s m ([.ref (h 0), .int (nI q)] : List Value).toArray below meth c H locs 0 0 Q (F0 m 26 ls []) := by
        intro j
        induction j with
        | zero =>
          intro k H locs ls hkj hqk hP hD hS hl
          refine lv_iload_n hx hb dd_MO_drop_26 rfl (lv_at hl 0 rfl) ?_
          refine lv_iconst (v := 1) hx hb dd_MO_drop_27 (by decide) ?_
          refine lv_iadd hx hb dd_MO_drop_28 ?_
          rw [tq_1s]
          refine lv_aload_n hx hb dd_MO_drop_29 rfl (lv_at hl 1 rfl) ?_
          refine va_get (D := D) (cl := classes) (ci := 2) (C := R_MO) (T := F_MO) (N := 7) hx hb hT in_MO hown hK hP 0 rfl rfl 2 (by decide) (hT _ tw_332) (fun _ h9 => h9) rfl dd_MO_drop_30 ?_
          refine tq_ige (tgt := 70) hx hb (by omega) (by omega) dd_MO_drop_33 (by decide) (fun hc => ?_) (fun hc => ?_)
          · have hk : k = n - 1 := by omega
            subst hk
            refine lv_aload_n hx hb dd_MO_drop_70 rfl (lv_at hl 1 rfl) ?_
            refine lv_dup hx hb dd_MO_drop_71 rfl ?_
            refine va_get (D := D) (cl := classes) (ci := 2) (C := R_MO) (T := F_MO) (N := 7) hx hb hT in_MO hown hK hP 0 rfl rfl 2 (by decide) (hT _ tw_332) (fun _ h9 => h9) rfl dd_MO_drop_72 ?_
            refine lv_iconst (v := 1) hx hb dd_MO_drop_75 (by decide) ?_
            refine lv_isub hx hb dd_MO_drop_76 ?_
            have ep : nI n - 1 = nI (n - 1) := by
              have := nI_pred (n - 1)
              rwa [show n - 1 + 1 = n by omega] at this
            rw [ep]
            refine va_put (D := D) (cl := classes) (ci := 2) (ty := .int) (C := R_MO) (T := F_MO) (N := 7) hx hb hT in_MO t_MO t_MO_ok n_MO hown hK hP hD hS 0 rfl rfl 2 (by decide) (hT _ tw_332) (fun _ h9 => h9) rfl (by decide +kernel) rfl rfl (Nat.le_of_ble_eq_true rfl) dd_MO_drop_77 (fun H locs hP hD hS => ?_)
            have hP : va_P D classes (wM cL h len (n - 1) cl be 0 (shf ca q (n - 1)) (shf wa q (n - 1))) H := hP
            have hD : va_D A (wM cL h len (n - 1) cl be 0 (shf ca q (n - 1)) (shf wa q (n - 1))) := hD
            exact ret (len, (n - 1), cl, be, 0, (shf ca q (n - 1)), (shf wa q (n - 1))) H locs 0 0 80 ls (by rw [eA]) hP hD hS (Nat.zero_le _) (Nat.zero_le _) dd_MO_drop_80
          · omega
        | succ j ih =>
          intro k H locs ls hkj hqk hP hD hS hl
          refine lv_iload_n hx hb dd_MO_drop_26 rfl (lv_at hl 0 rfl) ?_
          refine lv_iconst (v := 1) hx hb dd_MO_drop_27 (by decide) ?_
          refine lv_iadd hx hb dd_MO_drop_28 ?_
          rw [tq_1s]
          refine lv_aload_n hx hb dd_MO_drop_29 rfl (lv_at hl 1 rfl) ?_
          refine va_get (D := D) (cl := classes) (ci := 2) (C := R_MO) (T := F_MO) (N := 7) hx hb hT in_MO hown hK hP 0 rfl rfl 2 (by decide) (hT _ tw_332) (fun _ h9 => h9) rfl dd_MO_drop_30 ?_
          refine tq_ige (tgt := 70) hx hb (by omega) (by omega) dd_MO_drop_33 (by decide) (fun hc => ?_) (fun hc => ?_)
          · omega
          · refine lv_aload_n hx hb dd_MO_drop_36 rfl (lv_at hl 1 rfl) ?_
            refine va_get (D := D) (cl := classes) (ci := 2) (C := R_MO) (T := F_MO) (N := 7) hx hb hT in_MO hown hK hP 0 rfl rfl 0 (by decide) (hT _ tw_330) (fun _ h9 => h9) rfl dd_MO_drop_37 ?_
            refine lv_iload_n hx hb dd_MO_drop_40 rfl (lv_at hl 0 rfl) ?_
            refine lv_aload_n hx hb dd_MO_drop_41 rfl (lv_at hl 1 rfl) ?_
            refine va_get (D := D) (cl := classes) (ci := 2) (C := R_MO) (T := F_MO) (N := 7) hx hb hT in_MO hown hK hP 0 rfl rfl 0 (by decide) (hT _ tw_330) (fun _ h9 => h9) rfl dd_MO_drop_42 ?_
            refine lv_iload_n hx hb dd_MO_drop_45 rfl (lv_at hl 0 rfl) ?_
            refine lv_iconst (v := 1) hx hb dd_MO_drop_46 (by decide) ?_
            refine lv_iadd hx hb dd_MO_drop_47 ?_
            rw [tq_1s]
            refine tq_lald (k := (k + 1)) hx hb hK hP 1 rfl (by omega) (by decide) dd_MO_drop_48 ?_
            refine tq_last (k := k) hx hb hK hP hD hS 1 rfl (by omega) (by decide) dd_MO_drop_49 (fun H locs hP hD hS => ?_)
            have hP : va_P D classes (wM cL h len n cl be 0 (vp_updL (shf ca q k) k (shf ca q k (k + 1))) (shf wa q k)) H := hP
            have hD : va_D A (wM cL h len n cl be 0 (vp_updL (shf ca q k) k (shf ca q k (k + 1))) (shf wa q k)) := hD
            refine lv_aload_n hx hb dd_MO_drop_50 rfl (lv_at hl 1 rfl) ?_
            refine va_get (D := D) (cl := classes) (ci := 2) (C := R_MO) (T := F_MO) (N := 7) hx hb hT in_MO hown hK hP 0 rfl rfl 1 (by decide) (hT _ tw_331) (fun _ h9 => h9) rfl dd_MO_drop_51 ?_
            refine lv_iload_n hx hb dd_MO_drop_54 rfl (lv_at hl 0 rfl) ?_
            refine lv_aload_n hx hb dd_MO_drop_55 rfl (lv_at hl 1 rfl) ?_
            refine va_get (D := D) (cl := classes) (ci := 2) (C := R_MO) (T := F_MO) (N := 7) hx hb hT in_MO hown hK hP 0 rfl rfl 1 (by decide) (hT _ tw_331) (fun _ h9 => h9) rfl dd_MO_drop_56 ?_
            refine lv_iload_n hx hb dd_MO_drop_59 rfl (lv_at hl 0 rfl) ?_
            refine lv_iconst (v := 1) hx hb dd_MO_drop_60 (by decide) ?_
            refine lv_iadd hx hb dd_MO_drop_61 ?_
            rw [tq_1s]
            refine tq_lald (k := (k + 1)) hx hb hK hP 2 rfl (by omega) (by decide) dd_MO_drop_62 ?_
            refine tq_last (k := k) hx hb hK hP hD hS 2 rfl (by omega) (by decide) dd_MO_drop_63 (fun H locs hP hD hS => ?_)
            have hP : va_P D classes (wM cL h len n cl be 0 (vp_updL (shf ca q k) k (shf ca q k (k + 1))) (vp_updL (shf wa q k) k (shf wa q k (k + 1)))) H := hP
            have hD : va_D A (wM cL h len n cl be 0 (vp_updL (shf ca q k) k (shf ca q k (k + 1))) (vp_updL (shf wa q k) k (shf wa q k (k + 1)))) := hD
            rw [shf_s ca hqk, shf_s wa hqk] at hP hD
            refine lv_iinc (k := 0) hx hb dd_MO_drop_64 hl rfl (tq_inc k) (by decide) rfl (fun ls hl => ?_)
            have hl : lv_has ls 3 [(2, .int (nI (k + 1))), (0, .ref (h 0))] := hl
            refine lv_goto (tgt := 26) hx hb dd_MO_drop_67 (by decide) ?_
            exact ih (k + 1) H locs ls (by omega) (by omega) hP hD hS hl
      rw [← shf_0 ca q, ← shf_0 wa q] at hP hD
      exact loop (n - 1 - q) q _ _ ls (by omega) (Nat.le_refl _) hP hD hS hl
    · refine lv_aload_n hx hb dd_MO_drop_17 rfl (lv_at hl 0 rfl) ?_
      refine lv_iconst (v := 1) hx hb dd_MO_drop_18 (by decide) ?_
      refine MT.callV (c_MO_fail l D cI cL h len n cl be 0 ca wa 1) vs_MO_39 ⟨hx, hb, hml, hown, hT⟩ ⟨hK, hX, hSK _ _ hS, hP, hD, hS, hA⟩ (tq_J.same _) 0 rfl rfl (by decide) rfl hl.1 rfl (Nat.le_of_ble_eq_true rfl) dd_MO_drop_19 ⟨by decide, by decide⟩ (fun v u H locs hp hP hD hS => ?_) (fun x C u H locs hp hxf hP hD hS => hp.elim)
      obtain ⟨r1, rfl, hr1, rfl⟩ := hp
      have eA : (sDrop n ca wa i) = (1, n, ca, wa) := by unfold sDrop; rw [if_neg (fun hh => hc2 hh.2)]
      refine lv_pop hx hb dd_MO_drop_22 rfl ?_
      exact ret (len, n, cl, be, 1, ca, wa) H locs 0 0 23 ls (by rw [eA]) hP hD hS (Nat.zero_le _) (Nat.zero_le _) dd_MO_drop_23
end
section
set_option maxRecDepth 20000 in
theorem c_MO_decode (l : Launch) (D : va_G) (cI cL : ClassId) (h : Nat → Nat) (len n : Nat) (cl be th : Int32) (ca wa : Nat → Int64) (w : Int64) (hn : n ≤ 512) (hu : ∀ i j, i < n → j < n → tk ca wa w i = true → tk ca wa w j = true → i = j) : MT (S := MS) l yy_MO_decode bb_MO_decode 6 (some .int) [] (rmK 0) D cI cL [.ref (h 0), .long w] (wM cL h len n cl be th ca wa) (fun u => wMs cL h u) (pI (fun r u => r = ff (tk ca wa w) n ∧ u = (len, n, cl, be, 0, ca, wa))) (nx) := by
  refine MT.mkI (by decide) (Nat.le_of_ble_eq_true rfl) ?_
  intro p e s m below meth c A Q B ret lv ls hl
  obtain ⟨hx, hb, hml, hown, hT, hK, hX, hSK, hA, hP, hD, hS, htab, hcode, hpl⟩ := B
  have hown : s.vm.findClass "PatternTreeModel" = some m.cls := hown
  have hl : lv_has ls 6 [(0, .ref (h 0)), (1, .long w)] := hl
  refine lv_aload_n hx hb dd_MO_decode_0 rfl (lv_at hl 0 rfl) ?_
  refine lv_iconst (v := 0) hx hb dd_MO_decode_1 (by decide) ?_
  refine va_put (D := D) (cl := classes) (ci := 2) (ty := .int) (C := R_MO) (T := F_MO) (N := 7) hx hb hT in_MO t_MO t_MO_ok n_MO hown hK hP hD hS 0 rfl rfl 6 (by decide) (hT _ tw_336) (fun _ h9 => h9) rfl (by decide +kernel) rfl rfl (Nat.le_of_ble_eq_true rfl) dd_MO_decode_2 (fun H locs hP hD hS => ?_)
  have hP : va_P D classes (wM cL h len n cl be 0 ca wa) H := hP
  have hD : va_D A (wM cL h len n cl be 0 ca wa) := hD
  refine lv_iconst (v := 0) hx hb dd_MO_decode_5 (by decide) ?_
  refine lv_topi (fun v6 e6 => ?_)
  obtain rfl : v6 = 0 := e6
  refine lv_istore_n hx hb dd_MO_decode_6 rfl hl (by decide) rfl (fun ls hl => ?_)
  have hl : lv_has ls 6 [(3, .int 0), (0, .ref (h 0)), (1, .long w)] := hl
  refine lv_iconst (v := -1) hx hb dd_MO_decode_7 (by decide) ?_
  refine lv_topi (fun v8 e8 => ?_)
  obtain rfl : v8 = -1 := e8
  refine lv_istore hx hb dd_MO_decode_8 hl (by decide) rfl (fun ls hl => ?_)
  have hl : lv_has ls 6 [(4, .int (-1)), (3, .int 0), (0, .ref (h 0)), (1, .long w)] := hl
  refine lv_iconst (v := 0) hx hb dd_MO_decode_10 (by decide) ?_
  refine lv_topi (fun v11 e11 => ?_)
  obtain rfl : v11 = nI 0 := e11
  refine lv_istore hx hb dd_MO_decode_11 hl (by decide) rfl (fun ls hl => ?_)
  have hl : lv_has ls 6 [(5, .int (nI 0)), (4, .int (-1)), (3, .int 0), (0, .ref (h 0)), (1, .long w)] := hl
  have loop : ∀ (j k : Nat) (fo co : Int32) (ls : Array Slot), k + j = n → ((co = 0 ∧ fo = -1 ∧ ff (tk ca wa w) n = ffr (tk ca wa w) k j) ∨ (co = 1 ∧ fo = ff (tk ca wa w) n ∧ ∃ i, i < k ∧ i < n ∧ tk ca wa w i = true)) → lv_has ls 6 [(5, .int (nI k)), (4, .int fo), (3, .int co), (0, .ref (h 0)), (1, .long w)] → W p l e (rmK 0) s m ([.ref (h 0), .long w] : List Value).toArray below meth c H locs 0 0 Q (F0 m 13 ls []) := by
    intro j
    induction j with
    | zero =>
      intro k fo co ls hkj hinv hl
      refine lv_iload hx hb dd_MO_decode_13 (lv_at hl 0 rfl) ?_
      refine lv_aload_n hx hb dd_MO_decode_15 rfl (lv_at hl 3 rfl) ?_
      refine va_get (D := D) (cl := classes) (ci := 2) (C := R_MO) (T := F_MO) (N := 7) hx hb hT in_MO hown hK hP 0 rfl rfl 2 (by decide) (hT _ tw_332) (fun _ h9 => h9) rfl dd_MO_decode_16 ?_
      refine tq_ige (tgt := 62) hx hb (by omega) (by omega) dd_MO_decode_19 (by decide) (fun hc => ?_) (fun hc => ?_)
      · have hfo : fo = ff (tk ca wa w) n := by
          rcases hinv with ⟨-, h2, h3⟩ | ⟨-, h2, -⟩
          · rw [h2, h3]; rfl
          · exact h2
        have hco : co ≤ 1 := by rcases hinv with ⟨h1, -⟩ | ⟨h1, -⟩ <;> rw [h1] <;> decide
        refine lv_iload_n hx hb dd_MO_decode_62 rfl (lv_at hl 2 rfl) ?_
        refine lv_iconst (v := 1) hx hb dd_MO_decode_63 (by decide) ?_
        refine lv_icmp_le (tgt := 79) hx hb dd_MO_decode_64 (by decide) (fun hc2 => ?_) (fun hc2 => ?_)
        · refine lv_iload hx hb dd_MO_decode_79 (lv_at hl 1 rfl) ?_
          exact ret _ (len, n, cl, be, 0, ca, wa) H locs 0 0 81 ls ⟨hfo, rfl⟩ hP hD hS (Nat.zero_le _) (Nat.zero_le _) rfl dd_MO_decode_81
        · exact absurd hco hc2
      · omega
    | succ j ih =>
      intro k fo co ls hkj hinv hl
      refine lv_iload hx hb dd_MO_decode_13 (lv_at hl 0 rfl) ?_
      refine lv_aload_n hx hb dd_MO_decode_15 rfl (lv_at hl 3 rfl) ?_
      refine va_get (D := D) (cl := classes) (ci := 2) (C := R_MO) (T := F_MO) (N := 7) hx hb hT in_MO hown hK hP 0 rfl rfl 2 (by decide) (hT _ tw_332) (fun _ h9 => h9) rfl dd_MO_decode_16 ?_
      refine tq_ige (tgt := 62) hx hb (by omega) (by omega) dd_MO_decode_19 (by decide) (fun hc => ?_) (fun hc => ?_)
      · omega
      · refine lv_lload_n hx hb dd_MO_decode_22 rfl (lv_at hl 4 rfl) ?_
        refine lv_aload_n hx hb dd_MO_decode_23 rfl (lv_at hl 3 rfl) ?_
        refine va_get (D := D) (cl := classes) (ci := 2) (C := R_MO) (T := F_MO) (N := 7) hx hb hT in_MO hown hK hP 0 rfl rfl 0 (by decide) (hT _ tw_330) (fun _ h9 => h9) rfl dd_MO_decode_24 ?_
        refine lv_iload hx hb dd_MO_decode_27 (lv_at hl 0 rfl) ?_
        refine tq_lald (k := k) hx hb hK hP 1 rfl (by omega) (by decide) dd_MO_decode_29 ?_
        refine lv_land hx hb dd_MO_decode_30 ?_
        refine lv_aload_n hx hb dd_MO_decode_31 rfl (lv_at hl 3 rfl) ?_
        refine va_get (D := D) (cl := classes) (ci := 2) (C := R_MO) (T := F_MO) (N := 7) hx hb hT in_MO hown hK hP 0 rfl rfl 1 (by decide) (hT _ tw_331) (fun _ h9 => h9) rfl dd_MO_decode_32 ?_
        refine lv_iload hx hb dd_MO_decode_35 (lv_at hl 0 rfl) ?_
        refine tq_lald (k := k) hx hb hK hP 2 rfl (by omega) (by decide) dd_MO_decode_37 ?_
        refine tq_leq (tgt := 45) hx hb dd_MO_decode_38 dd_MO_decode_39 (by decide) (fun ht => ?_) (fun ht => ?_)
        · have htk : tk ca wa w k = true := decide_eq_true ht
          have hco : co = 0 ∧ fo = -1 ∧ ff (tk ca wa w) n = ffr (tk ca wa w) k (j + 1) := by
            rcases hinv with h1 | ⟨-, -, i, hi, hin, h3⟩
            · exact h1
            · exact absurd (hu i k hin (by omega) h3 htk) (by omega)
          obtain ⟨rfl, rfl, hf⟩ := hco
          have hff : ff (tk ca wa w) n = nI k := by rw [hf]; simp [ffr, htk]
          refine lv_iload_n hx hb dd_MO_decode_45 rfl (lv_at hl 2 rfl) ?_
          refine lv_if_ne (tgt := 53) hx hb dd_MO_decode_46 (by decide) (fun hz => ?_) (fun hz => ?_)
          · exact absurd rfl hz
          · refine lv_iload hx hb dd_MO_decode_49 (lv_at hl 0 rfl) ?_
            refine lv_topi (fun v51 e51 => ?_)
            obtain rfl : v51 = nI k := e51
            refine lv_istore hx hb dd_MO_decode_51 hl (by decide) rfl (fun ls hl => ?_)
            have hl : lv_has ls 6 [(4, .int (nI k)), (5, .int (nI k)), (3, .int 0), (0, .ref (h 0)), (1, .long w)] := hl
            refine lv_iinc (k := 2) hx hb dd_MO_decode_53 hl rfl (show (0 : Int32) + Int32.ofInt 1 = 1 by decide) (by decide) rfl (fun ls hl => ?_)
            have hl : lv_has ls 6 [(3, .int 1), (4, .int (nI k)), (5, .int (nI k)), (0, .ref (h 0)), (1, .long w)] := hl
            refine lv_iinc (k := 2) hx hb dd_MO_decode_56 hl rfl (tq_inc k) (by decide) rfl (fun ls hl => ?_)
            have hl : lv_has ls 6 [(5, .int (nI (k + 1))), (3, .int 1), (4, .int (nI k)), (0, .ref (h 0)), (1, .long w)] := hl
            refine lv_goto (tgt := 13) hx hb dd_MO_decode_59 (by decide) ?_
            exact ih (k + 1) _ _ ls (by omega) (Or.inr ⟨rfl, hff.symm, k, by omega, by omega, htk⟩) (lv_sub hl [0, 2, 1, 3, 4] rfl)
        · have htk : tk ca wa w k = false := decide_eq_false ht
          refine lv_goto (tgt := 56) hx hb dd_MO_decode_42 (by decide) ?_
          refine lv_iinc (k := 0) hx hb dd_MO_decode_56 hl rfl (tq_inc k) (by decide) rfl (fun ls hl => ?_)
          have hl : lv_has ls 6 [(5, .int (nI (k + 1))), (4, .int fo), (3, .int co), (0, .ref (h 0)), (1, .long w)] := hl
          refine lv_goto (tgt := 13) hx hb dd_MO_decode_59 (by decide) ?_
          refine ih (k + 1) fo co ls (by omega) ?_ (lv_sub hl [0, 1, 2, 3, 4] rfl)
          rcases hinv with ⟨h1, h2, h3⟩ | ⟨h1, h2, i, hi, hin, h3⟩
          · exact Or.inl ⟨h1, h2, by rw [h3]; simp [ffr, htk]⟩
          · exact Or.inr ⟨h1, h2, i, by omega, hin, h3⟩
  exact loop n 0 (-1) 0 ls (by omega) (Or.inl ⟨rfl, rfl, rfl⟩) hl
set_option maxRecDepth 20000 in
theorem c_MO_meets (l : Launch) (D : va_G) (cI cL : ClassId) (h : Nat → Nat) (len n : Nat) (cl be th : Int32) (ca wa : Nat → Int64) (c0 w : Int64) (hlen : len ≤ 64) (hn : n ≤ 512) : MT (S := MS) l yy_MO_meets bb_MO_meets 5 (some .int) [] (rmK 3) D cI cL [.ref (h 0), .long c0, .long w] (wM cL h len n cl be th ca wa) (fun u => wMs cL h u) (pI (fun r u => r = (if isP len c0 w then ff (msh len ca wa c0 w) n else 0) ∧ u = (len, n, cl, be, (if isP len c0 w then 0 else 1), ca, wa))) (nx) := by
  refine MT.mkI (by decide) (Nat.le_of_ble_eq_true rfl) ?_
  intro p e s m below meth c A Q B ret lv ls hl
  obtain ⟨hx, hb, hml, hown, hT, hK, hX, hSK, hA, hP, hD, hS, htab, hcode, hpl⟩ := B
  have hown : s.vm.findClass "PatternTreeModel" = some m.cls := hown
  have hl : lv_has ls 5 [(0, .ref (h 0)), (1, .long c0), (3, .long w)] := hl
  refine lv_aload_n hx hb dd_MO_meets_0 rfl (lv_at hl 0 rfl) ?_
  refine lv_iconst (v := 0) hx hb dd_MO_meets_1 (by decide) ?_
  refine va_put (D := D) (cl := classes) (ci := 2) (ty := .int) (C := R_MO) (T := F_MO) (N := 7) hx hb hT in_MO t_MO t_MO_ok n_MO hown hK hP hD hS 0 rfl rfl 6 (by decide) (hT _ tw_336) (fun _ h9 => h9) rfl (by decide +kernel) rfl rfl (Nat.le_of_ble_eq_true rfl) dd_MO_meets_2 (fun H locs hP hD hS => ?_)
  have hP : va_P D classes (wM cL h len n cl be 0 ca wa) H := hP
  have hD : va_D A (wM cL h len n cl be 0 ca wa) := hD
  refine lv_aload_n hx hb dd_MO_meets_5 rfl (lv_at hl 0 rfl) ?_
  refine lv_lload_n hx hb dd_MO_meets_6 rfl (lv_at hl 1 rfl) ?_
  refine lv_lload_n hx hb dd_MO_meets_7 rfl (lv_at hl 2 rfl) ?_
  refine RdI.callV (c_MO_wrong l D cI cL h len n cl be 0 ca wa c0 w hlen) vs_MO_43 ⟨hx, hb, hml, hown, hT⟩ hK hP 0 rfl rfl ⟨rfl, rfl⟩ (by decide) rfl hl.1 rfl (Nat.le_of_ble_eq_true rfl) dd_MO_meets_8 ⟨Nat.zero_le _, Nat.zero_le _⟩ (fun r hr => ?_)
  subst hr
  refine lv_if_eq (tgt := 22) hx hb dd_MO_meets_11 (by decide) (fun hc => ?_) (fun hc => ?_)
  · have hP1 : isP len c0 w = true := by cases hb2 : isP len c0 w <;> simp_all [b2i]
    refine lv_aload_n hx hb dd_MO_meets_22 rfl (lv_at hl 0 rfl) ?_
    refine lv_lload_n hx hb dd_MO_meets_23 rfl (lv_at hl 1 rfl) ?_
    refine lv_lload_n hx hb dd_MO_meets_24 rfl (lv_at hl 2 rfl) ?_
    refine RdI.callV (c_MO_first l D cI cL h len n cl be 0 ca wa c0 w hlen hn) vs_MO_47 ⟨hx, hb, hml, hown, hT⟩ hK hP 0 rfl rfl ⟨rfl, rfl⟩ (by decide) rfl hl.1 rfl (Nat.le_of_ble_eq_true rfl) dd_MO_meets_25 ⟨Nat.zero_le _, Nat.zero_le _⟩ (fun r hr => ?_)
    subst hr
    exact ret _ (len, n, cl, be, 0, ca, wa) H locs 0 0 28 ls ⟨by rw [hP1]; rfl, by rw [hP1]; rfl⟩ hP hD hS (Nat.zero_le _) (Nat.zero_le _) rfl dd_MO_meets_28
  · have hP1 : isP len c0 w = false := by cases hb2 : isP len c0 w <;> simp_all [b2i]
    refine lv_aload_n hx hb dd_MO_meets_14 rfl (lv_at hl 0 rfl) ?_
    refine lv_iconst (v := 1) hx hb dd_MO_meets_15 (by decide) ?_
    refine MT.callV (c_MO_fail l D cI cL h len n cl be 0 ca wa 1) vs_MO_39 ⟨hx, hb, hml, hown, hT⟩ ⟨hK, hX, hSK _ _ hS, hP, hD, hS, hA⟩ (tq_J.same _) 0 rfl rfl (by decide) rfl hl.1 rfl (Nat.le_of_ble_eq_true rfl) dd_MO_meets_16 ⟨by decide, by decide⟩ (fun v u H locs hp hP hD hS => ?_) (fun x C u H locs hp hxf hP hD hS => hp.elim)
    obtain ⟨r1, rfl, hr1, rfl⟩ := hp
    subst hr1
    refine lv_goto (tgt := 28) hx hb dd_MO_meets_19 (by decide) ?_
    exact ret _ (len, n, cl, be, 1, ca, wa) H locs 0 0 28 ls ⟨by rw [hP1]; rfl, by rw [hP1]; rfl⟩ hP hD hS (Nat.zero_le _) (Nat.zero_le _) rfl dd_MO_meets_28
set_option maxRecDepth 20000 in
theorem c_MO_free (l : Launch) (D : va_G) (cI cL : ClassId) (h : Nat → Nat) (len n : Nat) (cl be th : Int32) (ca wa : Nat → Int64) (c0 w : Int64) (hlen : len ≤ 64) (hn : n ≤ 512) : MT (S := MS) l yy_MO_free bb_MO_free 5 (some .long) [] (rmK 3) D cI cL [.ref (h 0), .long c0, .long w] (wM cL h len n cl be th ca wa) (fun u => wMs cL h u) (pL (fun r u => r = (if isP len c0 w then mnone len n ca wa c0 w else 0) ∧ u = (len, n, cl, be, (if isP len c0 w then 0 else 1), ca, wa))) (nx) := by
  refine MT.mkL (by decide) (Nat.le_of_ble_eq_true rfl) ?_
  intro p e s m below meth c A Q B ret lv ls hl
  obtain ⟨hx, hb, hml, hown, hT, hK, hX, hSK, hA, hP, hD, hS, htab, hcode, hpl⟩ := B
  have hown : s.vm.findClass "PatternTreeModel" = some m.cls := hown
  have hl : lv_has ls 5 [(0, .ref (h 0)), (1, .long c0), (3, .long w)] := hl
  refine lv_aload_n hx hb dd_MO_free_0 rfl (lv_at hl 0 rfl) ?_
  refine lv_iconst (v := 0) hx hb dd_MO_free_1 (by decide) ?_
  refine va_put (D := D) (cl := classes) (ci := 2) (ty := .int) (C := R_MO) (T := F_MO) (N := 7) hx hb hT in_MO t_MO t_MO_ok n_MO hown hK hP hD hS 0 rfl rfl 6 (by decide) (hT _ tw_336) (fun _ h9 => h9) rfl (by decide +kernel) rfl rfl (Nat.le_of_ble_eq_true rfl) dd_MO_free_2 (fun H locs hP hD hS => ?_)
  have hP : va_P D classes (wM cL h len n cl be 0 ca wa) H := hP
  have hD : va_D A (wM cL h len n cl be 0 ca wa) := hD
  refine lv_aload_n hx hb dd_MO_free_5 rfl (lv_at hl 0 rfl) ?_
  refine lv_lload_n hx hb dd_MO_free_6 rfl (lv_at hl 1 rfl) ?_
  refine lv_lload_n hx hb dd_MO_free_7 rfl (lv_at hl 2 rfl) ?_
  refine RdI.callV (c_MO_wrong l D cI cL h len n cl be 0 ca wa c0 w hlen) vs_MO_43 ⟨hx, hb, hml, hown, hT⟩ hK hP 0 rfl rfl ⟨rfl, rfl⟩ (by decide) rfl hl.1 rfl (Nat.le_of_ble_eq_true rfl) dd_MO_free_8 ⟨Nat.zero_le _, Nat.zero_le _⟩ (fun r hr => ?_)
  subst hr
  refine lv_if_eq (tgt := 23) hx hb dd_MO_free_11 (by decide) (fun hc => ?_) (fun hc => ?_)
  · have hP1 : isP len c0 w = true := by cases hb2 : isP len c0 w <;> simp_all [b2i]
    refine lv_aload_n hx hb dd_MO_free_23 rfl (lv_at hl 0 rfl) ?_
    refine lv_lload_n hx hb dd_MO_free_24 rfl (lv_at hl 1 rfl) ?_
    refine lv_lload_n hx hb dd_MO_free_25 rfl (lv_at hl 2 rfl) ?_
    refine RdL.callV (c_MO_none l D cI cL h len n cl be 0 ca wa c0 w hlen hn) vs_MO_69 ⟨hx, hb, hml, hown, hT⟩ hK hP 0 rfl rfl ⟨rfl, rfl⟩ (by decide) rfl hl.1 rfl (Nat.le_of_ble_eq_true rfl) dd_MO_free_26 ⟨Nat.zero_le _, Nat.zero_le _⟩ (fun r hr => ?_)
    subst hr
    exact ret _ (len, n, cl, be, 0, ca, wa) H locs 0 0 29 ls ⟨by rw [hP1]; rfl, by rw [hP1]; rfl⟩ hP hD hS (Nat.zero_le _) (Nat.zero_le _) dd_MO_free_29
  · have hP1 : isP len c0 w = false := by cases hb2 : isP len c0 w <;> simp_all [b2i]
    refine lv_aload_n hx hb dd_MO_free_14 rfl (lv_at hl 0 rfl) ?_
    refine lv_iconst (v := 1) hx hb dd_MO_free_15 (by decide) ?_
    refine MT.callV (c_MO_fail l D cI cL h len n cl be 0 ca wa 1) vs_MO_39 ⟨hx, hb, hml, hown, hT⟩ ⟨hK, hX, hSK _ _ hS, hP, hD, hS, hA⟩ (tq_J.same _) 0 rfl rfl (by decide) rfl hl.1 rfl (Nat.le_of_ble_eq_true rfl) dd_MO_free_16 ⟨by decide, by decide⟩ (fun v u H locs hp hP hD hS => ?_) (fun x C u H locs hp hxf hP hD hS => hp.elim)
    obtain ⟨r1, rfl, hr1, rfl⟩ := hp
    subst hr1
    refine lv_i2l hx hb dd_MO_free_19 rfl ?_
    refine lv_goto (tgt := 29) hx hb dd_MO_free_20 (by decide) ?_
    exact ret _ (len, n, cl, be, 1, ca, wa) H locs 0 0 29 ls ⟨by rw [hP1]; rfl, by rw [hP1]; rfl⟩ hP hD hS (Nat.zero_le _) (Nat.zero_le _) dd_MO_free_29
def mNext (len n : Nat) (ca wa : Nat → Int64) (w : Int64) : Int32 × Int64 :=
  if msome len n ca wa (mk len) (w &&& mk len) then (0, w &&& mk len) else match pnx (msome len n ca wa) (mk len) (w &&& mk len) 0 len with
    | some v => (0, v)
    | none => (1, 0)
theorem and_sh1 {x : Int64} {b : Nat} (hb : b < 64) : (x &&& sh1 b) = 0 ↔ bt x b = false := by
  constructor
  · intro h
    have h2 := congrArg (fun y => bt y b) h
    simp only [bt_and, bt_sh1 hb hb] at h2
    simpa [bt] using h2
  · intro h
    apply bt_ext
    intro i hi
    rw [bt_and, bt_sh1 hb hi]
    by_cases e : i = b
    · subst e; rw [h]; simp [bt]
    · simp [e, bt]
set_option maxRecDepth 20000 in
theorem c_MO_next (l : Launch) (D : va_G) (cI cL : ClassId) (h : Nat → Nat) (len n : Nat) (cl be th : Int32) (ca wa : Nat → Int64) (w : Int64) (hlen : len ≤ 64) (hn : n ≤ 512) : MT (S := MS) l yy_MO_next bb_MO_next 13 (some .long) [] (rmK 4) D cI cL [.ref (h 0), .long w] (wM cL h len n cl be th ca wa) (fun u => wMs cL h u) (pL (fun r u => r = (mNext len n ca wa w).2 ∧ u = (len, n, cl, be, (mNext len n ca wa w).1, ca, wa))) (nx) := by
  refine MT.mkL (by decide) (Nat.le_of_ble_eq_true rfl) ?_
  intro p e s m below meth c A Q B ret lv ls hl
  obtain ⟨hx, hb, hml, hown, hT, hK, hX, hSK, hA, hP, hD, hS, htab, hcode, hpl⟩ := B
  have hown : s.vm.findClass "PatternTreeModel" = some m.cls := hown
  have hl : lv_has ls 13 [(0, .ref (h 0)), (1, .long w)] := hl
  refine lv_aload_n hx hb dd_MO_next_0 rfl (lv_at hl 0 rfl) ?_
  refine lv_iconst (v := 0) hx hb dd_MO_next_1 (by decide) ?_
  refine va_put (D := D) (cl := classes) (ci := 2) (ty := .int) (C := R_MO) (T := F_MO) (N := 7) hx hb hT in_MO t_MO t_MO_ok n_MO hown hK hP hD hS 0 rfl rfl 6 (by decide) (hT _ tw_336) (fun _ h9 => h9) rfl (by decide +kernel) rfl rfl (Nat.le_of_ble_eq_true rfl) dd_MO_next_2 (fun H locs hP hD hS => ?_)
  have hP : va_P D classes (wM cL h len n cl be 0 ca wa) H := hP
  have hD : va_D A (wM cL h len n cl be 0 ca wa) := hD
  refine lv_lload_n hx hb dd_MO_next_5 rfl (lv_at hl 1 rfl) ?_
  refine lv_aload_n hx hb dd_MO_next_6 rfl (lv_at hl 0 rfl) ?_
  refine RdL.callV (c_MO_mask l D cI cL h len n cl be 0 ca wa hlen) vs_MO_28 ⟨hx, hb, hml, hown, hT⟩ hK hP 0 rfl rfl ⟨rfl, rfl⟩ (by decide) rfl hl.1 rfl (Nat.le_of_ble_eq_true rfl) dd_MO_next_7 ⟨Nat.zero_le _, Nat.zero_le _⟩ (fun r hr => ?_)
  subst hr
  refine lv_land hx hb dd_MO_next_10 ?_
  refine lv_topl (fun v11 e11 => ?_)
  obtain rfl : v11 = (w &&& mk len) := e11
  refine lv_lstore_n hx hb dd_MO_next_11 rfl hl (by decide) rfl (fun ls hl => ?_)
  have hl : lv_has ls 13 [(3, .long ((w &&& mk len))), (0, .ref (h 0)), (1, .long w)] := hl
  refine lv_aload_n hx hb dd_MO_next_12 rfl (lv_at hl 1 rfl) ?_
  refine lv_aload_n hx hb dd_MO_next_13 rfl (lv_at hl 1 rfl) ?_
  refine RdL.callV (c_MO_mask l D cI cL h len n cl be 0 ca wa hlen) vs_MO_28 ⟨hx, hb, hml, hown, hT⟩ hK hP 0 rfl rfl ⟨rfl, rfl⟩ (by decide) rfl hl.1 rfl (Nat.le_of_ble_eq_true rfl) dd_MO_next_14 ⟨Nat.zero_le _, Nat.zero_le _⟩ (fun r hr => ?_)
  subst hr
  refine lv_lload_n hx hb dd_MO_next_17 rfl (lv_at hl 0 rfl) ?_
  refine RdI.callV (c_MO_some l D cI cL h len n cl be 0 ca wa (mk len) (w &&& mk len) hlen hn) vs_MO_73 ⟨hx, hb, hml, hown, hT⟩ hK hP 0 rfl rfl ⟨rfl, rfl⟩ (by decide) rfl hl.1 rfl (Nat.le_of_ble_eq_true rfl) dd_MO_next_18 ⟨Nat.zero_le _, Nat.zero_le _⟩ (fun r hr => ?_)
  subst hr
  refine lv_if_eq (tgt := 26) hx hb dd_MO_next_21 (by decide) (fun hc => ?_) (fun hc => ?_)
  · have hs : msome len n ca wa (mk len) (w &&& mk len) = false := by cases hb2 : msome len n ca wa (mk len) (w &&& mk len) <;> simp_all [b2i]
    refine lv_iconst (v := 0) hx hb dd_MO_next_26 (by decide) ?_
    refine lv_topi (fun v27 e27 => ?_)
    obtain rfl : v27 = nI 0 := e27
    refine lv_istore hx hb dd_MO_next_27 hl (by decide) rfl (fun ls hl => ?_)
    have hl : lv_has ls 13 [(5, .int (nI 0)), (3, .long ((w &&& mk len))), (0, .ref (h 0)), (1, .long w)] := hl
    have hl : lv_has ls 13 [(5, .int (nI 0)), (3, .long (w &&& mk len)), (0, .ref (h 0))] := lv_sub hl [0, 1, 2] rfl
    have loop : ∀ (j b : Nat) (ls : Array Slot), b + j = len → pnx (msome len n ca wa) (mk len) (w &&& mk len) 0 len = pnx (msome len n ca wa) (mk len) (w &&& mk len) b j → lv_has ls 13 [(5, .int (nI b)), (3, .long (w &&& mk len)), (0, .ref (h 0))] → W p l e (rmK 4) s m ([.ref (h 0), .long w] : List Value).toArray below meth c H locs 0 0 Q (F0 m 29 ls []) := by
      intro j
      induction j with
      | zero =>
        intro b ls hbj hf hl
        refine lv_iload hx hb dd_MO_next_29 (lv_at hl 0 rfl) ?_
        refine lv_aload_n hx hb dd_MO_next_31 rfl (lv_at hl 2 rfl) ?_
        refine va_get (D := D) (cl := classes) (ci := 2) (C := R_MO) (T := F_MO) (N := 7) hx hb hT in_MO hown hK hP 0 rfl rfl 3 (by decide) (hT _ tw_333) (fun _ h9 => h9) rfl dd_MO_next_32 ?_
        refine tq_ige (tgt := 149) hx hb (by omega) (by omega) dd_MO_next_35 (by decide) (fun hc => ?_) (fun hc => ?_)
        · refine lv_aload_n hx hb dd_MO_next_149 rfl (lv_at hl 2 rfl) ?_
          refine lv_iconst (v := 1) hx hb dd_MO_next_150 (by decide) ?_
          refine MT.callV (c_MO_fail l D cI cL h len n cl be 0 ca wa 1) vs_MO_39 ⟨hx, hb, hml, hown, hT⟩ ⟨hK, hX, hSK _ _ hS, hP, hD, hS, hA⟩ (tq_J.same _) 0 rfl rfl (by decide) rfl hl.1 rfl (Nat.le_of_ble_eq_true rfl) dd_MO_next_151 ⟨by decide, by decide⟩ (fun v u H locs hp hP hD hS => ?_) (fun x C u H locs hp hxf hP hD hS => hp.elim)
          obtain ⟨r1, rfl, hr1, rfl⟩ := hp
          subst hr1
          have eR : (mNext len n ca wa w) = (1, 0) := by unfold mNext; rw [if_neg (by rw [hs]; decide), hf]; rfl
          refine lv_i2l hx hb dd_MO_next_154 rfl ?_
          exact ret _ (len, n, cl, be, 1, ca, wa) H locs 0 0 155 ls ⟨by rw [eR]; rfl, by rw [eR]⟩ hP hD hS (Nat.zero_le _) (Nat.zero_le _) dd_MO_next_155
        · omega
      | succ j ih =>
        intro b ls hbj hf hl
        refine lv_iload hx hb dd_MO_next_29 (lv_at hl 0 rfl) ?_
        refine lv_aload_n hx hb dd_MO_next_31 rfl (lv_at hl 2 rfl) ?_
        refine va_get (D := D) (cl := classes) (ci := 2) (C := R_MO) (T := F_MO) (N := 7) hx hb hT in_MO hown hK hP 0 rfl rfl 3 (by decide) (hT _ tw_333) (fun _ h9 => h9) rfl dd_MO_next_32 ?_
        refine tq_ige (tgt := 149) hx hb (by omega) (by omega) dd_MO_next_35 (by decide) (fun hc => ?_) (fun hc => ?_)
        · omega
        · refine lv_lconst (v := 1) hx hb dd_MO_next_38 (by decide) ?_
          refine lv_iload hx hb dd_MO_next_39 (lv_at hl 0 rfl) ?_
          refine lv_lshl hx hb dd_MO_next_41 rfl ?_
          refine lv_topl (fun v42 e42 => ?_)
          obtain rfl : v42 = sh1 b := e42
          refine lv_lstore hx hb dd_MO_next_42 hl (by decide) rfl (fun ls hl => ?_)
          have hl : lv_has ls 13 [(6, .long (sh1 b)), (5, .int (nI b)), (3, .long (w &&& mk len)), (0, .ref (h 0))] := hl
          refine lv_lload_n hx hb dd_MO_next_44 rfl (lv_at hl 2 rfl) ?_
          refine lv_lload hx hb dd_MO_next_45 (lv_at hl 0 rfl) ?_
          refine lv_land hx hb dd_MO_next_47 ?_
          refine lv_lconst (v := 0) hx hb dd_MO_next_48 (by decide) ?_
          refine tq_leq (tgt := 56) hx hb dd_MO_next_49 dd_MO_next_50 (by decide) (fun ht => ?_) (fun ht => ?_)
          · have hbt : bt (w &&& mk len) b = false := (and_sh1 (by omega)).mp ht
            refine lv_aload_n hx hb dd_MO_next_56 rfl (lv_at hl 3 rfl) ?_
            refine RdL.callV (c_MO_mask l D cI cL h len n cl be 0 ca wa hlen) vs_MO_28 ⟨hx, hb, hml, hown, hT⟩ hK hP 0 rfl rfl ⟨rfl, rfl⟩ (by decide) rfl hl.1 rfl (Nat.le_of_ble_eq_true rfl) dd_MO_next_57 ⟨Nat.zero_le _, Nat.zero_le _⟩ (fun r hr => ?_)
            subst hr
            refine lv_lload hx hb dd_MO_next_60 (lv_at hl 0 rfl) ?_
            refine lv_lconst (v := 1) hx hb dd_MO_next_62 (by decide) ?_
            refine lv_lsub hx hb dd_MO_next_63 ?_
            refine lv_ldc2 (v := -1) hx hb hown (hT _ tw_372) dd_MO_next_64 ?_
            refine lv_lxor hx hb dd_MO_next_67 ?_
            refine lv_land hx hb dd_MO_next_68 ?_
            refine lv_topl (fun v69 e69 => ?_)
            obtain rfl : v69 = (mk len &&& ((sh1 b - 1) ^^^ (-1))) := e69
            refine lv_lstore hx hb dd_MO_next_69 hl (by decide) rfl (fun ls hl => ?_)
            have hl : lv_has ls 13 [(8, .long ((mk len &&& ((sh1 b - 1) ^^^ (-1))))), (6, .long (sh1 b)), (5, .int (nI b)), (3, .long (w &&& mk len)), (0, .ref (h 0))] := hl
            refine lv_lload_n hx hb dd_MO_next_71 rfl (lv_at hl 3 rfl) ?_
            refine lv_lload hx hb dd_MO_next_72 (lv_at hl 0 rfl) ?_
            refine lv_land hx hb dd_MO_next_74 ?_
            refine lv_lload hx hb dd_MO_next_75 (lv_at hl 1 rfl) ?_
            refine lv_lor hx hb dd_MO_next_77 ?_
            refine lv_topl (fun v78 e78 => ?_)
            obtain rfl : v78 = ((w &&& mk len) &&& (mk len &&& ((sh1 b - 1) ^^^ (-1))) ||| sh1 b) := e78
            refine lv_lstore hx hb dd_MO_next_78 hl (by decide) rfl (fun ls hl => ?_)
            have hl : lv_has ls 13 [(10, .long (((w &&& mk len) &&& (mk len &&& ((sh1 b - 1) ^^^ (-1))) ||| sh1 b))), (8, .long ((mk len &&& ((sh1 b - 1) ^^^ (-1))))), (6, .long (sh1 b)), (5, .int (nI b)), (3, .long (w &&& mk len)), (0, .ref (h 0))] := hl
            refine lv_aload_n hx hb dd_MO_next_80 rfl (lv_at hl 5 rfl) ?_
            refine lv_lload hx hb dd_MO_next_81 (lv_at hl 1 rfl) ?_
            refine lv_lload hx hb dd_MO_next_83 (lv_at hl 0 rfl) ?_
            refine RdI.callV (c_MO_some l D cI cL h len n cl be 0 ca wa (mk len &&& ((sh1 b - 1) ^^^ (-1))) ((w &&& mk len) &&& (mk len &&& ((sh1 b - 1) ^^^ (-1))) ||| sh1 b) hlen hn) vs_MO_73 ⟨hx, hb, hml, hown, hT⟩ hK hP 0 rfl rfl ⟨rfl, rfl⟩ (by decide) rfl hl.1 rfl (Nat.le_of_ble_eq_true rfl) dd_MO_next_85 ⟨Nat.zero_le _, Nat.zero_le _⟩ (fun r hr => ?_)
            subst hr
            refine lv_if_ne (tgt := 94) hx hb dd_MO_next_88 (by decide) (fun hs2 => ?_) (fun hs2 => ?_)
            · have hsm : msome len n ca wa (mk len &&& ((sh1 b - 1) ^^^ (-1))) ((w &&& mk len) &&& (mk len &&& ((sh1 b - 1) ^^^ (-1))) ||| sh1 b) = true := by cases hb2 : msome len n ca wa (mk len &&& ((sh1 b - 1) ^^^ (-1))) ((w &&& mk len) &&& (mk len &&& ((sh1 b - 1) ^^^ (-1))) ||| sh1 b) <;> simp_all [b2i]
              have eR : (mNext len n ca wa w) = (0, plst (msome len n ca wa) b (mk len &&& ((sh1 b - 1) ^^^ (-1))) ((w &&& mk len) &&& (mk len &&& ((sh1 b - 1) ^^^ (-1))) ||| sh1 b)) := by
                unfold mNext
                rw [if_neg (by rw [hs]; decide), hf]
                unfold pnx
                rw [if_neg (by rw [hbt]; decide), if_pos hsm]
              refine lv_iload hx hb dd_MO_next_94 (lv_at hl 3 rfl) ?_
              refine lv_iconst (v := 1) hx hb dd_MO_next_96 (by decide) ?_
              refine lv_isub hx hb dd_MO_next_97 ?_
              refine lv_topi (fun v98 e98 => ?_)
              obtain rfl : v98 = nI b - 1 := e98
              refine lv_istore hx hb dd_MO_next_98 hl (by decide) rfl (fun ls hl => ?_)
              have hl : lv_has ls 13 [(12, .int (nI b - 1)), (10, .long (((w &&& mk len) &&& (mk len &&& ((sh1 b - 1) ^^^ (-1))) ||| sh1 b))), (8, .long ((mk len &&& ((sh1 b - 1) ^^^ (-1))))), (6, .long (sh1 b)), (5, .int (nI b)), (3, .long (w &&& mk len)), (0, .ref (h 0))] := hl
              have hl : lv_has ls 13 [(12, .int (nI b - 1)), (10, .long ((w &&& mk len) &&& (mk len &&& ((sh1 b - 1) ^^^ (-1))) ||| sh1 b)), (8, .long (mk len &&& ((sh1 b - 1) ^^^ (-1)))), (0, .ref (h 0))] := lv_sub hl [0, 1, 2, 6] rfl
              have inner : ∀ (q : Nat) (c1 f1 : Int64) (ls : Array Slot), q ≤ 64 → plst (msome len n ca wa) b (mk len &&& ((sh1 b - 1) ^^^ (-1))) ((w &&& mk len) &&& (mk len &&& ((sh1 b - 1) ^^^ (-1))) ||| sh1 b) = plst (msome len n ca wa) q c1 f1 → lv_has ls 13 [(12, .int (nI q - 1)), (10, .long f1), (8, .long c1), (0, .ref (h 0))] → W p l e (rmK 4) s m ([.ref (h 0), .long w] : List Value).toArray below meth c H locs 0 0 Q (F0 m 100 ls []) := by
                intro q
                induction q with
                | zero =>
                  intro c1 f1 ls hq6 hg hl
                  refine lv_iload hx hb dd_MO_next_100 (lv_at hl 0 rfl) ?_
                  refine lv_if_lt (tgt := 140) hx hb dd_MO_next_102 (by decide) (fun hc => ?_) (fun hc => ?_)
                  · refine lv_lload hx hb dd_MO_next_140 (lv_at hl 1 rfl) ?_
                    exact ret _ (len, n, cl, be, 0, ca, wa) H locs 0 0 142 ls ⟨by rw [eR]; exact hg.symm, by rw [eR]⟩ hP hD hS (Nat.zero_le _) (Nat.zero_le _) dd_MO_next_142
                  · exact absurd (by decide +kernel) hc
                | succ q ihq =>
                  intro c1 f1 ls hq6 hg hl
                  rw [nI_pred] at hl
                  refine lv_iload hx hb dd_MO_next_100 (lv_at hl 0 rfl) ?_
                  refine lv_if_lt (tgt := 140) hx hb dd_MO_next_102 (by decide) (fun hc => ?_) (fun hc => ?_)
                  · exact absurd hc (nI_pos (by omega))
                  · refine lv_lload hx hb dd_MO_next_105 (lv_at hl 2 rfl) ?_
                    refine lv_lconst (v := 1) hx hb dd_MO_next_107 (by decide) ?_
                    refine lv_iload hx hb dd_MO_next_108 (lv_at hl 0 rfl) ?_
                    refine lv_lshl hx hb dd_MO_next_110 rfl ?_
                    refine lv_lor hx hb dd_MO_next_111 ?_
                    refine lv_topl (fun v112 e112 => ?_)
                    obtain rfl : v112 = c1 ||| sh1 q := e112
                    refine lv_lstore hx hb dd_MO_next_112 hl (by decide) rfl (fun ls hl => ?_)
                    have hl : lv_has ls 13 [(8, .long (c1 ||| sh1 q)), (12, .int (nI q)), (10, .long f1), (0, .ref (h 0))] := hl
                    refine lv_aload_n hx hb dd_MO_next_114 rfl (lv_at hl 3 rfl) ?_
                    refine lv_lload hx hb dd_MO_next_115 (lv_at hl 0 rfl) ?_
                    refine lv_lload hx hb dd_MO_next_117 (lv_at hl 2 rfl) ?_
                    refine RdI.callV (c_MO_some l D cI cL h len n cl be 0 ca wa (c1 ||| sh1 q) f1 hlen hn) vs_MO_73 ⟨hx, hb, hml, hown, hT⟩ hK hP 0 rfl rfl ⟨rfl, rfl⟩ (by decide) rfl hl.1 rfl (Nat.le_of_ble_eq_true rfl) dd_MO_next_119 ⟨Nat.zero_le _, Nat.zero_le _⟩ (fun r hr => ?_)
                    subst hr
                    refine lv_if_ne (tgt := 134) hx hb dd_MO_next_122 (by decide) (fun hs3 => ?_) (fun hs3 => ?_)
                    · have hcf : msome len n ca wa (c1 ||| sh1 q) f1 = true := by cases hb2 : msome len n ca wa (c1 ||| sh1 q) f1 <;> simp_all [b2i]
                      refine lv_iinc (k := 1) hx hb dd_MO_next_134 hl rfl (tq_pm1 q) (by decide) rfl (fun ls hl => ?_)
                      have hl : lv_has ls 13 [(12, .int (nI q - 1)), (8, .long (c1 ||| sh1 q)), (10, .long f1), (0, .ref (h 0))] := hl
                      refine lv_goto (tgt := 100) hx hb dd_MO_next_137 (by decide) ?_
                      exact ihq _ _ ls (by omega) (by rw [hg]; simp [plst, hcf]) (lv_sub hl [0, 2, 1, 3] rfl)
                    · have hcf : msome len n ca wa (c1 ||| sh1 q) f1 = false := by cases hb2 : msome len n ca wa (c1 ||| sh1 q) f1 <;> simp_all [b2i]
                      refine lv_lload hx hb dd_MO_next_125 (lv_at hl 2 rfl) ?_
                      refine lv_lconst (v := 1) hx hb dd_MO_next_127 (by decide) ?_
                      refine lv_iload hx hb dd_MO_next_128 (lv_at hl 1 rfl) ?_
                      refine lv_lshl hx hb dd_MO_next_130 rfl ?_
                      refine lv_lor hx hb dd_MO_next_131 ?_
                      refine lv_topl (fun v132 e132 => ?_)
                      obtain rfl : v132 = f1 ||| sh1 q := e132
                      refine lv_lstore hx hb dd_MO_next_132 hl (by decide) rfl (fun ls hl => ?_)
                      have hl : lv_has ls 13 [(10, .long (f1 ||| sh1 q)), (8, .long (c1 ||| sh1 q)), (12, .int (nI q)), (0, .ref (h 0))] := hl
                      refine lv_iinc (k := 2) hx hb dd_MO_next_134 hl rfl (tq_pm1 q) (by decide) rfl (fun ls hl => ?_)
                      have hl : lv_has ls 13 [(12, .int (nI q - 1)), (10, .long (f1 ||| sh1 q)), (8, .long (c1 ||| sh1 q)), (0, .ref (h 0))] := hl
                      refine lv_goto (tgt := 100) hx hb dd_MO_next_137 (by decide) ?_
                      exact ihq _ _ ls (by omega) (by rw [hg]; simp [plst, hcf]) (lv_sub hl [0, 1, 2, 3] rfl)
              exact inner b _ _ ls (by omega) rfl hl
            · have hsm : msome len n ca wa (mk len &&& ((sh1 b - 1) ^^^ (-1))) ((w &&& mk len) &&& (mk len &&& ((sh1 b - 1) ^^^ (-1))) ||| sh1 b) = false := by cases hb2 : msome len n ca wa (mk len &&& ((sh1 b - 1) ^^^ (-1))) ((w &&& mk len) &&& (mk len &&& ((sh1 b - 1) ^^^ (-1))) ||| sh1 b) <;> simp_all [b2i]
              refine lv_goto (tgt := 143) hx hb dd_MO_next_91 (by decide) ?_
              refine lv_iinc (k := 3) hx hb dd_MO_next_143 hl rfl (tq_inc b) (by decide) rfl (fun ls hl => ?_)
              have hl : lv_has ls 13 [(5, .int (nI (b + 1))), (10, .long (((w &&& mk len) &&& (mk len &&& ((sh1 b - 1) ^^^ (-1))) ||| sh1 b))), (8, .long ((mk len &&& ((sh1 b - 1) ^^^ (-1))))), (6, .long (sh1 b)), (3, .long (w &&& mk len)), (0, .ref (h 0))] := hl
              refine lv_goto (tgt := 29) hx hb dd_MO_next_146 (by decide) ?_
              have hf2 : pnx (msome len n ca wa) (mk len) (w &&& mk len) b (j + 1) = pnx (msome len n ca wa) (mk len) (w &&& mk len) (b + 1) j := by
                conv => lhs; unfold pnx
                rw [if_neg (by rw [hbt]; decide), if_neg (by rw [hsm]; decide)]
              exact ih (b + 1) ls (by omega) (hf.trans hf2) (lv_sub hl [0, 4, 5] rfl)
          · have hbt : bt (w &&& mk len) b = true := by
              cases hh : bt (w &&& mk len) b with
              | true => rfl
              | false => exact absurd ((and_sh1 (by omega)).mpr hh) ht
            refine lv_goto (tgt := 143) hx hb dd_MO_next_53 (by decide) ?_
            refine lv_iinc (k := 1) hx hb dd_MO_next_143 hl rfl (tq_inc b) (by decide) rfl (fun ls hl => ?_)
            have hl : lv_has ls 13 [(5, .int (nI (b + 1))), (6, .long (sh1 b)), (3, .long (w &&& mk len)), (0, .ref (h 0))] := hl
            refine lv_goto (tgt := 29) hx hb dd_MO_next_146 (by decide) ?_
            have hf2 : pnx (msome len n ca wa) (mk len) (w &&& mk len) b (j + 1) = pnx (msome len n ca wa) (mk len) (w &&& mk len) (b + 1) j := by
              conv => lhs; unfold pnx
              rw [if_pos hbt]
            exact ih (b + 1) ls (by omega) (hf.trans hf2) (lv_sub hl [0, 2, 3] rfl)
    exact loop len 0 ls (by omega) rfl hl
  · have hs : msome len n ca wa (mk len) (w &&& mk len) = true := by cases hb2 : msome len n ca wa (mk len) (w &&& mk len) <;> simp_all [b2i]
    have eR : (mNext len n ca wa w) = (0, (w &&& mk len)) := by unfold mNext; rw [if_pos hs]
    refine lv_lload_n hx hb dd_MO_next_24 rfl (lv_at hl 0 rfl) ?_
    exact ret _ (len, n, cl, be, 0, ca, wa) H locs 0 0 25 ls ⟨by rw [eR], by rw [eR]⟩ hP hD hS (Nat.zero_le _) (Nat.zero_le _) dd_MO_next_25
set_option maxRecDepth 20000 in
theorem c_MO_told (l : Launch) (D : va_G) (cI cL : ClassId) (h : Nat → Nat) (len n : Nat) (cl be th : Int32) (ca wa : Nat → Int64) (i what : Int32) (hlen : len ≤ 64) (hn : n ≤ 512) : MT (S := MS) l yy_MO_told bb_MO_told 3 (some .long) [] (rmK 1) D cI cL [.ref (h 0), .int i, .int what] (wM cL h len n cl be th ca wa) (fun u => wMs cL h u) (pL (fun r u => r = (sTold len n ca wa i what).2 ∧ u = (len, n, cl, be, (sTold len n ca wa i what).1, ca, wa))) (nx) := by
  refine MT.mkL (by decide) (Nat.le_of_ble_eq_true rfl) ?_
  intro p e s m below meth c A Q B ret lv ls hl
  obtain ⟨hx, hb, hml, hown, hT, hK, hX, hSK, hA, hP, hD, hS, htab, hcode, hpl⟩ := B
  have hown : s.vm.findClass "PatternTreeModel" = some m.cls := hown
  have hl : lv_has ls 3 [(0, .ref (h 0)), (1, .int i), (2, .int what)] := hl
  refine lv_aload_n hx hb dd_MO_told_0 rfl (lv_at hl 0 rfl) ?_
  refine lv_iconst (v := 0) hx hb dd_MO_told_1 (by decide) ?_
  refine va_put (D := D) (cl := classes) (ci := 2) (ty := .int) (C := R_MO) (T := F_MO) (N := 7) hx hb hT in_MO t_MO t_MO_ok n_MO hown hK hP hD hS 0 rfl rfl 6 (by decide) (hT _ tw_336) (fun _ h9 => h9) rfl (by decide +kernel) rfl rfl (Nat.le_of_ble_eq_true rfl) dd_MO_told_2 (fun H locs hP hD hS => ?_)
  have hP : va_P D classes (wM cL h len n cl be 0 ca wa) H := hP
  have hD : va_D A (wM cL h len n cl be 0 ca wa) := hD
  refine lv_iload_n hx hb dd_MO_told_5 rfl (lv_at hl 2 rfl) ?_
  refine lv_if_lt (tgt := 14) hx hb dd_MO_told_6 (by decide) (fun h1 => ?_) (fun h1 => ?_)
  · refine lv_aload_n hx hb dd_MO_told_14 rfl (lv_at hl 0 rfl) ?_
    refine lv_iconst (v := 1) hx hb dd_MO_told_15 (by decide) ?_
    refine MT.callV (c_MO_fail l D cI cL h len n cl be 0 ca wa 1) vs_MO_39 ⟨hx, hb, hml, hown, hT⟩ ⟨hK, hX, hSK _ _ hS, hP, hD, hS, hA⟩ (tq_J.same _) 0 rfl rfl (by decide) rfl hl.1 rfl (Nat.le_of_ble_eq_true rfl) dd_MO_told_16 ⟨by decide, by decide⟩ (fun v u H locs hp hP hD hS => ?_) (fun x C u H locs hp hxf hP hD hS => hp.elim)
    obtain ⟨r1, rfl, hr1, rfl⟩ := hp
    subst hr1
    have eR : (sTold len n ca wa i what) = (1, 0) := by unfold sTold; rw [if_neg (fun hh => absurd h1 (Int32.not_lt.mpr hh.1))]
    refine lv_i2l hx hb dd_MO_told_19 rfl ?_
    exact ret _ (len, n, cl, be, 1, ca, wa) H locs 0 0 20 ls ⟨by rw [eR]; rfl, by rw [eR]⟩ hP hD hS (Nat.zero_le _) (Nat.zero_le _) dd_MO_told_20
  · refine lv_iload_n hx hb dd_MO_told_9 rfl (lv_at hl 2 rfl) ?_
    refine lv_iconst (v := 2) hx hb dd_MO_told_10 (by decide) ?_
    refine lv_icmp_le (tgt := 21) hx hb dd_MO_told_11 (by decide) (fun h2 => ?_) (fun h2 => ?_)
    · refine lv_iload_n hx hb dd_MO_told_21 rfl (lv_at hl 1 rfl) ?_
      refine lv_if_lt (tgt := 33) hx hb dd_MO_told_22 (by decide) (fun h3 => ?_) (fun h3 => ?_)
      · refine lv_aload_n hx hb dd_MO_told_33 rfl (lv_at hl 0 rfl) ?_
        refine lv_iconst (v := 2) hx hb dd_MO_told_34 (by decide) ?_
        refine MT.callV (c_MO_fail l D cI cL h len n cl be 0 ca wa 2) vs_MO_39 ⟨hx, hb, hml, hown, hT⟩ ⟨hK, hX, hSK _ _ hS, hP, hD, hS, hA⟩ (tq_J.same _) 0 rfl rfl (by decide) rfl hl.1 rfl (Nat.le_of_ble_eq_true rfl) dd_MO_told_35 ⟨by decide, by decide⟩ (fun v u H locs hp hP hD hS => ?_) (fun x C u H locs hp hxf hP hD hS => hp.elim)
        obtain ⟨r1, rfl, hr1, rfl⟩ := hp
        subst hr1
        have eR : (sTold len n ca wa i what) = (2, 0) := by unfold sTold; rw [if_pos ⟨Int32.not_lt.mp h1, h2⟩, if_neg (fun hh => absurd h3 (Int32.not_lt.mpr hh.1))]
        refine lv_i2l hx hb dd_MO_told_38 rfl ?_
        exact ret _ (len, n, cl, be, 2, ca, wa) H locs 0 0 39 ls ⟨by rw [eR]; rfl, by rw [eR]⟩ hP hD hS (Nat.zero_le _) (Nat.zero_le _) dd_MO_told_39
      · refine lv_iload_n hx hb dd_MO_told_25 rfl (lv_at hl 1 rfl) ?_
        refine lv_aload_n hx hb dd_MO_told_26 rfl (lv_at hl 0 rfl) ?_
        refine va_get (D := D) (cl := classes) (ci := 2) (C := R_MO) (T := F_MO) (N := 7) hx hb hT in_MO hown hK hP 0 rfl rfl 2 (by decide) (hT _ tw_332) (fun _ h9 => h9) rfl dd_MO_told_27 ?_
        refine lv_icmp_lt (tgt := 40) hx hb dd_MO_told_30 (by decide) (fun h4 => ?_) (fun h4 => ?_)
        · obtain ⟨q, hq, rfl⟩ := ix_of (by omega) h3 h4
          have eR : (sTold len n ca wa (nI q) what) = (0, if what = 0 then ca q else if what = 1 then wa q else (nI len - nI (pcnt (ca q))).toInt64) := by unfold sTold; rw [if_pos ⟨Int32.not_lt.mp h1, h2⟩, if_pos ⟨Int32.not_lt.mp h3, h4⟩, nI_clamp (by omega)]
          refine lv_iload_n hx hb dd_MO_told_40 rfl (lv_at hl 2 rfl) ?_
          refine lv_if_ne (tgt := 53) hx hb dd_MO_told_41 (by decide) (fun h5 => ?_) (fun h5 => ?_)
          · refine lv_iload_n hx hb dd_MO_told_53 rfl (lv_at hl 2 rfl) ?_
            refine lv_iconst (v := 1) hx hb dd_MO_told_54 (by decide) ?_
            refine lv_icmp_ne (tgt := 67) hx hb dd_MO_told_55 (by decide) (fun h6 => ?_) (fun h6 => ?_)
            · rw [if_neg h5, if_neg h6] at eR
              refine lv_aload_n hx hb dd_MO_told_67 rfl (lv_at hl 0 rfl) ?_
              refine va_get (D := D) (cl := classes) (ci := 2) (C := R_MO) (T := F_MO) (N := 7) hx hb hT in_MO hown hK hP 0 rfl rfl 3 (by decide) (hT _ tw_333) (fun _ h9 => h9) rfl dd_MO_told_68 ?_
              refine lv_aload_n hx hb dd_MO_told_71 rfl (lv_at hl 0 rfl) ?_
              refine va_get (D := D) (cl := classes) (ci := 2) (C := R_MO) (T := F_MO) (N := 7) hx hb hT in_MO hown hK hP 0 rfl rfl 0 (by decide) (hT _ tw_330) (fun _ h9 => h9) rfl dd_MO_told_72 ?_
              refine lv_iload_n hx hb dd_MO_told_75 rfl (lv_at hl 1 rfl) ?_
              refine tq_lald (k := q) hx hb hK hP 1 rfl (by omega) (by decide) dd_MO_told_76 ?_
              refine RdI.callS (c_MO_bits l D cI cL (wM cL h len n cl be 0 ca wa) (ca q)) ss_MO_61 ⟨hx, hb, hml, hown, hT⟩ hK hP ⟨rfl, rfl⟩ (by decide) rfl hl.1 rfl (Nat.le_of_ble_eq_true rfl) dd_MO_told_77 ⟨Nat.zero_le _, Nat.zero_le _⟩ (fun r hr => ?_)
              subst hr
              refine lv_isub hx hb dd_MO_told_80 ?_
              refine lv_i2l hx hb dd_MO_told_81 rfl ?_
              exact ret _ (len, n, cl, be, 0, ca, wa) H locs 0 0 82 ls ⟨by rw [eR], by rw [eR]⟩ hP hD hS (Nat.zero_le _) (Nat.zero_le _) dd_MO_told_82
            · rw [if_neg h5, if_pos h6] at eR
              refine lv_aload_n hx hb dd_MO_told_58 rfl (lv_at hl 0 rfl) ?_
              refine va_get (D := D) (cl := classes) (ci := 2) (C := R_MO) (T := F_MO) (N := 7) hx hb hT in_MO hown hK hP 0 rfl rfl 1 (by decide) (hT _ tw_331) (fun _ h9 => h9) rfl dd_MO_told_59 ?_
              refine lv_iload_n hx hb dd_MO_told_62 rfl (lv_at hl 1 rfl) ?_
              refine tq_lald (k := q) hx hb hK hP 2 rfl (by omega) (by decide) dd_MO_told_63 ?_
              refine lv_goto (tgt := 82) hx hb dd_MO_told_64 (by decide) ?_
              exact ret _ (len, n, cl, be, 0, ca, wa) H locs 0 0 82 ls ⟨by rw [eR], by rw [eR]⟩ hP hD hS (Nat.zero_le _) (Nat.zero_le _) dd_MO_told_82
          · rw [if_pos h5] at eR
            refine lv_aload_n hx hb dd_MO_told_44 rfl (lv_at hl 0 rfl) ?_
            refine va_get (D := D) (cl := classes) (ci := 2) (C := R_MO) (T := F_MO) (N := 7) hx hb hT in_MO hown hK hP 0 rfl rfl 0 (by decide) (hT _ tw_330) (fun _ h9 => h9) rfl dd_MO_told_45 ?_
            refine lv_iload_n hx hb dd_MO_told_48 rfl (lv_at hl 1 rfl) ?_
            refine tq_lald (k := q) hx hb hK hP 1 rfl (by omega) (by decide) dd_MO_told_49 ?_
            refine lv_goto (tgt := 82) hx hb dd_MO_told_50 (by decide) ?_
            exact ret _ (len, n, cl, be, 0, ca, wa) H locs 0 0 82 ls ⟨by rw [eR], by rw [eR]⟩ hP hD hS (Nat.zero_le _) (Nat.zero_le _) dd_MO_told_82
        · refine lv_aload_n hx hb dd_MO_told_33 rfl (lv_at hl 0 rfl) ?_
          refine lv_iconst (v := 2) hx hb dd_MO_told_34 (by decide) ?_
          refine MT.callV (c_MO_fail l D cI cL h len n cl be 0 ca wa 2) vs_MO_39 ⟨hx, hb, hml, hown, hT⟩ ⟨hK, hX, hSK _ _ hS, hP, hD, hS, hA⟩ (tq_J.same _) 0 rfl rfl (by decide) rfl hl.1 rfl (Nat.le_of_ble_eq_true rfl) dd_MO_told_35 ⟨by decide, by decide⟩ (fun v u H locs hp hP hD hS => ?_) (fun x C u H locs hp hxf hP hD hS => hp.elim)
          obtain ⟨r1, rfl, hr1, rfl⟩ := hp
          subst hr1
          have eR : (sTold len n ca wa i what) = (2, 0) := by unfold sTold; rw [if_pos ⟨Int32.not_lt.mp h1, h2⟩, if_neg (fun hh => h4 hh.2)]
          refine lv_i2l hx hb dd_MO_told_38 rfl ?_
          exact ret _ (len, n, cl, be, 2, ca, wa) H locs 0 0 39 ls ⟨by rw [eR]; rfl, by rw [eR]⟩ hP hD hS (Nat.zero_le _) (Nat.zero_le _) dd_MO_told_39
    · refine lv_aload_n hx hb dd_MO_told_14 rfl (lv_at hl 0 rfl) ?_
      refine lv_iconst (v := 1) hx hb dd_MO_told_15 (by decide) ?_
      refine MT.callV (c_MO_fail l D cI cL h len n cl be 0 ca wa 1) vs_MO_39 ⟨hx, hb, hml, hown, hT⟩ ⟨hK, hX, hSK _ _ hS, hP, hD, hS, hA⟩ (tq_J.same _) 0 rfl rfl (by decide) rfl hl.1 rfl (Nat.le_of_ble_eq_true rfl) dd_MO_told_16 ⟨by decide, by decide⟩ (fun v u H locs hp hP hD hS => ?_) (fun x C u H locs hp hxf hP hD hS => hp.elim)
      obtain ⟨r1, rfl, hr1, rfl⟩ := hp
      subst hr1
      have eR : (sTold len n ca wa i what) = (1, 0) := by unfold sTold; rw [if_neg (fun hh => h2 hh.2)]
      refine lv_i2l hx hb dd_MO_told_19 rfl ?_
      exact ret _ (len, n, cl, be, 1, ca, wa) H locs 0 0 20 ls ⟨by rw [eR]; rfl, by rw [eR]⟩ hP hD hS (Nat.zero_le _) (Nat.zero_le _) dd_MO_told_20
set_option maxRecDepth 20000 in
theorem c_MO_count (l : Launch) (D : va_G) (cI cL : ClassId) (h : Nat → Nat) (len n : Nat) (cl be th : Int32) (ca wa : Nat → Int64) (what : Int32) : MT (S := MS) l yy_MO_count bb_MO_count 2 (some .int) [] (rmK 1) D cI cL [.ref (h 0), .int what] (wM cL h len n cl be th ca wa) (fun u => wMs cL h u) (pI (fun r u => r = (sCount len n cl be what) ∧ u = (len, n, cl, be, 0, ca, wa))) (nx) := by
  refine MT.mkI (by decide) (Nat.le_of_ble_eq_true rfl) ?_
  intro p e s m below meth c A Q B ret lv ls hl
  obtain ⟨hx, hb, hml, hown, hT, hK, hX, hSK, hA, hP, hD, hS, htab, hcode, hpl⟩ := B
  have hown : s.vm.findClass "PatternTreeModel" = some m.cls := hown
  have hl : lv_has ls 2 [(0, .ref (h 0)), (1, .int what)] := hl
  refine lv_aload_n hx hb dd_MO_count_0 rfl (lv_at hl 0 rfl) ?_
  refine lv_iconst (v := 0) hx hb dd_MO_count_1 (by decide) ?_
  refine va_put (D := D) (cl := classes) (ci := 2) (ty := .int) (C := R_MO) (T := F_MO) (N := 7) hx hb hT in_MO t_MO t_MO_ok n_MO hown hK hP hD hS 0 rfl rfl 6 (by decide) (hT _ tw_336) (fun _ h9 => h9) rfl (by decide +kernel) rfl rfl (Nat.le_of_ble_eq_true rfl) dd_MO_count_2 (fun H locs hP hD hS => ?_)
  have hP : va_P D classes (wM cL h len n cl be 0 ca wa) H := hP
  have hD : va_D A (wM cL h len n cl be 0 ca wa) := hD
  refine lv_iload_n hx hb dd_MO_count_5 rfl (lv_at hl 1 rfl) ?_
  refine lv_if_ne (tgt := 16) hx hb dd_MO_count_6 (by decide) (fun h0 => ?_) (fun h0 => ?_)
  · refine lv_iload_n hx hb dd_MO_count_16 rfl (lv_at hl 1 rfl) ?_
    refine lv_iconst (v := 1) hx hb dd_MO_count_17 (by decide) ?_
    refine lv_icmp_ne (tgt := 28) hx hb dd_MO_count_18 (by decide) (fun h1 => ?_) (fun h1 => ?_)
    · refine lv_iload_n hx hb dd_MO_count_28 rfl (lv_at hl 1 rfl) ?_
      refine lv_iconst (v := 2) hx hb dd_MO_count_29 (by decide) ?_
      refine lv_icmp_ne (tgt := 40) hx hb dd_MO_count_30 (by decide) (fun h2 => ?_) (fun h2 => ?_)
      · refine lv_iload_n hx hb dd_MO_count_40 rfl (lv_at hl 1 rfl) ?_
        refine lv_iconst (v := 3) hx hb dd_MO_count_41 (by decide) ?_
        refine lv_icmp_ne (tgt := 52) hx hb dd_MO_count_42 (by decide) (fun h3 => ?_) (fun h3 => ?_)
        · refine lv_iconst (v := -1) hx hb dd_MO_count_52 (by decide) ?_
          exact ret _ (len, n, cl, be, 0, ca, wa) H locs 0 0 53 ls ⟨by unfold sCount; rw [if_neg h0, if_neg h1, if_neg h2, if_neg h3], rfl⟩ hP hD hS (Nat.zero_le _) (Nat.zero_le _) rfl dd_MO_count_53
        · refine lv_aload_n hx hb dd_MO_count_45 rfl (lv_at hl 0 rfl) ?_
          refine va_get (D := D) (cl := classes) (ci := 2) (C := R_MO) (T := F_MO) (N := 7) hx hb hT in_MO hown hK hP 0 rfl rfl 5 (by decide) (hT _ tw_335) (fun _ h9 => h9) rfl dd_MO_count_46 ?_
          refine lv_goto (tgt := 53) hx hb dd_MO_count_49 (by decide) ?_
          exact ret _ (len, n, cl, be, 0, ca, wa) H locs 0 0 53 ls ⟨by unfold sCount; rw [if_neg h0, if_neg h1, if_neg h2, if_pos h3], rfl⟩ hP hD hS (Nat.zero_le _) (Nat.zero_le _) rfl dd_MO_count_53
      · refine lv_aload_n hx hb dd_MO_count_33 rfl (lv_at hl 0 rfl) ?_
        refine va_get (D := D) (cl := classes) (ci := 2) (C := R_MO) (T := F_MO) (N := 7) hx hb hT in_MO hown hK hP 0 rfl rfl 4 (by decide) (hT _ tw_334) (fun _ h9 => h9) rfl dd_MO_count_34 ?_
        refine lv_goto (tgt := 53) hx hb dd_MO_count_37 (by decide) ?_
        exact ret _ (len, n, cl, be, 0, ca, wa) H locs 0 0 53 ls ⟨by unfold sCount; rw [if_neg h0, if_neg h1, if_pos h2], rfl⟩ hP hD hS (Nat.zero_le _) (Nat.zero_le _) rfl dd_MO_count_53
    · refine lv_aload_n hx hb dd_MO_count_21 rfl (lv_at hl 0 rfl) ?_
      refine va_get (D := D) (cl := classes) (ci := 2) (C := R_MO) (T := F_MO) (N := 7) hx hb hT in_MO hown hK hP 0 rfl rfl 3 (by decide) (hT _ tw_333) (fun _ h9 => h9) rfl dd_MO_count_22 ?_
      refine lv_goto (tgt := 53) hx hb dd_MO_count_25 (by decide) ?_
      exact ret _ (len, n, cl, be, 0, ca, wa) H locs 0 0 53 ls ⟨by unfold sCount; rw [if_neg h0, if_pos h1], rfl⟩ hP hD hS (Nat.zero_le _) (Nat.zero_le _) rfl dd_MO_count_53
  · refine lv_aload_n hx hb dd_MO_count_9 rfl (lv_at hl 0 rfl) ?_
    refine va_get (D := D) (cl := classes) (ci := 2) (C := R_MO) (T := F_MO) (N := 7) hx hb hT in_MO hown hK hP 0 rfl rfl 2 (by decide) (hT _ tw_332) (fun _ h9 => h9) rfl dd_MO_count_10 ?_
    refine lv_goto (tgt := 53) hx hb dd_MO_count_13 (by decide) ?_
    exact ret _ (len, n, cl, be, 0, ca, wa) H locs 0 0 53 ls ⟨by unfold sCount; rw [if_pos h0], rfl⟩ hP hD hS (Nat.zero_le _) (Nat.zero_le _) rfl dd_MO_count_53
end
section
def tq_sup : List String := ["java/lang/RuntimeException", "java/lang/Exception"]
theorem hw_thr {args : Array Value} {s : State} (hT : ∀ w ∈ TT, w.before args s = true) (hX : tq_XK s) : ∀ a ∈ Bundle.throwableAtoms, a.before args s = true := List.forall_mem_cons.mpr ⟨(hT _ tw_4), List.forall_mem_cons.mpr ⟨(va_any rfl (hX.1 _ (List.mem_of_getElem? (i := 6) rfl))), List.forall_mem_cons.mpr ⟨(hT _ tw_167), List.forall_mem_cons.mpr ⟨(hT _ tw_171), List.forall_mem_cons.mpr ⟨(hT _ tw_174), List.forall_mem_cons.mpr ⟨(hT _ tw_176), List.forall_mem_cons.mpr ⟨(hT _ tw_159), List.forall_mem_cons.mpr ⟨(hT _ tw_160), List.forall_mem_cons.mpr ⟨(hT _ tw_18), List.forall_mem_cons.mpr ⟨(hT _ tw_19), List.forall_mem_cons.mpr ⟨(hT _ tw_161), List.forall_mem_cons.mpr ⟨(hT _ tw_166), List.forall_mem_cons.mpr ⟨(hT _ tw_172), List.forall_mem_cons.mpr ⟨(hT _ tw_188), List.forall_mem_cons.mpr ⟨(hT _ tw_148), List.forall_mem_cons.mpr ⟨(hT _ tw_189), List.forall_mem_cons.mpr ⟨(hT _ tw_150), List.forall_mem_cons.mpr ⟨(hT _ tw_190), List.forall_mem_cons.mpr ⟨(hT _ tw_152), List.forall_mem_cons.mpr ⟨(hT _ tw_162), List.forall_mem_cons.mpr ⟨(hX.2.1 _ (List.mem_of_getElem? (i := 0) rfl)).1, List.forall_mem_cons.mpr ⟨(hT _ tw_164), List.forall_mem_cons.mpr ⟨(hX.2.1 _ (List.mem_of_getElem? (i := 1) rfl)).1, List.forall_mem_cons.mpr ⟨(hT _ tw_154), fun _ h9 => absurd h9 List.not_mem_nil⟩⟩⟩⟩⟩⟩⟩⟩⟩⟩⟩⟩⟩⟩⟩⟩⟩⟩⟩⟩⟩⟩⟩⟩
theorem hw_up {args : Array Value} {s : State} (hT : ∀ w ∈ TT, w.before args s = true) (hX : tq_XK s) : ∀ a ∈ Bundle.chain0Atoms "java/lang/RuntimeException" ["java/lang/Exception"], a.before args s = true :=
  List.forall_mem_append.mpr ⟨List.forall_mem_cons.mpr ⟨(hT _ tw_181), List.forall_mem_cons.mpr ⟨(hT _ tw_182), List.forall_mem_cons.mpr ⟨(hT _ tw_183), List.forall_mem_cons.mpr ⟨(hT _ tw_184), List.forall_mem_cons.mpr ⟨(va_any rfl (hX.1 _ (List.mem_of_getElem? (i := 1) rfl))), fun _ h9 => absurd h9 List.not_mem_nil⟩⟩⟩⟩⟩, List.forall_mem_cons.mpr ⟨(hT _ tw_184), List.forall_mem_cons.mpr ⟨(hT _ tw_185), List.forall_mem_cons.mpr ⟨(hT _ tw_186), List.forall_mem_cons.mpr ⟨(hT _ tw_159), List.forall_mem_cons.mpr ⟨(va_any rfl (hX.1 _ (List.mem_of_getElem? (i := 2) rfl))), fun _ h9 => absurd h9 List.not_mem_nil⟩⟩⟩⟩⟩⟩
theorem hw_IAE {args : Array Value} {s : State} (hT : ∀ w ∈ TT, w.before args s = true) (hX : tq_XK s) : ∀ a ∈ Bundle.ownAtoms0 "PatternTree" 22 tq_IAE tq_sup, a.before args s = true :=
  List.forall_mem_append.mpr ⟨List.forall_mem_append.mpr ⟨hw_thr hT hX, List.forall_mem_append.mpr ⟨List.forall_mem_cons.mpr ⟨(hT _ tw_178), List.forall_mem_cons.mpr ⟨(hT _ tw_179), List.forall_mem_cons.mpr ⟨(hT _ tw_180), List.forall_mem_cons.mpr ⟨(hT _ tw_181), List.forall_mem_cons.mpr ⟨(va_any rfl (hX.1 _ (List.mem_of_getElem? (i := 0) rfl))), fun _ h9 => absurd h9 List.not_mem_nil⟩⟩⟩⟩⟩, hw_up hT hX⟩⟩, List.forall_mem_cons.mpr ⟨(hT _ tw_177), List.forall_mem_cons.mpr ⟨(hT _ tw_137), List.forall_mem_cons.mpr ⟨(va_any rfl (hX.1 _ (List.mem_of_getElem? (i := 3) rfl))), List.forall_mem_cons.mpr ⟨(hT _ tw_145), List.forall_mem_cons.mpr ⟨(hT _ tw_146), List.forall_mem_cons.mpr ⟨(hT _ tw_147), List.forall_mem_cons.mpr ⟨(hT _ tw_149), List.forall_mem_cons.mpr ⟨(hT _ tw_151), List.forall_mem_cons.mpr ⟨(hT _ tw_153), List.forall_mem_cons.mpr ⟨(hX.2.1 _ (List.mem_of_getElem? (i := 0) rfl)).2, List.forall_mem_cons.mpr ⟨(hX.2.1 _ (List.mem_of_getElem? (i := 1) rfl)).2, List.forall_mem_cons.mpr ⟨(hT _ tw_157), List.forall_mem_cons.mpr ⟨(hT _ tw_156), List.forall_mem_cons.mpr ⟨(hT _ tw_155), fun _ h9 => absurd h9 List.not_mem_nil⟩⟩⟩⟩⟩⟩⟩⟩⟩⟩⟩⟩⟩⟩⟩
theorem hw_ISE {args : Array Value} {s : State} (hT : ∀ w ∈ TT, w.before args s = true) (hX : tq_XK s) : ∀ a ∈ Bundle.ownAtoms0 "PatternTree" 46 tq_ISE tq_sup, a.before args s = true :=
  List.forall_mem_append.mpr ⟨List.forall_mem_append.mpr ⟨hw_thr hT hX, List.forall_mem_append.mpr ⟨List.forall_mem_cons.mpr ⟨(hT _ tw_226), List.forall_mem_cons.mpr ⟨(hT _ tw_227), List.forall_mem_cons.mpr ⟨(hT _ tw_228), List.forall_mem_cons.mpr ⟨(hT _ tw_181), List.forall_mem_cons.mpr ⟨(va_any rfl (hX.1 _ (List.mem_of_getElem? (i := 0) rfl))), fun _ h9 => absurd h9 List.not_mem_nil⟩⟩⟩⟩⟩, hw_up hT hX⟩⟩, List.forall_mem_cons.mpr ⟨(hT _ tw_225), List.forall_mem_cons.mpr ⟨(hT _ tw_217), List.forall_mem_cons.mpr ⟨(va_any rfl (hX.1 _ (List.mem_of_getElem? (i := 4) rfl))), List.forall_mem_cons.mpr ⟨(hT _ tw_219), List.forall_mem_cons.mpr ⟨(hT _ tw_169), List.forall_mem_cons.mpr ⟨(hT _ tw_220), List.forall_mem_cons.mpr ⟨(hT _ tw_221), List.forall_mem_cons.mpr ⟨(hT _ tw_222), List.forall_mem_cons.mpr ⟨(hT _ tw_223), List.forall_mem_cons.mpr ⟨(hX.2.1 _ (List.mem_of_getElem? (i := 0) rfl)).2, List.forall_mem_cons.mpr ⟨(hX.2.1 _ (List.mem_of_getElem? (i := 1) rfl)).2, List.forall_mem_cons.mpr ⟨(hT _ tw_157), List.forall_mem_cons.mpr ⟨(hT _ tw_156), List.forall_mem_cons.mpr ⟨(hT _ tw_224), fun _ h9 => absurd h9 List.not_mem_nil⟩⟩⟩⟩⟩⟩⟩⟩⟩⟩⟩⟩⟩⟩⟩
theorem hw_NSE {args : Array Value} {s : State} (hT : ∀ w ∈ TT, w.before args s = true) (hX : tq_XK s) : ∀ a ∈ Bundle.ownAtoms0 "PatternTree" 25 tq_NSE tq_sup, a.before args s = true :=
  List.forall_mem_append.mpr ⟨List.forall_mem_append.mpr ⟨hw_thr hT hX, List.forall_mem_append.mpr ⟨List.forall_mem_cons.mpr ⟨(hT _ tw_269), List.forall_mem_cons.mpr ⟨(hT _ tw_270), List.forall_mem_cons.mpr ⟨(hT _ tw_271), List.forall_mem_cons.mpr ⟨(hT _ tw_181), List.forall_mem_cons.mpr ⟨(va_any rfl (hX.1 _ (List.mem_of_getElem? (i := 0) rfl))), fun _ h9 => absurd h9 List.not_mem_nil⟩⟩⟩⟩⟩, hw_up hT hX⟩⟩, List.forall_mem_cons.mpr ⟨(hT _ tw_268), List.forall_mem_cons.mpr ⟨(hT _ tw_260), List.forall_mem_cons.mpr ⟨(va_any rfl (hX.1 _ (List.mem_of_getElem? (i := 5) rfl))), List.forall_mem_cons.mpr ⟨(hT _ tw_262), List.forall_mem_cons.mpr ⟨(hT _ tw_170), List.forall_mem_cons.mpr ⟨(hT _ tw_263), List.forall_mem_cons.mpr ⟨(hT _ tw_264), List.forall_mem_cons.mpr ⟨(hT _ tw_265), List.forall_mem_cons.mpr ⟨(hT _ tw_266), List.forall_mem_cons.mpr ⟨(hX.2.1 _ (List.mem_of_getElem? (i := 0) rfl)).2, List.forall_mem_cons.mpr ⟨(hX.2.1 _ (List.mem_of_getElem? (i := 1) rfl)).2, List.forall_mem_cons.mpr ⟨(hT _ tw_157), List.forall_mem_cons.mpr ⟨(hT _ tw_156), List.forall_mem_cons.mpr ⟨(hT _ tw_267), fun _ h9 => absurd h9 List.not_mem_nil⟩⟩⟩⟩⟩⟩⟩⟩⟩⟩⟩⟩⟩⟩⟩
theorem tq_nil {c : Code} (h : c.exceptionTable.toList.map (fun h => (h.startPc, h.endPc, h.handlerPc, h.catchType)) = []) : c.exceptionTable.toList = [] := List.map_eq_nil_iff.mp h
section TQT
variable {p : Program} {l : Launch} {e : Env} {R : Room} {s : State} {m : MethodId} {args : Array Value} {below : List Frame} {meth : Method} {c : Code} {H : Heap} {locs : List Loc} {cells slots : Nat} {Q : State → Prop}
/-- 'throw new C()' with the world kept -/
theorem tq_thr {cc : ByteArray} {pc nL : Nat} {ls : Array Slot} {rest : List Value} {own cls : String} {ix ic : Nat} {D : va_G} {A : Nat → Prop} {ws : va_W}
    (hfl : l.flags = pinnedFlags ++ [noTraceFlag]) (hx : p.tables.exec = Jvm.exec) (hb : c.code = cc) (hml : c.maxLocals = nL) (hsz : ls.size = nL) (hown : s.vm.findClass own = some m.cls) (hcls : Bundle.fit cls = true)
    (hw : ∀ a ∈ Bundle.ownAtoms0 own ic cls tq_sup, a.before args s = true) (hcl : (Cond.classLink own ix cls).before args s = true) (hini : (Cond.initialized cls).before args s = true)
    (hSK : ∀ (H : Heap) (locs : List Loc), va_S A s.heap H locs → tq_SK s.heap H) (hA : ∀ q, s.heap.size ≤ q → A q) (hP : va_P D classes ws H) (hD : va_D A ws) (hS : va_S A s.heap H locs)
    (d0 : decode cc pc = .ok (.new ix, 3)) (d3 : decode cc (pc + 3) = .ok (.dup, 1)) (d4 : decode cc (pc + 4) = .ok (.invokespecial ic, 3)) (d7 : decode cc (pc + 7) = .ok (.athrow, 1))
    (hc : cells + 1 ≤ R.cells) (hs : slots + 6 ≤ R.slots) (hRf : 5 < R.frames) (hRl : (rest.map fun v => v.category).sum + 81 ≤ R.locals)
    (kk : ∀ (x : Addr) (H1 : Heap) (locs1 : List Loc), tq_xf cls x s H1 → va_P D classes ws H1 → va_D A ws → va_S A s.heap H1 locs1 → tq_X p l e R s m args below meth c H1 locs1 (cells + 1) (slots + 6) Q (F0 m (pc + 7) ls rest) x) :
    W p l e R s m args below meth c H locs cells slots Q (F0 m pc ls rest) := by
  refine tq_throw (names := tq_sup) hfl hx hb (hsz.trans hml.symm) hown hcls (by decide) hw hcl hini (hSK _ _ hS) hS.1 d0 d3 d4 d7 hc hs hRf hRl ?_
  intro cX ce H1 L hfX e1 e2 h1 hz hk hL
  refine kk H.size H1 (locs ++ L) ⟨ce, h1, by rw [e2]; rfl, by rw [e1]; exact hfX⟩ (hP.kept fun k q hq => hk _ (hP k q hq).lt) hD ⟨by have := hS.1; omega, fun q h1 h2 => ?_, fun q hq => ?_⟩
  · rw [hk q (Nat.lt_of_lt_of_le h1 hS.1)]; exact hS.2.1 q h1 h2
  · rcases List.mem_append.mp hq with h | h
    · exact hS.2.2 q h
    · rw [hL q h]; exact hA _ hS.1
end TQT
set_option maxRecDepth 20000 in
theorem c_PT_check (l : Launch) (D : va_G) (cI cL : ClassId) (ww : va_W) (x : Int32) (hfl : l.flags = pinnedFlags ++ [noTraceFlag]) : MT (S := Unit) l yy_PT_check bb_PT_check 1 none [] (rmX 6 1) D cI cL [.int x] (ww) (fun _ => ww) (pV (fun _ => x ≠ 0)) (fun C _ => C = tq_IAE ∧ x = 0) := by
  refine MT.mkV (by decide) (Nat.le_of_ble_eq_true rfl) ?_
  intro p e s m below meth c A Q B ret lv ls hl
  obtain ⟨hx, hb, hml, hown, hT, hK, hX, hSK, hA, hP, hD, hS, htab, hcode, hpl⟩ := B
  have hown : s.vm.findClass "PatternTree" = some m.cls := hown
  have hl : lv_has ls 1 [(0, .int x)] := hl
  refine lv_iload_n hx hb dd_PT_check_0 rfl (lv_at hl 0 rfl) ?_
  refine lv_if_ne (tgt := 12) hx hb dd_PT_check_1 (by decide) (fun hc => ?_) (fun hc => ?_)
  · exact ret () s.heap [] 0 0 12 ls hc hP hD hS (Nat.zero_le _) (Nat.zero_le _) dd_PT_check_12
  · exact tq_thr (cls := tq_IAE) hfl hx hb hml hl.1 hown (by decide) (hw_IAE hT hX) (hT _ tw_136) (hT _ tw_7) hSK hA hP hD hS dd_PT_check_4 dd_PT_check_7 dd_PT_check_8 dd_PT_check_11 (Nat.le_of_ble_eq_true rfl) (Nat.le_of_ble_eq_true rfl) (Nat.le_of_ble_eq_true rfl) (Nat.le_of_ble_eq_true rfl) (fun x9 H locs hxf hP hD hS => lv x9 _ () H locs _ _ 11 ls _ (tq_nil htab) ⟨rfl, hc⟩ hxf hP hD hS (Nat.le_of_ble_eq_true rfl) (Nat.le_of_ble_eq_true rfl))
set_option maxRecDepth 20000 in
theorem c_PT_there (l : Launch) (D : va_G) (cI cL : ClassId) (ww : va_W) (x : Int32) (hfl : l.flags = pinnedFlags ++ [noTraceFlag]) : MT (S := Unit) l yy_PT_there bb_PT_there 1 none [] (rmX 6 1) D cI cL [.int x] (ww) (fun _ => ww) (pV (fun _ => x ≠ 0)) (fun C _ => C = tq_NSE ∧ x = 0) := by
  refine MT.mkV (by decide) (Nat.le_of_ble_eq_true rfl) ?_
  intro p e s m below meth c A Q B ret lv ls hl
  obtain ⟨hx, hb, hml, hown, hT, hK, hX, hSK, hA, hP, hD, hS, htab, hcode, hpl⟩ := B
  have hown : s.vm.findClass "PatternTree" = some m.cls := hown
  have hl : lv_has ls 1 [(0, .int x)] := hl
  refine lv_iload_n hx hb dd_PT_there_0 rfl (lv_at hl 0 rfl) ?_
  refine lv_if_ne (tgt := 12) hx hb dd_PT_there_1 (by decide) (fun hc => ?_) (fun hc => ?_)
  · exact ret () s.heap [] 0 0 12 ls hc hP hD hS (Nat.zero_le _) (Nat.zero_le _) dd_PT_there_12
  · exact tq_thr (cls := tq_NSE) hfl hx hb hml hl.1 hown (by decide) (hw_NSE hT hX) (hT _ tw_259) (hT _ tw_9) hSK hA hP hD hS dd_PT_there_4 dd_PT_there_7 dd_PT_there_8 dd_PT_there_11 (Nat.le_of_ble_eq_true rfl) (Nat.le_of_ble_eq_true rfl) (Nat.le_of_ble_eq_true rfl) (Nat.le_of_ble_eq_true rfl) (fun x9 H locs hxf hP hD hS => lv x9 _ () H locs _ _ 11 ls _ (tq_nil htab) ⟨rfl, hc⟩ hxf hP hD hS (Nat.le_of_ble_eq_true rfl) (Nat.le_of_ble_eq_true rfl))
end
section
abbrev PX : Type := Nat × Nat × (Nat → Int64) × (Nat → Int64) × Int32 × Int32 × ZT
abbrev wPx (cI cL : ClassId) (h : Nat → Nat) (u : PX) : va_W := wX cI cL h u.2.2.2.2.2.1 u.2.2.2.2.1 u.1 u.2.1 u.2.2.1 u.2.2.2.1 u.2.2.2.2.2.2
def tPut (n : Nat) (ca wa : Nat → Int64) (cl : Int32) (c w : Int64) : SR := sPut n ca wa cl (ff (csh ca wa c w) n) c w
def tAdd (len n : Nat) (ca wa : Nat → Int64) (cl : Int32) (c w : Int64) : SR := if isP len c w then tPut n ca wa cl (c &&& mk len) (w &&& mk len) else (1, 0, n, ca, wa, cl)
def tSigns (len n : Nat) (ca wa : Nat → Int64) (cl : Int32) (d : Int64) : SR := if d < 0 then (1, 0, n, ca, wa, cl) else tPut n ca wa cl ((sgn d 40).1 &&& mk len) ((sgn d 40).2.1 &&& mk len)
theorem i3 {x : Int32} (h : ¬ 3 ≤ x) : x ≤ 2 := by
  rw [Int32.le_iff_toInt_le] at *
  have e1 : (3 : Int32).toInt = 3 := rfl
  have e2 : (2 : Int32).toInt = 2 := rfl
  omega
theorem i3' {x : Int32} (h : 3 ≤ x) : ¬ x ≤ 2 := by
  rw [Int32.le_iff_toInt_le] at *
  have e1 : (3 : Int32).toInt = 3 := rfl
  have e2 : (2 : Int32).toInt = 2 := rfl
  omega
set_option maxRecDepth 20000 in
theorem c_PT_put (l : Launch) (D : va_G) (cI cL : ClassId) (h : Nat → Nat) (g cl : Int32) (len n : Nat) (ca wa : Nat → Int64) (z : ZT) (c0 w : Int64) (hfl : l.flags = pinnedFlags ++ [noTraceFlag]) (hn : n ≤ 512) : MT (S := PX) l yy_PT_put bb_PT_put 6 (some .int) [] (rmX 6 1) D cI cL [.ref (h 0), .long c0, .long w] (wX cI cL h g cl len n ca wa z) (fun u => wPx cI cL h u) (pI (fun r u => r = (tPut n ca wa cl c0 w).2.1 ∧ (tPut n ca wa cl c0 w).1 = 0 ∧ u = (len, (tPut n ca wa cl c0 w).2.2.1, (tPut n ca wa cl c0 w).2.2.2.1, (tPut n ca wa cl c0 w).2.2.2.2.1, (tPut n ca wa cl c0 w).2.2.2.2.2, 0, z))) (fun C u => C = tq_ISE ∧ (tPut n ca wa cl c0 w).1 = 2 ∧ u = (len, (tPut n ca wa cl c0 w).2.2.1, (tPut n ca wa cl c0 w).2.2.2.1, (tPut n ca wa cl c0 w).2.2.2.2.1, (tPut n ca wa cl c0 w).2.2.2.2.2, g, z)) := by
  refine MT.mkI (by decide) (Nat.le_of_ble_eq_true rfl) ?_
  intro p e s m below meth c A Q B ret lv ls hl
  obtain ⟨hx, hb, hml, hown, hT, hK, hX, hSK, hA, hP, hD, hS, htab, hcode, hpl⟩ := B
  have hown : s.vm.findClass "PatternTree" = some m.cls := hown
  have hl : lv_has ls 6 [(0, .ref (h 0)), (1, .long c0), (3, .long w)] := hl
  refine lv_aload_n hx hb dd_PT_put_0 rfl (lv_at hl 0 rfl) ?_
  refine va_get (D := D) (cl := classes) (ci := 0) (C := R_PT) (T := F_PT) (N := 3) hx hb hT in_PT hown hK hP 0 rfl rfl 0 (by decide) (hT _ tw_67) (fun _ h9 => h9) rfl dd_PT_put_1 ?_
  refine va_get (D := D) (cl := classes) (ci := 1) (C := R_TR) (T := F_TR) (N := 11) hx hb hT in_TR hown hK hP 1 rfl rfl 1 (by decide) (hT _ tw_29) (fun _ h9 => h9) rfl dd_PT_put_4 ?_
  refine lv_sipush (v := 512) hx hb dd_PT_put_7 (by decide) ?_
  refine lv_icmp_ne (tgt := 26) hx hb dd_PT_put_10 (by decide) (fun hc1 => ?_) (fun hc1 => ?_)
  · have hne : n ≠ 512 := fun h6 => hc1 (by rw [h6]; rfl)
    refine lv_aload_n hx hb dd_PT_put_26 rfl (lv_at hl 0 rfl) ?_
    refine lv_lload_n hx hb dd_PT_put_27 rfl (lv_at hl 1 rfl) ?_
    refine lv_lload_n hx hb dd_PT_put_28 rfl (lv_at hl 2 rfl) ?_
    refine RdI.callV (c_PT_find2 l D cI cL h g cl len n ca wa z c0 w hn) vs_PT_47 ⟨hx, hb, hml, hown, hT⟩ hK hP 0 rfl rfl ⟨rfl, rfl⟩ (by decide) rfl hl.1 rfl (Nat.le_of_ble_eq_true rfl) dd_PT_put_29 ⟨Nat.zero_le _, Nat.zero_le _⟩ (fun r hr => ?_)
    subst hr
    refine lv_topi (fun v32 e32 => ?_)
    obtain rfl : v32 = ff (csh ca wa c0 w) n := e32
    refine lv_istore hx hb dd_PT_put_32 hl (by decide) rfl (fun ls hl => ?_)
    have hl : lv_has ls 6 [(5, .int (ff (csh ca wa c0 w) n)), (0, .ref (h 0)), (1, .long c0), (3, .long w)] := hl
    refine lv_iload hx hb dd_PT_put_34 (lv_at hl 0 rfl) ?_
    refine lv_if_lt (tgt := 53) hx hb dd_PT_put_36 (by decide) (fun hc3 => ?_) (fun hc3 => ?_)
    · have eB : (tPut n ca wa cl c0 w) = (0, nI n, n + 1, (vp_updL ca n c0), (vp_updL wa n w), cl) := by unfold tPut sPut; rw [if_neg hne, if_neg (Int32.not_le.mpr hc3)]
      refine lv_aload_n hx hb dd_PT_put_53 rfl (lv_at hl 1 rfl) ?_
      refine va_get (D := D) (cl := classes) (ci := 0) (C := R_PT) (T := F_PT) (N := 3) hx hb hT in_PT hown hK hP 0 rfl rfl 0 (by decide) (hT _ tw_67) (fun _ h9 => h9) rfl dd_PT_put_54 ?_
      refine va_get (D := D) (cl := classes) (ci := 1) (C := R_TR) (T := F_TR) (N := 11) hx hb hT in_TR hown hK hP 1 rfl rfl 2 (by decide) (hT _ tw_32) (fun _ h9 => h9) rfl dd_PT_put_57 ?_
      refine lv_aload_n hx hb dd_PT_put_60 rfl (lv_at hl 1 rfl) ?_
      refine va_get (D := D) (cl := classes) (ci := 0) (C := R_PT) (T := F_PT) (N := 3) hx hb hT in_PT hown hK hP 0 rfl rfl 0 (by decide) (hT _ tw_67) (fun _ h9 => h9) rfl dd_PT_put_61 ?_
      refine va_get (D := D) (cl := classes) (ci := 1) (C := R_TR) (T := F_TR) (N := 11) hx hb hT in_TR hown hK hP 1 rfl rfl 1 (by decide) (hT _ tw_29) (fun _ h9 => h9) rfl dd_PT_put_64 ?_
      refine lv_lload_n hx hb dd_PT_put_67 rfl (lv_at hl 2 rfl) ?_
      refine tq_last (k := n) hx hb hK hP hD hS 2 rfl (by omega) (by decide) dd_PT_put_68 (fun H locs hP hD hS => ?_)
      have hP : va_P D classes (wX cI cL h g cl len n (vp_updL ca n c0) wa z) H := hP
      have hD : va_D A (wX cI cL h g cl len n (vp_updL ca n c0) wa z) := hD
      refine lv_aload_n hx hb dd_PT_put_69 rfl (lv_at hl 1 rfl) ?_
      refine va_get (D := D) (cl := classes) (ci := 0) (C := R_PT) (T := F_PT) (N := 3) hx hb hT in_PT hown hK hP 0 rfl rfl 0 (by decide) (hT _ tw_67) (fun _ h9 => h9) rfl dd_PT_put_70 ?_
      refine va_get (D := D) (cl := classes) (ci := 1) (C := R_TR) (T := F_TR) (N := 11) hx hb hT in_TR hown hK hP 1 rfl rfl 3 (by decide) (hT _ tw_34) (fun _ h9 => h9) rfl dd_PT_put_73 ?_
      refine lv_aload_n hx hb dd_PT_put_76 rfl (lv_at hl 1 rfl) ?_
      refine va_get (D := D) (cl := classes) (ci := 0) (C := R_PT) (T := F_PT) (N := 3) hx hb hT in_PT hown hK hP 0 rfl rfl 0 (by decide) (hT _ tw_67) (fun _ h9 => h9) rfl dd_PT_put_77 ?_
      refine va_get (D := D) (cl := classes) (ci := 1) (C := R_TR) (T := F_TR) (N := 11) hx hb hT in_TR hown hK hP 1 rfl rfl 1 (by decide) (hT _ tw_29) (fun _ h9 => h9) rfl dd_PT_put_80 ?_
      refine lv_lload_n hx hb dd_PT_put_83 rfl (lv_at hl 3 rfl) ?_
      refine tq_last (k := n) hx hb hK hP hD hS 3 rfl (by omega) (by decide) dd_PT_put_84 (fun H locs hP hD hS => ?_)
      have hP : va_P D classes (wX cI cL h g cl len n (vp_updL ca n c0) (vp_updL wa n w) z) H := hP
      have hD : va_D A (wX cI cL h g cl len n (vp_updL ca n c0) (vp_updL wa n w) z) := hD
      refine lv_aload_n hx hb dd_PT_put_85 rfl (lv_at hl 1 rfl) ?_
      refine va_get (D := D) (cl := classes) (ci := 0) (C := R_PT) (T := F_PT) (N := 3) hx hb hT in_PT hown hK hP 0 rfl rfl 0 (by decide) (hT _ tw_67) (fun _ h9 => h9) rfl dd_PT_put_86 ?_
      refine lv_dup hx hb dd_PT_put_89 rfl ?_
      refine va_get (D := D) (cl := classes) (ci := 1) (C := R_TR) (T := F_TR) (N := 11) hx hb hT in_TR hown hK hP 1 rfl rfl 1 (by decide) (hT _ tw_29) (fun _ h9 => h9) rfl dd_PT_put_90 ?_
      refine lv_iconst (v := 1) hx hb dd_PT_put_93 (by decide) ?_
      refine lv_iadd hx hb dd_PT_put_94 ?_
      rw [tq_1s]
      refine va_put (D := D) (cl := classes) (ci := 1) (ty := .int) (C := R_TR) (T := F_TR) (N := 11) hx hb hT in_TR t_TR t_TR_ok n_TR hown hK hP hD hS 1 rfl rfl 1 (by decide) (hT _ tw_29) (fun _ h9 => h9) rfl (by decide +kernel) rfl rfl (Nat.le_of_ble_eq_true rfl) dd_PT_put_95 (fun H locs hP hD hS => ?_)
      have hP : va_P D classes (wX cI cL h g cl len (n + 1) (vp_updL ca n c0) (vp_updL wa n w) z) H := hP
      have hD : va_D A (wX cI cL h g cl len (n + 1) (vp_updL ca n c0) (vp_updL wa n w) z) := hD
      refine lv_aload_n hx hb dd_PT_put_98 rfl (lv_at hl 1 rfl) ?_
      refine lv_iconst (v := 0) hx hb dd_PT_put_99 (by decide) ?_
      refine va_put (D := D) (cl := classes) (ci := 0) (ty := .boolean) (C := R_PT) (T := F_PT) (N := 3) hx hb hT in_PT t_PT t_PT_ok n_PT hown hK hP hD hS 0 rfl rfl 1 (by decide) (hT _ tw_68) (fun _ h9 => h9) rfl (by decide +kernel) rfl rfl (Nat.le_of_ble_eq_true rfl) dd_PT_put_100 (fun H locs hP hD hS => ?_)
      have hP : va_P D classes (wX cI cL h 0 cl len (n + 1) (vp_updL ca n c0) (vp_updL wa n w) z) H := hP
      have hD : va_D A (wX cI cL h 0 cl len (n + 1) (vp_updL ca n c0) (vp_updL wa n w) z) := hD
      refine lv_aload_n hx hb dd_PT_put_103 rfl (lv_at hl 1 rfl) ?_
      refine va_get (D := D) (cl := classes) (ci := 0) (C := R_PT) (T := F_PT) (N := 3) hx hb hT in_PT hown hK hP 0 rfl rfl 0 (by decide) (hT _ tw_67) (fun _ h9 => h9) rfl dd_PT_put_104 ?_
      refine va_get (D := D) (cl := classes) (ci := 1) (C := R_TR) (T := F_TR) (N := 11) hx hb hT in_TR hown hK hP 1 rfl rfl 1 (by decide) (hT _ tw_29) (fun _ h9 => h9) rfl dd_PT_put_107 ?_
      refine lv_iconst (v := 1) hx hb dd_PT_put_110 (by decide) ?_
      refine lv_isub hx hb dd_PT_put_111 ?_
      rw [nI_pred]
      exact ret _ (len, (n + 1), (vp_updL ca n c0), (vp_updL wa n w), cl, 0, z) H locs 0 0 112 ls ⟨by rw [eB], by rw [eB], by rw [eB]⟩ hP hD hS (Nat.zero_le _) (Nat.zero_le _) rfl dd_PT_put_112
    · have eB : (tPut n ca wa cl c0 w) = (2, 0, n, ca, wa, ff (csh ca wa c0 w) n) := by unfold tPut sPut; rw [if_neg hne, if_pos (Int32.not_lt.mp hc3)]
      refine lv_aload_n hx hb dd_PT_put_39 rfl (lv_at hl 1 rfl) ?_
      refine lv_iload hx hb dd_PT_put_40 (lv_at hl 0 rfl) ?_
      refine va_put (D := D) (cl := classes) (ci := 0) (ty := .int) (C := R_PT) (T := F_PT) (N := 3) hx hb hT in_PT t_PT t_PT_ok n_PT hown hK hP hD hS 0 rfl rfl 2 (by decide) (hT _ tw_69) (fun _ h9 => h9) rfl (by decide +kernel) rfl rfl (Nat.le_of_ble_eq_true rfl) dd_PT_put_42 (fun H locs hP hD hS => ?_)
      have hP : va_P D classes (wX cI cL h g (ff (csh ca wa c0 w) n) len n ca wa z) H := hP
      have hD : va_D A (wX cI cL h g (ff (csh ca wa c0 w) n) len n ca wa z) := hD
      exact tq_thr (cls := tq_ISE) hfl hx hb hml hl.1 hown (by decide) (hw_ISE hT hX) (hT _ tw_216) (hT _ tw_8) hSK hA hP hD hS dd_PT_put_45 dd_PT_put_48 dd_PT_put_49 dd_PT_put_52 (Nat.le_of_ble_eq_true rfl) (Nat.le_of_ble_eq_true rfl) (Nat.le_of_ble_eq_true rfl) (Nat.le_of_ble_eq_true rfl) (fun x9 H locs hxf hP hD hS => lv x9 _ (len, n, ca, wa, (ff (csh ca wa c0 w) n), g, z) H locs _ _ 52 ls _ (tq_nil htab) ⟨rfl, by rw [eB], by rw [eB]⟩ hxf hP hD hS (Nat.le_of_ble_eq_true rfl) (Nat.le_of_ble_eq_true rfl))
  · have h512 : n = 512 := (nI_eq (b := 512) (by omega) (by omega)).mp hc1
    have eB : (tPut n ca wa cl c0 w) = (2, 0, n, ca, wa, -1) := by unfold tPut sPut; rw [if_pos h512]
    refine lv_aload_n hx hb dd_PT_put_13 rfl (lv_at hl 0 rfl) ?_
    refine lv_iconst (v := -1) hx hb dd_PT_put_14 (by decide) ?_
    refine va_put (D := D) (cl := classes) (ci := 0) (ty := .int) (C := R_PT) (T := F_PT) (N := 3) hx hb hT in_PT t_PT t_PT_ok n_PT hown hK hP hD hS 0 rfl rfl 2 (by decide) (hT _ tw_69) (fun _ h9 => h9) rfl (by decide +kernel) rfl rfl (Nat.le_of_ble_eq_true rfl) dd_PT_put_15 (fun H locs hP hD hS => ?_)
    have hP : va_P D classes (wX cI cL h g (-1) len n ca wa z) H := hP
    have hD : va_D A (wX cI cL h g (-1) len n ca wa z) := hD
    exact tq_thr (cls := tq_ISE) hfl hx hb hml hl.1 hown (by decide) (hw_ISE hT hX) (hT _ tw_216) (hT _ tw_8) hSK hA hP hD hS dd_PT_put_18 dd_PT_put_21 dd_PT_put_22 dd_PT_put_25 (Nat.le_of_ble_eq_true rfl) (Nat.le_of_ble_eq_true rfl) (Nat.le_of_ble_eq_true rfl) (Nat.le_of_ble_eq_true rfl) (fun x9 H locs hxf hP hD hS => lv x9 _ (len, n, ca, wa, (-1), g, z) H locs _ _ 25 ls _ (tq_nil htab) ⟨rfl, by rw [eB], by rw [eB]⟩ hxf hP hD hS (Nat.le_of_ble_eq_true rfl) (Nat.le_of_ble_eq_true rfl))
set_option maxRecDepth 20000 in
theorem c_PT_add (l : Launch) (D : va_G) (cI cL : ClassId) (h : Nat → Nat) (g cl : Int32) (len n : Nat) (ca wa : Nat → Int64) (z : ZT) (c0 w : Int64) (hfl : l.flags = pinnedFlags ++ [noTraceFlag]) (hlen : len ≤ 64) (hn : n ≤ 512) : MT (S := PX) l yy_PT_add bb_PT_add 5 (some .int) [] (rmX 7 2) D cI cL [.ref (h 0), .long c0, .long w] (wX cI cL h g cl len n ca wa z) (fun u => wPx cI cL h u) (pI (fun r u => r = (tAdd len n ca wa cl c0 w).2.1 ∧ (tAdd len n ca wa cl c0 w).1 = 0 ∧ u = (len, (tAdd len n ca wa cl c0 w).2.2.1, (tAdd len n ca wa cl c0 w).2.2.2.1, (tAdd len n ca wa cl c0 w).2.2.2.2.1, (tAdd len n ca wa cl c0 w).2.2.2.2.2, 0, z))) (fun C u => (C = tq_IAE ∧ (tAdd len n ca wa cl c0 w).1 = 1 ∨ C = tq_ISE ∧ (tAdd len n ca wa cl c0 w).1 = 2) ∧ u = (len, (tAdd len n ca wa cl c0 w).2.2.1, (tAdd len n ca wa cl c0 w).2.2.2.1, (tAdd len n ca wa cl c0 w).2.2.2.2.1, (tAdd len n ca wa cl c0 w).2.2.2.2.2, g, z)) := by
  refine MT.mkI (by decide) (Nat.le_of_ble_eq_true rfl) ?_
  intro p e s m below meth c A Q B ret lv ls hl
  obtain ⟨hx, hb, hml, hown, hT, hK, hX, hSK, hA, hP, hD, hS, htab, hcode, hpl⟩ := B
  have hown : s.vm.findClass "PatternTree" = some m.cls := hown
  have hl : lv_has ls 5 [(0, .ref (h 0)), (1, .long c0), (3, .long w)] := hl
  refine lv_aload_n hx hb dd_PT_add_0 rfl (lv_at hl 0 rfl) ?_
  refine lv_lload_n hx hb dd_PT_add_1 rfl (lv_at hl 1 rfl) ?_
  refine lv_lload_n hx hb dd_PT_add_2 rfl (lv_at hl 2 rfl) ?_
  refine RdI.callV (c_PT_isPattern l D cI cL h g cl len n ca wa z c0 w hlen) vs_PT_64 ⟨hx, hb, hml, hown, hT⟩ hK hP 0 rfl rfl ⟨rfl, rfl⟩ (by decide) rfl hl.1 rfl (Nat.le_of_ble_eq_true rfl) dd_PT_add_3 ⟨Nat.zero_le _, Nat.zero_le _⟩ (fun r hr => ?_)
  subst hr
  have e0 : (b2i (isP len c0 w)) = 0 → isP len c0 w = false := fun h => by cases hb2 : isP len c0 w <;> simp_all [b2i]
  have e1 : (b2i (isP len c0 w)) ≠ 0 → isP len c0 w = true := fun h => by cases hb2 : isP len c0 w <;> simp_all [b2i]
  refine MT.callS (c_PT_check l D cI cL (wX cI cL h g cl len n ca wa z) (b2i (isP len c0 w)) hfl) ss_PT_26 ⟨hx, hb, hml, hown, hT⟩ ⟨hK, hX, hSK _ _ hS, hP, hD, hS, hA⟩ (tq_J.same _) (by decide) rfl hl.1 rfl (Nat.le_of_ble_eq_true rfl) dd_PT_add_6 ⟨by decide, by decide⟩ (fun v u H locs hp hP hD hS => ?_) (fun x9 C9 u9 H locs hp hxf hP hD hS => lv x9 C9 (len, n, ca, wa, cl, g, z) H locs _ _ 6 ls _ (tq_nil htab) ⟨Or.inl ⟨hp.1, by unfold tAdd; rw [if_neg (by rw [e0 hp.2]; decide)]⟩, by unfold tAdd; rw [if_neg (by rw [e0 hp.2]; decide)]⟩ hxf hP hD hS (Nat.le_of_ble_eq_true rfl) (Nat.le_of_ble_eq_true rfl))
  obtain ⟨rfl, hp1⟩ := hp
  have eB : (tAdd len n ca wa cl c0 w) = tPut n ca wa cl (c0 &&& mk len) (w &&& mk len) := by unfold tAdd; rw [if_pos (e1 hp1)]
  refine lv_aload_n hx hb dd_PT_add_9 rfl (lv_at hl 0 rfl) ?_
  refine lv_lload_n hx hb dd_PT_add_10 rfl (lv_at hl 1 rfl) ?_
  refine lv_aload_n hx hb dd_PT_add_11 rfl (lv_at hl 0 rfl) ?_
  refine va_get (D := D) (cl := classes) (ci := 0) (C := R_PT) (T := F_PT) (N := 3) hx hb hT in_PT hown hK hP 0 rfl rfl 0 (by decide) (hT _ tw_67) (fun _ h9 => h9) rfl dd_PT_add_12 ?_
  refine RdL.callV (c_TR_mask l D cI cL h g cl len n ca wa z hlen) vs_PT_60 ⟨hx, hb, hml, hown, hT⟩ hK hP 1 rfl rfl ⟨rfl, rfl⟩ (by decide) rfl hl.1 rfl (Nat.le_of_ble_eq_true rfl) dd_PT_add_15 ⟨(Nat.le_of_ble_eq_true rfl), (Nat.le_of_ble_eq_true rfl)⟩ (fun r hr => ?_)
  subst hr
  refine lv_land hx hb dd_PT_add_18 ?_
  refine lv_lload_n hx hb dd_PT_add_19 rfl (lv_at hl 2 rfl) ?_
  refine lv_aload_n hx hb dd_PT_add_20 rfl (lv_at hl 0 rfl) ?_
  refine va_get (D := D) (cl := classes) (ci := 0) (C := R_PT) (T := F_PT) (N := 3) hx hb hT in_PT hown hK hP 0 rfl rfl 0 (by decide) (hT _ tw_67) (fun _ h9 => h9) rfl dd_PT_add_21 ?_
  refine RdL.callV (c_TR_mask l D cI cL h g cl len n ca wa z hlen) vs_PT_60 ⟨hx, hb, hml, hown, hT⟩ hK hP 1 rfl rfl ⟨rfl, rfl⟩ (by decide) rfl hl.1 rfl (Nat.le_of_ble_eq_true rfl) dd_PT_add_24 ⟨(Nat.le_of_ble_eq_true rfl), (Nat.le_of_ble_eq_true rfl)⟩ (fun r hr => ?_)
  subst hr
  refine lv_land hx hb dd_PT_add_27 ?_
  refine MT.callV (c_PT_put l D cI cL h g cl len n ca wa z (c0 &&& mk len) (w &&& mk len) hfl hn) vs_PT_68 ⟨hx, hb, hml, hown, hT⟩ ⟨hK, hX, hSK _ _ hS, hP, hD, hS, hA⟩ (tq_J.same _) 0 rfl rfl (by decide) rfl hl.1 rfl (Nat.le_of_ble_eq_true rfl) dd_PT_add_28 ⟨by decide, by decide⟩ (fun v u H locs hp hP hD hS => ?_) (fun x9 C9 u9 H locs hp hxf hP hD hS => lv x9 C9 u9 H locs _ _ 28 ls _ (tq_nil htab) ⟨Or.inr ⟨hp.1, by rw [eB]; exact hp.2.1⟩, by rw [eB]; exact hp.2.2⟩ hxf hP hD hS (Nat.le_of_ble_eq_true rfl) (Nat.le_of_ble_eq_true rfl))
  obtain ⟨r1, rfl, hr1, hr2, rfl⟩ := hp
  exact ret _ _ H locs _ _ 31 ls ⟨by rw [eB]; exact hr1, by rw [eB]; exact hr2, by rw [eB]⟩ hP hD hS (Nat.le_of_ble_eq_true rfl) (Nat.le_of_ble_eq_true rfl) rfl dd_PT_add_31
set_option maxRecDepth 20000 in
theorem c_PT_meets (l : Launch) (D : va_G) (cI cL : ClassId) (h : Nat → Nat) (g cl : Int32) (len n : Nat) (ca wa : Nat → Int64) (z : ZT) (c0 w : Int64) (hfl : l.flags = pinnedFlags ++ [noTraceFlag]) (hlen : len ≤ 64) (hn : n ≤ 512) : MT (S := PX) l yy_PT_meets bb_PT_meets 5 (some .int) [] (rmX 7 1) D cI cL [.ref (h 0), .long c0, .long w] (wX cI cL h g cl len n ca wa z) (fun u => wPx cI cL h u) (pI (fun r u => r = ff (csh ca wa (c0 &&& mk len) (w &&& mk len)) n ∧ isP len c0 w = true ∧ u = (len, n, ca, wa, cl, g, z))) (fun C u => C = tq_IAE ∧ isP len c0 w = false ∧ u = (len, n, ca, wa, cl, g, z)) := by
  refine MT.mkI (by decide) (Nat.le_of_ble_eq_true rfl) ?_
  intro p e s m below meth c A Q B ret lv ls hl
  obtain ⟨hx, hb, hml, hown, hT, hK, hX, hSK, hA, hP, hD, hS, htab, hcode, hpl⟩ := B
  have hown : s.vm.findClass "PatternTree" = some m.cls := hown
  have hl : lv_has ls 5 [(0, .ref (h 0)), (1, .long c0), (3, .long w)] := hl
  refine lv_aload_n hx hb dd_PT_meets_0 rfl (lv_at hl 0 rfl) ?_
  refine lv_lload_n hx hb dd_PT_meets_1 rfl (lv_at hl 1 rfl) ?_
  refine lv_lload_n hx hb dd_PT_meets_2 rfl (lv_at hl 2 rfl) ?_
  refine RdI.callV (c_PT_isPattern l D cI cL h g cl len n ca wa z c0 w hlen) vs_PT_64 ⟨hx, hb, hml, hown, hT⟩ hK hP 0 rfl rfl ⟨rfl, rfl⟩ (by decide) rfl hl.1 rfl (Nat.le_of_ble_eq_true rfl) dd_PT_meets_3 ⟨Nat.zero_le _, Nat.zero_le _⟩ (fun r hr => ?_)
  subst hr
  have e0 : (b2i (isP len c0 w)) = 0 → isP len c0 w = false := fun h => by cases hb2 : isP len c0 w <;> simp_all [b2i]
  have e1 : (b2i (isP len c0 w)) ≠ 0 → isP len c0 w = true := fun h => by cases hb2 : isP len c0 w <;> simp_all [b2i]
  refine MT.callS (c_PT_check l D cI cL (wX cI cL h g cl len n ca wa z) (b2i (isP len c0 w)) hfl) ss_PT_26 ⟨hx, hb, hml, hown, hT⟩ ⟨hK, hX, hSK _ _ hS, hP, hD, hS, hA⟩ (tq_J.same _) (by decide) rfl hl.1 rfl (Nat.le_of_ble_eq_true rfl) dd_PT_meets_6 ⟨by decide, by decide⟩ (fun v u H locs hp hP hD hS => ?_) (fun x9 C9 u9 H locs hp hxf hP hD hS => lv x9 C9 (len, n, ca, wa, cl, g, z) H locs _ _ 6 ls _ (tq_nil htab) ⟨hp.1, e0 hp.2, rfl⟩ hxf hP hD hS (Nat.le_of_ble_eq_true rfl) (Nat.le_of_ble_eq_true rfl))
  obtain ⟨rfl, hp1⟩ := hp
  refine lv_aload_n hx hb dd_PT_meets_9 rfl (lv_at hl 0 rfl) ?_
  refine lv_lload_n hx hb dd_PT_meets_10 rfl (lv_at hl 1 rfl) ?_
  refine lv_aload_n hx hb dd_PT_meets_11 rfl (lv_at hl 0 rfl) ?_
  refine va_get (D := D) (cl := classes) (ci := 0) (C := R_PT) (T := F_PT) (N := 3) hx hb hT in_PT hown hK hP 0 rfl rfl 0 (by decide) (hT _ tw_67) (fun _ h9 => h9) rfl dd_PT_meets_12 ?_
  refine RdL.callV (c_TR_mask l D cI cL h g cl len n ca wa z hlen) vs_PT_60 ⟨hx, hb, hml, hown, hT⟩ hK hP 1 rfl rfl ⟨rfl, rfl⟩ (by decide) rfl hl.1 rfl (Nat.le_of_ble_eq_true rfl) dd_PT_meets_15 ⟨(Nat.le_of_ble_eq_true rfl), (Nat.le_of_ble_eq_true rfl)⟩ (fun r hr => ?_)
  subst hr
  refine lv_land hx hb dd_PT_meets_18 ?_
  refine lv_lload_n hx hb dd_PT_meets_19 rfl (lv_at hl 2 rfl) ?_
  refine lv_aload_n hx hb dd_PT_meets_20 rfl (lv_at hl 0 rfl) ?_
  refine va_get (D := D) (cl := classes) (ci := 0) (C := R_PT) (T := F_PT) (N := 3) hx hb hT in_PT hown hK hP 0 rfl rfl 0 (by decide) (hT _ tw_67) (fun _ h9 => h9) rfl dd_PT_meets_21 ?_
  refine RdL.callV (c_TR_mask l D cI cL h g cl len n ca wa z hlen) vs_PT_60 ⟨hx, hb, hml, hown, hT⟩ hK hP 1 rfl rfl ⟨rfl, rfl⟩ (by decide) rfl hl.1 rfl (Nat.le_of_ble_eq_true rfl) dd_PT_meets_24 ⟨(Nat.le_of_ble_eq_true rfl), (Nat.le_of_ble_eq_true rfl)⟩ (fun r hr => ?_)
  subst hr
  refine lv_land hx hb dd_PT_meets_27 ?_
  refine RdI.callV (c_PT_find2 l D cI cL h g cl len n ca wa z (c0 &&& mk len) (w &&& mk len) hn) vs_PT_47 ⟨hx, hb, hml, hown, hT⟩ hK hP 0 rfl rfl ⟨rfl, rfl⟩ (by decide) rfl hl.1 rfl (Nat.le_of_ble_eq_true rfl) dd_PT_meets_28 ⟨(Nat.le_of_ble_eq_true rfl), (Nat.le_of_ble_eq_true rfl)⟩ (fun r hr => ?_)
  subst hr
  exact ret _ (len, n, ca, wa, cl, g, z) H locs _ _ 31 ls ⟨rfl, e1 hp1, rfl⟩ hP hD hS (Nat.le_of_ble_eq_true rfl) (Nat.le_of_ble_eq_true rfl) rfl dd_PT_meets_31
set_option maxRecDepth 20000 in
theorem c_PT_free (l : Launch) (D : va_G) (cI cL : ClassId) (h : Nat → Nat) (g cl : Int32) (len n : Nat) (ca wa : Nat → Int64) (z : ZT) (c0 w : Int64) (hfl : l.flags = pinnedFlags ++ [noTraceFlag]) (hlen : len ≤ 64) (hn : n ≤ 512) : MT (S := PX) l yy_PT_free bb_PT_free 5 (some .long) [] (rmX 7 1) D cI cL [.ref (h 0), .long c0, .long w] (wX cI cL h g cl len n ca wa z) (fun u => wPx cI cL h u) (pL (fun r u => r = popen len n ca wa (c0 &&& mk len) (w &&& mk len) ∧ isP len c0 w = true ∧ u = (len, n, ca, wa, cl, g, z))) (fun C u => C = tq_IAE ∧ isP len c0 w = false ∧ u = (len, n, ca, wa, cl, g, z)) := by
  refine MT.mkL (by decide) (Nat.le_of_ble_eq_true rfl) ?_
  intro p e s m below meth c A Q B ret lv ls hl
  obtain ⟨hx, hb, hml, hown, hT, hK, hX, hSK, hA, hP, hD, hS, htab, hcode, hpl⟩ := B
  have hown : s.vm.findClass "PatternTree" = some m.cls := hown
  have hl : lv_has ls 5 [(0, .ref (h 0)), (1, .long c0), (3, .long w)] := hl
  refine lv_aload_n hx hb dd_PT_free_0 rfl (lv_at hl 0 rfl) ?_
  refine lv_lload_n hx hb dd_PT_free_1 rfl (lv_at hl 1 rfl) ?_
  refine lv_lload_n hx hb dd_PT_free_2 rfl (lv_at hl 2 rfl) ?_
  refine RdI.callV (c_PT_isPattern l D cI cL h g cl len n ca wa z c0 w hlen) vs_PT_64 ⟨hx, hb, hml, hown, hT⟩ hK hP 0 rfl rfl ⟨rfl, rfl⟩ (by decide) rfl hl.1 rfl (Nat.le_of_ble_eq_true rfl) dd_PT_free_3 ⟨Nat.zero_le _, Nat.zero_le _⟩ (fun r hr => ?_)
  subst hr
  have e0 : (b2i (isP len c0 w)) = 0 → isP len c0 w = false := fun h => by cases hb2 : isP len c0 w <;> simp_all [b2i]
  have e1 : (b2i (isP len c0 w)) ≠ 0 → isP len c0 w = true := fun h => by cases hb2 : isP len c0 w <;> simp_all [b2i]
  refine MT.callS (c_PT_check l D cI cL (wX cI cL h g cl len n ca wa z) (b2i (isP len c0 w)) hfl) ss_PT_26 ⟨hx, hb, hml, hown, hT⟩ ⟨hK, hX, hSK _ _ hS, hP, hD, hS, hA⟩ (tq_J.same _) (by decide) rfl hl.1 rfl (Nat.le_of_ble_eq_true rfl) dd_PT_free_6 ⟨by decide, by decide⟩ (fun v u H locs hp hP hD hS => ?_) (fun x9 C9 u9 H locs hp hxf hP hD hS => lv x9 C9 (len, n, ca, wa, cl, g, z) H locs _ _ 6 ls _ (tq_nil htab) ⟨hp.1, e0 hp.2, rfl⟩ hxf hP hD hS (Nat.le_of_ble_eq_true rfl) (Nat.le_of_ble_eq_true rfl))
  obtain ⟨rfl, hp1⟩ := hp
  refine lv_aload_n hx hb dd_PT_free_9 rfl (lv_at hl 0 rfl) ?_
  refine lv_lload_n hx hb dd_PT_free_10 rfl (lv_at hl 1 rfl) ?_
  refine lv_aload_n hx hb dd_PT_free_11 rfl (lv_at hl 0 rfl) ?_
  refine va_get (D := D) (cl := classes) (ci := 0) (C := R_PT) (T := F_PT) (N := 3) hx hb hT in_PT hown hK hP 0 rfl rfl 0 (by decide) (hT _ tw_67) (fun _ h9 => h9) rfl dd_PT_free_12 ?_
  refine RdL.callV (c_TR_mask l D cI cL h g cl len n ca wa z hlen) vs_PT_60 ⟨hx, hb, hml, hown, hT⟩ hK hP 1 rfl rfl ⟨rfl, rfl⟩ (by decide) rfl hl.1 rfl (Nat.le_of_ble_eq_true rfl) dd_PT_free_15 ⟨(Nat.le_of_ble_eq_true rfl), (Nat.le_of_ble_eq_true rfl)⟩ (fun r hr => ?_)
  subst hr
  refine lv_land hx hb dd_PT_free_18 ?_
  refine lv_lload_n hx hb dd_PT_free_19 rfl (lv_at hl 2 rfl) ?_
  refine lv_aload_n hx hb dd_PT_free_20 rfl (lv_at hl 0 rfl) ?_
  refine va_get (D := D) (cl := classes) (ci := 0) (C := R_PT) (T := F_PT) (N := 3) hx hb hT in_PT hown hK hP 0 rfl rfl 0 (by decide) (hT _ tw_67) (fun _ h9 => h9) rfl dd_PT_free_21 ?_
  refine RdL.callV (c_TR_mask l D cI cL h g cl len n ca wa z hlen) vs_PT_60 ⟨hx, hb, hml, hown, hT⟩ hK hP 1 rfl rfl ⟨rfl, rfl⟩ (by decide) rfl hl.1 rfl (Nat.le_of_ble_eq_true rfl) dd_PT_free_24 ⟨(Nat.le_of_ble_eq_true rfl), (Nat.le_of_ble_eq_true rfl)⟩ (fun r hr => ?_)
  subst hr
  refine lv_land hx hb dd_PT_free_27 ?_
  refine RdL.callV (c_PT_open l D cI cL h g cl len n ca wa z (c0 &&& mk len) (w &&& mk len) hn) vs_PT_96 ⟨hx, hb, hml, hown, hT⟩ hK hP 0 rfl rfl ⟨rfl, rfl⟩ (by decide) rfl hl.1 rfl (Nat.le_of_ble_eq_true rfl) dd_PT_free_28 ⟨(Nat.le_of_ble_eq_true rfl), (Nat.le_of_ble_eq_true rfl)⟩ (fun r hr => ?_)
  subst hr
  exact ret _ (len, n, ca, wa, cl, g, z) H locs _ _ 31 ls ⟨rfl, e1 hp1, rfl⟩ hP hD hS (Nat.le_of_ble_eq_true rfl) (Nat.le_of_ble_eq_true rfl) dd_PT_free_31
set_option maxRecDepth 20000 in
theorem c_PT_clear (l : Launch) (D : va_G) (cI cL : ClassId) (h : Nat → Nat) (g cl : Int32) (len n : Nat) (ca wa : Nat → Int64) (z : ZT) (x : Int32) (hfl : l.flags = pinnedFlags ++ [noTraceFlag]) : MT (S := PX) l yy_PT_clear bb_PT_clear 2 none [] (rmX 7 1) D cI cL [.ref (h 0), .int x] (wX cI cL h g cl len n ca wa z) (fun u => wPx cI cL h u) (pV (fun u => (1 ≤ x ∧ x ≤ 64) ∧ u = (x.toNatClampNeg, 0, ca, wa, cl, 0, z))) (fun C u => C = tq_IAE ∧ ¬ (1 ≤ x ∧ x ≤ 64) ∧ u = (len, n, ca, wa, cl, g, z)) := by
  refine MT.mkV (by decide) (Nat.le_of_ble_eq_true rfl) ?_
  intro p e s m below meth c A Q B ret lv ls hl
  obtain ⟨hx, hb, hml, hown, hT, hK, hX, hSK, hA, hP, hD, hS, htab, hcode, hpl⟩ := B
  have hown : s.vm.findClass "PatternTree" = some m.cls := hown
  have hl : lv_has ls 2 [(0, .ref (h 0)), (1, .int x)] := hl
  refine lv_iload_n hx hb dd_PT_clear_0 rfl (lv_at hl 1 rfl) ?_
  refine lv_iconst (v := 1) hx hb dd_PT_clear_1 (by decide) ?_
  refine lv_icmp_lt (tgt := 15) hx hb dd_PT_clear_2 (by decide) (fun hc => ?_) (fun hc => ?_)
  · refine lv_iconst (v := 0) hx hb dd_PT_clear_15 (by decide) ?_
    refine MT.callS (c_PT_check l D cI cL (wX cI cL h g cl len n ca wa z) 0 hfl) ss_PT_26 ⟨hx, hb, hml, hown, hT⟩ ⟨hK, hX, hSK _ _ hS, hP, hD, hS, hA⟩ (tq_J.same _) (by decide) rfl hl.1 rfl (Nat.le_of_ble_eq_true rfl) dd_PT_clear_16 ⟨by decide, by decide⟩ (fun v u H locs hp hP hD hS => ?_) (fun x9 C9 u9 H locs hp hxf hP hD hS => lv x9 C9 (len, n, ca, wa, cl, g, z) H locs _ _ 16 ls _ (tq_nil htab) ⟨hp.1, fun hh => absurd hc (Int32.not_lt.mpr hh.1), rfl⟩ hxf hP hD hS (Nat.le_of_ble_eq_true rfl) (Nat.le_of_ble_eq_true rfl))
    exact absurd rfl hp.2
  · refine lv_iload_n hx hb dd_PT_clear_5 rfl (lv_at hl 1 rfl) ?_
    refine lv_bipush (v := 64) hx hb dd_PT_clear_6 (by decide) ?_
    refine lv_icmp_gt (tgt := 15) hx hb dd_PT_clear_8 (by decide) (fun hc2 => ?_) (fun hc2 => ?_)
    · refine lv_iconst (v := 0) hx hb dd_PT_clear_15 (by decide) ?_
      refine MT.callS (c_PT_check l D cI cL (wX cI cL h g cl len n ca wa z) 0 hfl) ss_PT_26 ⟨hx, hb, hml, hown, hT⟩ ⟨hK, hX, hSK _ _ hS, hP, hD, hS, hA⟩ (tq_J.same _) (by decide) rfl hl.1 rfl (Nat.le_of_ble_eq_true rfl) dd_PT_clear_16 ⟨by decide, by decide⟩ (fun v u H locs hp hP hD hS => ?_) (fun x9 C9 u9 H locs hp hxf hP hD hS => lv x9 C9 (len, n, ca, wa, cl, g, z) H locs _ _ 16 ls _ (tq_nil htab) ⟨hp.1, fun hh => absurd hc2 (Int32.not_lt.mpr hh.2), rfl⟩ hxf hP hD hS (Nat.le_of_ble_eq_true rfl) (Nat.le_of_ble_eq_true rfl))
      exact absurd rfl hp.2
    · obtain ⟨j, hj, rfl⟩ : ∃ j, j ≤ 64 ∧ x = nI j := nI_of2 (M := 64) (by decide) (fun h0 => hc (Int32.lt_trans h0 (by decide))) (Int32.not_lt.mp hc2)
      refine lv_iconst (v := 1) hx hb dd_PT_clear_11 (by decide) ?_
      refine lv_goto (tgt := 16) hx hb dd_PT_clear_12 (by decide) ?_
      refine MT.callS (c_PT_check l D cI cL (wX cI cL h g cl len n ca wa z) 1 hfl) ss_PT_26 ⟨hx, hb, hml, hown, hT⟩ ⟨hK, hX, hSK _ _ hS, hP, hD, hS, hA⟩ (tq_J.same _) (by decide) rfl hl.1 rfl (Nat.le_of_ble_eq_true rfl) dd_PT_clear_16 ⟨by decide, by decide⟩ (fun v u H locs hp hP hD hS => ?_) (fun x9 C9 u9 H locs hp hxf hP hD hS => absurd hp.2 (by decide))
      obtain ⟨rfl, -⟩ := hp
      refine lv_aload_n hx hb dd_PT_clear_19 rfl (lv_at hl 0 rfl) ?_
      refine va_get (D := D) (cl := classes) (ci := 0) (C := R_PT) (T := F_PT) (N := 3) hx hb hT in_PT hown hK hP 0 rfl rfl 0 (by decide) (hT _ tw_67) (fun _ h9 => h9) rfl dd_PT_clear_20 ?_
      refine lv_iload_n hx hb dd_PT_clear_23 rfl (lv_at hl 1 rfl) ?_
      refine va_put (D := D) (cl := classes) (ci := 1) (ty := .int) (C := R_TR) (T := F_TR) (N := 11) hx hb hT in_TR t_TR t_TR_ok n_TR hown hK hP hD hS 1 rfl rfl 0 (by decide) (hT _ tw_28) (fun _ h9 => h9) rfl (by decide +kernel) rfl rfl (Nat.le_of_ble_eq_true rfl) dd_PT_clear_24 (fun H locs hP hD hS => ?_)
      have hP : va_P D classes (wX cI cL h g cl j n ca wa z) H := hP
      have hD : va_D A (wX cI cL h g cl j n ca wa z) := hD
      refine lv_aload_n hx hb dd_PT_clear_27 rfl (lv_at hl 0 rfl) ?_
      refine va_get (D := D) (cl := classes) (ci := 0) (C := R_PT) (T := F_PT) (N := 3) hx hb hT in_PT hown hK hP 0 rfl rfl 0 (by decide) (hT _ tw_67) (fun _ h9 => h9) rfl dd_PT_clear_28 ?_
      refine lv_iconst (v := 0) hx hb dd_PT_clear_31 (by decide) ?_
      refine va_put (D := D) (cl := classes) (ci := 1) (ty := .int) (C := R_TR) (T := F_TR) (N := 11) hx hb hT in_TR t_TR t_TR_ok n_TR hown hK hP hD hS 1 rfl rfl 1 (by decide) (hT _ tw_29) (fun _ h9 => h9) rfl (by decide +kernel) rfl rfl (Nat.le_of_ble_eq_true rfl) dd_PT_clear_32 (fun H locs hP hD hS => ?_)
      have hP : va_P D classes (wX cI cL h g cl j 0 ca wa z) H := hP
      have hD : va_D A (wX cI cL h g cl j 0 ca wa z) := hD
      refine lv_aload_n hx hb dd_PT_clear_35 rfl (lv_at hl 0 rfl) ?_
      refine lv_iconst (v := 0) hx hb dd_PT_clear_36 (by decide) ?_
      refine va_put (D := D) (cl := classes) (ci := 0) (ty := .boolean) (C := R_PT) (T := F_PT) (N := 3) hx hb hT in_PT t_PT t_PT_ok n_PT hown hK hP hD hS 0 rfl rfl 1 (by decide) (hT _ tw_68) (fun _ h9 => h9) rfl (by decide +kernel) rfl rfl (Nat.le_of_ble_eq_true rfl) dd_PT_clear_37 (fun H locs hP hD hS => ?_)
      have hP : va_P D classes (wX cI cL h 0 cl j 0 ca wa z) H := hP
      have hD : va_D A (wX cI cL h 0 cl j 0 ca wa z) := hD
      exact ret (j, 0, ca, wa, cl, 0, z) H locs _ _ 40 ls ⟨⟨Int32.not_lt.mp hc, Int32.not_lt.mp hc2⟩, by rw [nI_clamp (by omega)]⟩ hP hD hS (Nat.le_of_ble_eq_true rfl) (Nat.le_of_ble_eq_true rfl) dd_PT_clear_40
set_option maxRecDepth 20000 in
theorem c_PT_drop (l : Launch) (D : va_G) (cI cL : ClassId) (h : Nat → Nat) (g cl : Int32) (len n : Nat) (ca wa : Nat → Int64) (z : ZT) (i : Int32) (hfl : l.flags = pinnedFlags ++ [noTraceFlag]) (hn : n ≤ 512) : MT (S := PX) l yy_PT_drop bb_PT_drop 3 none [] (rmX 7 1) D cI cL [.ref (h 0), .int i] (wX cI cL h g cl len n ca wa z) (fun u => wPx cI cL h u) (pV (fun u => (sDrop n ca wa i).1 = 0 ∧ u = (len, (sDrop n ca wa i).2.1, (sDrop n ca wa i).2.2.1, (sDrop n ca wa i).2.2.2, cl, 0, z))) (fun C u => C = tq_NSE ∧ (sDrop n ca wa i).1 = 1 ∧ u = (len, (sDrop n ca wa i).2.1, (sDrop n ca wa i).2.2.1, (sDrop n ca wa i).2.2.2, cl, g, z)) := by
  refine MT.mkV (by decide) (Nat.le_of_ble_eq_true rfl) ?_
  intro p e s m below meth c A Q B ret lv ls hl
  obtain ⟨hx, hb, hml, hown, hT, hK, hX, hSK, hA, hP, hD, hS, htab, hcode, hpl⟩ := B
  have hown : s.vm.findClass "PatternTree" = some m.cls := hown
  have hl : lv_has ls 3 [(0, .ref (h 0)), (1, .int i)] := hl
  refine lv_iload_n hx hb dd_PT_drop_0 rfl (lv_at hl 1 rfl) ?_
  refine lv_if_lt (tgt := 19) hx hb dd_PT_drop_1 (by decide) (fun hc => ?_) (fun hc => ?_)
  · have eA : (sDrop n ca wa i) = (1, n, ca, wa) := by unfold sDrop; rw [if_neg (fun hh => absurd hc (Int32.not_lt.mpr hh.1))]
    refine lv_iconst (v := 0) hx hb dd_PT_drop_19 (by decide) ?_
    refine MT.callS (c_PT_there l D cI cL (wX cI cL h g cl len n ca wa z) 0 hfl) ss_PT_75 ⟨hx, hb, hml, hown, hT⟩ ⟨hK, hX, hSK _ _ hS, hP, hD, hS, hA⟩ (tq_J.same _) (by decide) rfl hl.1 rfl (Nat.le_of_ble_eq_true rfl) dd_PT_drop_20 ⟨by decide, by decide⟩ (fun v u H locs hp hP hD hS => ?_) (fun x9 C9 u9 H locs hp hxf hP hD hS => lv x9 C9 (len, n, ca, wa, cl, g, z) H locs _ _ 20 ls _ (tq_nil htab) ⟨hp.1, by rw [eA], by rw [eA]⟩ hxf hP hD hS (Nat.le_of_ble_eq_true rfl) (Nat.le_of_ble_eq_true rfl))
    exact absurd rfl hp.2
  · refine lv_iload_n hx hb dd_PT_drop_4 rfl (lv_at hl 1 rfl) ?_
    refine lv_aload_n hx hb dd_PT_drop_5 rfl (lv_at hl 0 rfl) ?_
    refine va_get (D := D) (cl := classes) (ci := 0) (C := R_PT) (T := F_PT) (N := 3) hx hb hT in_PT hown hK hP 0 rfl rfl 0 (by decide) (hT _ tw_67) (fun _ h9 => h9) rfl dd_PT_drop_6 ?_
    refine va_get (D := D) (cl := classes) (ci := 1) (C := R_TR) (T := F_TR) (N := 11) hx hb hT in_TR hown hK hP 1 rfl rfl 1 (by decide) (hT _ tw_29) (fun _ h9 => h9) rfl dd_PT_drop_9 ?_
    refine lv_icmp_ge (tgt := 19) hx hb dd_PT_drop_12 (by decide) (fun hc2 => ?_) (fun hc2 => ?_)
    · have eA : (sDrop n ca wa i) = (1, n, ca, wa) := by unfold sDrop; rw [if_neg (fun hh => absurd hc2 (Int32.not_le.mpr hh.2))]
      refine lv_iconst (v := 0) hx hb dd_PT_drop_19 (by decide) ?_
      refine MT.callS (c_PT_there l D cI cL (wX cI cL h g cl len n ca wa z) 0 hfl) ss_PT_75 ⟨hx, hb, hml, hown, hT⟩ ⟨hK, hX, hSK _ _ hS, hP, hD, hS, hA⟩ (tq_J.same _) (by decide) rfl hl.1 rfl (Nat.le_of_ble_eq_true rfl) dd_PT_drop_20 ⟨by decide, by decide⟩ (fun v u H locs hp hP hD hS => ?_) (fun x9 C9 u9 H locs hp hxf hP hD hS => lv x9 C9 (len, n, ca, wa, cl, g, z) H locs _ _ 20 ls _ (tq_nil htab) ⟨hp.1, by rw [eA], by rw [eA]⟩ hxf hP hD hS (Nat.le_of_ble_eq_true rfl) (Nat.le_of_ble_eq_true rfl))
      exact absurd rfl hp.2
    · have hc3 : i < nI n := Int32.not_le.mp hc2
      obtain ⟨q, hq, rfl⟩ := ix_of (by omega) hc hc3
      have eA : (sDrop n ca wa (nI q)) = (0, n - 1, shf ca q (n - 1), shf wa q (n - 1)) := by unfold sDrop; rw [if_pos ⟨Int32.not_lt.mp hc, hc3⟩, nI_clamp (by omega)]
      have ep : nI n - 1 = nI (n - 1) := by
        have := nI_pred (n - 1)
        rwa [show n - 1 + 1 = n by omega] at this
      refine lv_iconst (v := 1) hx hb dd_PT_drop_15 (by decide) ?_
      refine lv_goto (tgt := 20) hx hb dd_PT_drop_16 (by decide) ?_
      refine MT.callS (c_PT_there l D cI cL (wX cI cL h g cl len n ca wa z) 1 hfl) ss_PT_75 ⟨hx, hb, hml, hown, hT⟩ ⟨hK, hX, hSK _ _ hS, hP, hD, hS, hA⟩ (tq_J.same _) (by decide) rfl hl.1 rfl (Nat.le_of_ble_eq_true rfl) dd_PT_drop_20 ⟨by decide, by decide⟩ (fun v u H locs hp hP hD hS => ?_) (fun x9 C9 u9 H locs hp hxf hP hD hS => absurd hp.2 (by decide))
      obtain ⟨rfl, -⟩ := hp
      refine lv_aload_n hx hb dd_PT_drop_23 rfl (lv_at hl 0 rfl) ?_
      refine va_get (D := D) (cl := classes) (ci := 0) (C := R_PT) (T := F_PT) (N := 3) hx hb hT in_PT hown hK hP 0 rfl rfl 0 (by decide) (hT _ tw_67) (fun _ h9 => h9) rfl dd_PT_drop_24 ?_
      refine lv_dup hx hb dd_PT_drop_27 rfl ?_
      refine va_get (D := D) (cl := classes) (ci := 1) (C := R_TR) (T := F_TR) (N := 11) hx hb hT in_TR hown hK hP 1 rfl rfl 1 (by decide) (hT _ tw_29) (fun _ h9 => h9) rfl dd_PT_drop_28 ?_
      refine lv_iconst (v := 1) hx hb dd_PT_drop_31 (by decide) ?_
      refine lv_isub hx hb dd_PT_drop_32 ?_
      rw [ep]
      refine va_put (D := D) (cl := classes) (ci := 1) (ty := .int) (C := R_TR) (T := F_TR) (N := 11) hx hb hT in_TR t_TR t_TR_ok n_TR hown hK hP hD hS 1 rfl rfl 1 (by decide) (hT _ tw_29) (fun _ h9 => h9) rfl (by decide +kernel) rfl rfl (Nat.le_of_ble_eq_true rfl) dd_PT_drop_33 (fun H locs hP hD hS => ?_)
      have hP : va_P D classes (wX cI cL h g cl len (n - 1) ca wa z) H := hP
      have hD : va_D A (wX cI cL h g cl len (n - 1) ca wa z) := hD
      refine lv_iload_n hx hb dd_PT_drop_36 rfl (lv_at hl 1 rfl) ?_
      refine lv_topi (fun v37 e37 => ?_)
      obtain rfl : v37 = nI q := e37
      refine lv_istore_n hx hb dd_PT_drop_37 rfl hl (by decide) rfl (fun ls hl => ?_)
      have hl : lv_has ls 3 [(2, .int (nI q)), (0, .ref (h 0)), (1, .int (nI q))] := hl
      have hl : lv_has ls 3 [(2, .int (nI q)), (0, .ref (h 0))] := lv_sub hl [0, 1] rfl
      have loop : ∀ (j k : Nat) (H : Heap) (locs : List Loc) (ls : Array Slot), k + j = n - 1 → q ≤ k → va_P D classes (wX cI cL h g cl len (n - 1) (shf ca q k) (shf wa q k) z) H → va_D A (wX cI cL h g cl len (n - 1) (shf ca q k) (shf wa q k) z) → va_S A s.heap H locs → lv_has ls 3 [(2, .int (nI k)), (0, .ref (h 0))] → W p l e (rmX 7 1) s m ([.ref (h 0), .int (nI q)] : List Value).toArray below meth c H locs 1 6 Q (F0 m 38 ls []) := by
        intro j
        induction j with
        | zero =>
          intro k H locs ls hkj hqk hP hD hS hl
          refine lv_iload_n hx hb dd_PT_drop_38 rfl (lv_at hl 0 rfl) ?_
          refine lv_aload_n hx hb dd_PT_drop_39 rfl (lv_at hl 1 rfl) ?_
          refine va_get (D := D) (cl := classes) (ci := 0) (C := R_PT) (T := F_PT) (N := 3) hx hb hT in_PT hown hK hP 0 rfl rfl 0 (by decide) (hT _ tw_67) (fun _ h9 => h9) rfl dd_PT_drop_40 ?_
          refine va_get (D := D) (cl := classes) (ci := 1) (C := R_TR) (T := F_TR) (N := 11) hx hb hT in_TR hown hK hP 1 rfl rfl 1 (by decide) (hT _ tw_29) (fun _ h9 => h9) rfl dd_PT_drop_43 ?_
          refine tq_ige (tgt := 95) hx hb (by omega) (by omega) dd_PT_drop_46 (by decide) (fun hc => ?_) (fun hc => ?_)
          · have hk : k = n - 1 := by omega
            subst hk
            refine lv_aload_n hx hb dd_PT_drop_95 rfl (lv_at hl 1 rfl) ?_
            refine lv_iconst (v := 0) hx hb dd_PT_drop_96 (by decide) ?_
            refine va_put (D := D) (cl := classes) (ci := 0) (ty := .boolean) (C := R_PT) (T := F_PT) (N := 3) hx hb hT in_PT t_PT t_PT_ok n_PT hown hK hP hD hS 0 rfl rfl 1 (by decide) (hT _ tw_68) (fun _ h9 => h9) rfl (by decide +kernel) rfl rfl (Nat.le_of_ble_eq_true rfl) dd_PT_drop_97 (fun H locs hP hD hS => ?_)
            have hP : va_P D classes (wX cI cL h 0 cl len (n - 1) (shf ca q (n - 1)) (shf wa q (n - 1)) z) H := hP
            have hD : va_D A (wX cI cL h 0 cl len (n - 1) (shf ca q (n - 1)) (shf wa q (n - 1)) z) := hD
            exact ret (len, (n - 1), (shf ca q (n - 1)), (shf wa q (n - 1)), cl, 0, z) H locs _ _ 100 ls ⟨by rw [eA], by rw [eA]⟩ hP hD hS (Nat.le_of_ble_eq_true rfl) (Nat.le_of_ble_eq_true rfl) dd_PT_drop_100
          · omega
        | succ j ih =>
          intro k H locs ls hkj hqk hP hD hS hl
          refine lv_iload_n hx hb dd_PT_drop_38 rfl (lv_at hl 0 rfl) ?_
          refine lv_aload_n hx hb dd_PT_drop_39 rfl (lv_at hl 1 rfl) ?_
          refine va_get (D := D) (cl := classes) (ci := 0) (C := R_PT) (T := F_PT) (N := 3) hx hb hT in_PT hown hK hP 0 rfl rfl 0 (by decide) (hT _ tw_67) (fun _ h9 => h9) rfl dd_PT_drop_40 ?_
          refine va_get (D := D) (cl := classes) (ci := 1) (C := R_TR) (T := F_TR) (N := 11) hx hb hT in_TR hown hK hP 1 rfl rfl 1 (by decide) (hT _ tw_29) (fun _ h9 => h9) rfl dd_PT_drop_43 ?_
          refine tq_ige (tgt := 95) hx hb (by omega) (by omega) dd_PT_drop_46 (by decide) (fun hc => ?_) (fun hc => ?_)
          · omega
          · refine lv_aload_n hx hb dd_PT_drop_49 rfl (lv_at hl 1 rfl) ?_
            refine va_get (D := D) (cl := classes) (ci := 0) (C := R_PT) (T := F_PT) (N := 3) hx hb hT in_PT hown hK hP 0 rfl rfl 0 (by decide) (hT _ tw_67) (fun _ h9 => h9) rfl dd_PT_drop_50 ?_
            refine va_get (D := D) (cl := classes) (ci := 1) (C := R_TR) (T := F_TR) (N := 11) hx hb hT in_TR hown hK hP 1 rfl rfl 2 (by decide) (hT _ tw_32) (fun _ h9 => h9) rfl dd_PT_drop_53 ?_
            refine lv_iload_n hx hb dd_PT_drop_56 rfl (lv_at hl 0 rfl) ?_
            refine lv_aload_n hx hb dd_PT_drop_57 rfl (lv_at hl 1 rfl) ?_
            refine va_get (D := D) (cl := classes) (ci := 0) (C := R_PT) (T := F_PT) (N := 3) hx hb hT in_PT hown hK hP 0 rfl rfl 0 (by decide) (hT _ tw_67) (fun _ h9 => h9) rfl dd_PT_drop_58 ?_
            refine va_get (D := D) (cl := classes) (ci := 1) (C := R_TR) (T := F_TR) (N := 11) hx hb hT in_TR hown hK hP 1 rfl rfl 2 (by decide) (hT _ tw_32) (fun _ h9 => h9) rfl dd_PT_drop_61 ?_
            refine lv_iload_n hx hb dd_PT_drop_64 rfl (lv_at hl 0 rfl) ?_
            refine lv_iconst (v := 1) hx hb dd_PT_drop_65 (by decide) ?_
            refine lv_iadd hx hb dd_PT_drop_66 ?_
            rw [tq_1s]
            refine tq_lald (k := (k + 1)) hx hb hK hP 2 rfl (by omega) (by decide) dd_PT_drop_67 ?_
            refine tq_last (k := k) hx hb hK hP hD hS 2 rfl (by omega) (by decide) dd_PT_drop_68 (fun H locs hP hD hS => ?_)
            have hP : va_P D classes (wX cI cL h g cl len (n - 1) (vp_updL (shf ca q k) k (shf ca q k (k + 1))) (shf wa q k) z) H := hP
            have hD : va_D A (wX cI cL h g cl len (n - 1) (vp_updL (shf ca q k) k (shf ca q k (k + 1))) (shf wa q k) z) := hD
            refine lv_aload_n hx hb dd_PT_drop_69 rfl (lv_at hl 1 rfl) ?_
            refine va_get (D := D) (cl := classes) (ci := 0) (C := R_PT) (T := F_PT) (N := 3) hx hb hT in_PT hown hK hP 0 rfl rfl 0 (by decide) (hT _ tw_67) (fun _ h9 => h9) rfl dd_PT_drop_70 ?_
            refine va_get (D := D) (cl := classes) (ci := 1) (C := R_TR) (T := F_TR) (N := 11) hx hb hT in_TR hown hK hP 1 rfl rfl 3 (by decide) (hT _ tw_34) (fun _ h9 => h9) rfl dd_PT_drop_73 ?_
            refine lv_iload_n hx hb dd_PT_drop_76 rfl (lv_at hl 0 rfl) ?_
            refine lv_aload_n hx hb dd_PT_drop_77 rfl (lv_at hl 1 rfl) ?_
            refine va_get (D := D) (cl := classes) (ci := 0) (C := R_PT) (T := F_PT) (N := 3) hx hb hT in_PT hown hK hP 0 rfl rfl 0 (by decide) (hT _ tw_67) (fun _ h9 => h9) rfl dd_PT_drop_78 ?_
            refine va_get (D := D) (cl := classes) (ci := 1) (C := R_TR) (T := F_TR) (N := 11) hx hb hT in_TR hown hK hP 1 rfl rfl 3 (by decide) (hT _ tw_34) (fun _ h9 => h9) rfl dd_PT_drop_81 ?_
            refine lv_iload_n hx hb dd_PT_drop_84 rfl (lv_at hl 0 rfl) ?_
            refine lv_iconst (v := 1) hx hb dd_PT_drop_85 (by decide) ?_
            refine lv_iadd hx hb dd_PT_drop_86 ?_
            rw [tq_1s]
            refine tq_lald (k := (k + 1)) hx hb hK hP 3 rfl (by omega) (by decide) dd_PT_drop_87 ?_
            refine tq_last (k := k) hx hb hK hP hD hS 3 rfl (by omega) (by decide) dd_PT_drop_88 (fun H locs hP hD hS => ?_)
            have hP : va_P D classes (wX cI cL h g cl len (n - 1) (vp_updL (shf ca q k) k (shf ca q k (k + 1))) (vp_updL (shf wa q k) k (shf wa q k (k + 1))) z) H := hP
            have hD : va_D A (wX cI cL h g cl len (n - 1) (vp_updL (shf ca q k) k (shf ca q k (k + 1))) (vp_updL (shf wa q k) k (shf wa q k (k + 1))) z) := hD
            rw [shf_s ca hqk, shf_s wa hqk] at hP hD
            refine lv_iinc (k := 0) hx hb dd_PT_drop_89 hl rfl (tq_inc k) (by decide) rfl (fun ls hl => ?_)
            have hl : lv_has ls 3 [(2, .int (nI (k + 1))), (0, .ref (h 0))] := hl
            refine lv_goto (tgt := 38) hx hb dd_PT_drop_92 (by decide) ?_
            exact ih (k + 1) H locs ls (by omega) (by omega) hP hD hS hl
      rw [← shf_0 ca q, ← shf_0 wa q] at hP hD
      exact loop (n - 1 - q) q _ _ ls (by omega) (Nat.le_refl _) hP hD hS hl
set_option maxRecDepth 20000 in
theorem c_PT_signs (l : Launch) (D : va_G) (cI cL : ClassId) (h : Nat → Nat) (g cl : Int32) (len n : Nat) (ca wa : Nat → Int64) (z : ZT) (d : Int64) (hfl : l.flags = pinnedFlags ++ [noTraceFlag]) (hlen : len ≤ 64) (hn : n ≤ 512) : MT (S := PX) l yy_PT_signs bb_PT_signs 12 (some .int) [] (rmX 7 2) D cI cL [.ref (h 0), .long d] (wX cI cL h g cl len n ca wa z) (fun u => wPx cI cL h u) (pI (fun r u => r = (tSigns len n ca wa cl d).2.1 ∧ (tSigns len n ca wa cl d).1 = 0 ∧ u = (len, (tSigns len n ca wa cl d).2.2.1, (tSigns len n ca wa cl d).2.2.2.1, (tSigns len n ca wa cl d).2.2.2.2.1, (tSigns len n ca wa cl d).2.2.2.2.2, 0, z))) (fun C u => (C = tq_IAE ∧ (tSigns len n ca wa cl d).1 = 1 ∨ C = tq_ISE ∧ (tSigns len n ca wa cl d).1 = 2) ∧ u = (len, (tSigns len n ca wa cl d).2.2.1, (tSigns len n ca wa cl d).2.2.2.1, (tSigns len n ca wa cl d).2.2.2.2.1, (tSigns len n ca wa cl d).2.2.2.2.2, g, z)) := by
  refine MT.mkI (by decide) (Nat.le_of_ble_eq_true rfl) ?_
  intro p e s m below meth c A Q B ret lv ls hl
  obtain ⟨hx, hb, hml, hown, hT, hK, hX, hSK, hA, hP, hD, hS, htab, hcode, hpl⟩ := B
  have hown : s.vm.findClass "PatternTree" = some m.cls := hown
  have hl : lv_has ls 12 [(0, .ref (h 0)), (1, .long d)] := hl
  refine lv_lload_n hx hb dd_PT_signs_0 rfl (lv_at hl 1 rfl) ?_
  refine lv_lconst (v := 0) hx hb dd_PT_signs_1 (by decide) ?_
  refine tq_llt (tgt := 10) hx hb dd_PT_signs_2 dd_PT_signs_3 (by decide) (fun hd => ?_) (fun hd => ?_)
  · have eA : (tSigns len n ca wa cl d) = (1, 0, n, ca, wa, cl) := by unfold tSigns; rw [if_pos hd]
    refine lv_iconst (v := 0) hx hb dd_PT_signs_10 (by decide) ?_
    refine MT.callS (c_PT_check l D cI cL (wX cI cL h g cl len n ca wa z) 0 hfl) ss_PT_26 ⟨hx, hb, hml, hown, hT⟩ ⟨hK, hX, hSK _ _ hS, hP, hD, hS, hA⟩ (tq_J.same _) (by decide) rfl hl.1 rfl (Nat.le_of_ble_eq_true rfl) dd_PT_signs_11 ⟨by decide, by decide⟩ (fun v u H locs hp hP hD hS => ?_) (fun x9 C9 u9 H locs hp hxf hP hD hS => lv x9 C9 (len, n, ca, wa, cl, g, z) H locs _ _ 11 ls _ (tq_nil htab) ⟨Or.inl ⟨hp.1, by rw [eA]⟩, by rw [eA]⟩ hxf hP hD hS (Nat.le_of_ble_eq_true rfl) (Nat.le_of_ble_eq_true rfl))
    exact absurd rfl hp.2
  · refine lv_iconst (v := 1) hx hb dd_PT_signs_6 (by decide) ?_
    refine lv_goto (tgt := 11) hx hb dd_PT_signs_7 (by decide) ?_
    refine MT.callS (c_PT_check l D cI cL (wX cI cL h g cl len n ca wa z) 1 hfl) ss_PT_26 ⟨hx, hb, hml, hown, hT⟩ ⟨hK, hX, hSK _ _ hS, hP, hD, hS, hA⟩ (tq_J.same _) (by decide) rfl hl.1 rfl (Nat.le_of_ble_eq_true rfl) dd_PT_signs_11 ⟨by decide, by decide⟩ (fun v u H locs hp hP hD hS => ?_) (fun x9 C9 u9 H locs hp hxf hP hD hS => absurd hp.2 (by decide))
    obtain ⟨rfl, -⟩ := hp
    refine lv_lconst (v := 0) hx hb dd_PT_signs_14 (by decide) ?_
    refine lv_topl (fun v15 e15 => ?_)
    obtain rfl : v15 = (sgn d 0).1 := e15
    refine lv_lstore_n hx hb dd_PT_signs_15 rfl hl (by decide) rfl (fun ls hl => ?_)
    have hl : lv_has ls 12 [(3, .long ((sgn d 0).1)), (0, .ref (h 0)), (1, .long d)] := hl
    refine lv_lconst (v := 0) hx hb dd_PT_signs_16 (by decide) ?_
    refine lv_topl (fun v17 e17 => ?_)
    obtain rfl : v17 = (sgn d 0).2.1 := e17
    refine lv_lstore hx hb dd_PT_signs_17 hl (by decide) rfl (fun ls hl => ?_)
    have hl : lv_has ls 12 [(5, .long ((sgn d 0).2.1)), (3, .long ((sgn d 0).1)), (0, .ref (h 0)), (1, .long d)] := hl
    refine lv_lload_n hx hb dd_PT_signs_19 rfl (lv_at hl 3 rfl) ?_
    refine lv_topl (fun v20 e20 => ?_)
    obtain rfl : d = v20 := (e20).symm
    refine lv_lstore hx hb dd_PT_signs_20 hl (by decide) rfl (fun ls hl => ?_)
    have hl : lv_has ls 12 [(7, .long d), (5, .long ((sgn d 0).2.1)), (3, .long ((sgn d 0).1)), (0, .ref (h 0)), (1, .long d)] := hl
    refine lv_iconst (v := 0) hx hb dd_PT_signs_22 (by decide) ?_
    refine lv_topi (fun v23 e23 => ?_)
    obtain rfl : v23 = nI 0 := e23
    refine lv_istore hx hb dd_PT_signs_23 hl (by decide) rfl (fun ls hl => ?_)
    have hl : lv_has ls 12 [(9, .int (nI 0)), (7, .long d), (5, .long ((sgn d 0).2.1)), (3, .long ((sgn d 0).1)), (0, .ref (h 0)), (1, .long d)] := hl
    have hl : lv_has ls 12 [(9, .int (nI 0)), (7, .long (sgn d 0).2.2), (5, .long (sgn d 0).2.1), (3, .long (sgn d 0).1), (0, .ref (h 0))] := lv_sub hl [0, 1, 2, 3, 4] rfl
    have loop : ∀ (j i : Nat) (ls : Array Slot), i + j = 40 → lv_has ls 12 [(9, .int (nI i)), (7, .long (sgn d i).2.2), (5, .long (sgn d i).2.1), (3, .long (sgn d i).1), (0, .ref (h 0))] → W p l e (rmX 7 2) s m ([.ref (h 0), .long d] : List Value).toArray below meth c H locs 1 6 Q (F0 m 25 ls []) := by
      intro j
      induction j with
      | zero =>
        intro i ls hij hl
        have hi : i = 40 := by omega
        subst hi
        refine lv_iload hx hb dd_PT_signs_25 (lv_at hl 0 rfl) ?_
        refine lv_bipush (v := 40) hx hb dd_PT_signs_27 (by decide) ?_
        refine lv_icmp_ge (tgt := 86) hx hb dd_PT_signs_29 (by decide) (fun hc => ?_) (fun hc => ?_)
        · have eB : (tSigns len n ca wa cl d) = tPut n ca wa cl ((sgn d 40).1 &&& mk len) ((sgn d 40).2.1 &&& mk len) := by unfold tSigns; rw [if_neg hd]
          refine lv_aload_n hx hb dd_PT_signs_86 rfl (lv_at hl 4 rfl) ?_
          refine lv_lload_n hx hb dd_PT_signs_87 rfl (lv_at hl 3 rfl) ?_
          refine lv_aload_n hx hb dd_PT_signs_88 rfl (lv_at hl 4 rfl) ?_
          refine va_get (D := D) (cl := classes) (ci := 0) (C := R_PT) (T := F_PT) (N := 3) hx hb hT in_PT hown hK hP 0 rfl rfl 0 (by decide) (hT _ tw_67) (fun _ h9 => h9) rfl dd_PT_signs_89 ?_
          refine RdL.callV (c_TR_mask l D cI cL h g cl len n ca wa z hlen) vs_PT_60 ⟨hx, hb, hml, hown, hT⟩ hK hP 1 rfl rfl ⟨rfl, rfl⟩ (by decide) rfl hl.1 rfl (Nat.le_of_ble_eq_true rfl) dd_PT_signs_92 ⟨(Nat.le_of_ble_eq_true rfl), (Nat.le_of_ble_eq_true rfl)⟩ (fun r hr => ?_)
          subst hr
          refine lv_land hx hb dd_PT_signs_95 ?_
          refine lv_lload hx hb dd_PT_signs_96 (lv_at hl 2 rfl) ?_
          refine lv_aload_n hx hb dd_PT_signs_98 rfl (lv_at hl 4 rfl) ?_
          refine va_get (D := D) (cl := classes) (ci := 0) (C := R_PT) (T := F_PT) (N := 3) hx hb hT in_PT hown hK hP 0 rfl rfl 0 (by decide) (hT _ tw_67) (fun _ h9 => h9) rfl dd_PT_signs_99 ?_
          refine RdL.callV (c_TR_mask l D cI cL h g cl len n ca wa z hlen) vs_PT_60 ⟨hx, hb, hml, hown, hT⟩ hK hP 1 rfl rfl ⟨rfl, rfl⟩ (by decide) rfl hl.1 rfl (Nat.le_of_ble_eq_true rfl) dd_PT_signs_102 ⟨(Nat.le_of_ble_eq_true rfl), (Nat.le_of_ble_eq_true rfl)⟩ (fun r hr => ?_)
          subst hr
          refine lv_land hx hb dd_PT_signs_105 ?_
          refine MT.callV (c_PT_put l D cI cL h g cl len n ca wa z ((sgn d 40).1 &&& mk len) ((sgn d 40).2.1 &&& mk len) hfl hn) vs_PT_68 ⟨hx, hb, hml, hown, hT⟩ ⟨hK, hX, hSK _ _ hS, hP, hD, hS, hA⟩ (tq_J.same _) 0 rfl rfl (by decide) rfl hl.1 rfl (Nat.le_of_ble_eq_true rfl) dd_PT_signs_106 ⟨by decide, by decide⟩ (fun v u H locs hp hP hD hS => ?_) (fun x9 C9 u9 H locs hp hxf hP hD hS => lv x9 C9 u9 H locs _ _ 106 ls _ (tq_nil htab) ⟨Or.inr ⟨hp.1, by rw [eB]; exact hp.2.1⟩, by rw [eB]; exact hp.2.2⟩ hxf hP hD hS (Nat.le_of_ble_eq_true rfl) (Nat.le_of_ble_eq_true rfl))
          obtain ⟨r1, rfl, hr1, hr2, rfl⟩ := hp
          exact ret _ _ H locs _ _ 109 ls ⟨by rw [eB]; exact hr1, by rw [eB]; exact hr2, by rw [eB]⟩ hP hD hS (Nat.le_of_ble_eq_true rfl) (Nat.le_of_ble_eq_true rfl) rfl dd_PT_signs_109
        · exact absurd (Int32.le_refl _) hc
      | succ j ih =>
        intro i ls hij hl
        refine lv_iload hx hb dd_PT_signs_25 (lv_at hl 0 rfl) ?_
        refine lv_bipush (v := 40) hx hb dd_PT_signs_27 (by decide) ?_
        refine lv_icmp_ge (tgt := 86) hx hb dd_PT_signs_29 (by decide) (fun hc => ?_) (fun hc => ?_)
        · exact absurd ((nI_leI (a := 40) (by omega) (by omega)).mp hc) (by omega)
        · refine lv_lload hx hb dd_PT_signs_32 (lv_at hl 1 rfl) ?_
          refine lv_ldc2 (v := 3) hx hb hown (hT _ tw_246) dd_PT_signs_34 ?_
          refine lv_lrem hx hb dd_PT_signs_37 (by decide) ?_
          refine lv_topl (fun v38 e38 => ?_)
          obtain rfl : v38 = ((sgn d i).2.2 - (sgn d i).2.2 / 3 * 3) := e38
          refine lv_lstore hx hb dd_PT_signs_38 hl (by decide) rfl (fun ls hl => ?_)
          have hl : lv_has ls 12 [(10, .long (((sgn d i).2.2 - (sgn d i).2.2 / 3 * 3))), (9, .int (nI i)), (7, .long (sgn d i).2.2), (5, .long (sgn d i).2.1), (3, .long (sgn d i).1), (0, .ref (h 0))] := hl
          refine lv_lload hx hb dd_PT_signs_40 (lv_at hl 2 rfl) ?_
          refine lv_ldc2 (v := 3) hx hb hown (hT _ tw_246) dd_PT_signs_42 ?_
          refine lv_ldiv hx hb dd_PT_signs_45 (by decide) ?_
          refine lv_topl (fun v46 e46 => ?_)
          obtain rfl : v46 = (sgn d i).2.2 / 3 := e46
          refine lv_lstore hx hb dd_PT_signs_46 hl (by decide) rfl (fun ls hl => ?_)
          have hl : lv_has ls 12 [(7, .long ((sgn d i).2.2 / 3)), (10, .long (((sgn d i).2.2 - (sgn d i).2.2 / 3 * 3))), (9, .int (nI i)), (5, .long (sgn d i).2.1), (3, .long (sgn d i).1), (0, .ref (h 0))] := hl
          refine lv_lload hx hb dd_PT_signs_48 (lv_at hl 1 rfl) ?_
          refine lv_ldc2 (v := 2) hx hb hown (hT _ tw_247) dd_PT_signs_50 ?_
          refine tq_lge (tgt := 64) hx hb dd_PT_signs_53 dd_PT_signs_54 (by decide) (fun hd2 => ?_) (fun hd2 => ?_)
          · refine lv_lload hx hb dd_PT_signs_64 (lv_at hl 1 rfl) ?_
            refine lv_lconst (v := 1) hx hb dd_PT_signs_66 (by decide) ?_
            refine tq_lne (tgt := 80) hx hb dd_PT_signs_67 dd_PT_signs_68 (by decide) (fun hd1 => ?_) (fun hd1 => ?_)
            · refine lv_iinc (k := 2) hx hb dd_PT_signs_80 hl rfl (tq_inc i) (by decide) rfl (fun ls hl => ?_)
              have hl : lv_has ls 12 [(9, .int (nI (i + 1))), (7, .long ((sgn d i).2.2 / 3)), (10, .long (((sgn d i).2.2 - (sgn d i).2.2 / 3 * 3))), (5, .long (sgn d i).2.1), (3, .long (sgn d i).1), (0, .ref (h 0))] := hl
              refine lv_goto (tgt := 25) hx hb dd_PT_signs_83 (by decide) ?_
              have eS : sgn d (i + 1) = ((sgn d i).1, (sgn d i).2.1, (sgn d i).2.2 / 3) := by show sgs i (sgn d i) = _; unfold sgs; rw [if_neg hd2, if_neg hd1]
              refine ih (i + 1) ls (by omega) ?_
              rw [eS]
              exact lv_sub hl [0, 1, 3, 4, 5] rfl
            · refine lv_lload hx hb dd_PT_signs_71 (lv_at hl 3 rfl) ?_
              refine lv_lconst (v := 1) hx hb dd_PT_signs_73 (by decide) ?_
              refine lv_iload hx hb dd_PT_signs_74 (lv_at hl 2 rfl) ?_
              refine lv_lshl hx hb dd_PT_signs_76 rfl ?_
              refine lv_lor hx hb dd_PT_signs_77 ?_
              refine lv_topl (fun v78 e78 => ?_)
              obtain rfl : v78 = (sgn d i).2.1 ||| sh1 i := e78
              refine lv_lstore hx hb dd_PT_signs_78 hl (by decide) rfl (fun ls hl => ?_)
              have hl : lv_has ls 12 [(5, .long ((sgn d i).2.1 ||| sh1 i)), (7, .long ((sgn d i).2.2 / 3)), (10, .long (((sgn d i).2.2 - (sgn d i).2.2 / 3 * 3))), (9, .int (nI i)), (3, .long (sgn d i).1), (0, .ref (h 0))] := hl
              refine lv_iinc (k := 3) hx hb dd_PT_signs_80 hl rfl (tq_inc i) (by decide) rfl (fun ls hl => ?_)
              have hl : lv_has ls 12 [(9, .int (nI (i + 1))), (5, .long ((sgn d i).2.1 ||| sh1 i)), (7, .long ((sgn d i).2.2 / 3)), (10, .long (((sgn d i).2.2 - (sgn d i).2.2 / 3 * 3))), (3, .long (sgn d i).1), (0, .ref (h 0))] := hl
              refine lv_goto (tgt := 25) hx hb dd_PT_signs_83 (by decide) ?_
              have eS : sgn d (i + 1) = ((sgn d i).1, (sgn d i).2.1 ||| sh1 i, (sgn d i).2.2 / 3) := by show sgs i (sgn d i) = _; unfold sgs; rw [if_neg hd2, if_pos hd1]
              refine ih (i + 1) ls (by omega) ?_
              rw [eS]
              exact lv_sub hl [0, 2, 1, 4, 5] rfl
          · refine lv_lload_n hx hb dd_PT_signs_57 rfl (lv_at hl 4 rfl) ?_
            refine lv_lconst (v := 1) hx hb dd_PT_signs_58 (by decide) ?_
            refine lv_iload hx hb dd_PT_signs_59 (lv_at hl 2 rfl) ?_
            refine lv_lshl hx hb dd_PT_signs_61 rfl ?_
            refine lv_lor hx hb dd_PT_signs_62 ?_
            refine lv_topl (fun v63 e63 => ?_)
            obtain rfl : v63 = (sgn d i).1 ||| sh1 i := e63
            refine lv_lstore_n hx hb dd_PT_signs_63 rfl hl (by decide) rfl (fun ls hl => ?_)
            have hl : lv_has ls 12 [(3, .long ((sgn d i).1 ||| sh1 i)), (7, .long ((sgn d i).2.2 / 3)), (10, .long (((sgn d i).2.2 - (sgn d i).2.2 / 3 * 3))), (9, .int (nI i)), (5, .long (sgn d i).2.1), (0, .ref (h 0))] := hl
            refine lv_lload hx hb dd_PT_signs_64 (lv_at hl 2 rfl) ?_
            refine lv_lconst (v := 1) hx hb dd_PT_signs_66 (by decide) ?_
            refine tq_lne (tgt := 80) hx hb dd_PT_signs_67 dd_PT_signs_68 (by decide) (fun hd1 => ?_) (fun hd1 => ?_)
            · refine lv_iinc (k := 3) hx hb dd_PT_signs_80 hl rfl (tq_inc i) (by decide) rfl (fun ls hl => ?_)
              have hl : lv_has ls 12 [(9, .int (nI (i + 1))), (3, .long ((sgn d i).1 ||| sh1 i)), (7, .long ((sgn d i).2.2 / 3)), (10, .long (((sgn d i).2.2 - (sgn d i).2.2 / 3 * 3))), (5, .long (sgn d i).2.1), (0, .ref (h 0))] := hl
              refine lv_goto (tgt := 25) hx hb dd_PT_signs_83 (by decide) ?_
              have eS : sgn d (i + 1) = ((sgn d i).1 ||| sh1 i, (sgn d i).2.1, (sgn d i).2.2 / 3) := by show sgs i (sgn d i) = _; unfold sgs; rw [if_pos hd2, if_neg hd1]
              refine ih (i + 1) ls (by omega) ?_
              rw [eS]
              exact lv_sub hl [0, 2, 4, 1, 5] rfl
            · refine lv_lload hx hb dd_PT_signs_71 (lv_at hl 4 rfl) ?_
              refine lv_lconst (v := 1) hx hb dd_PT_signs_73 (by decide) ?_
              refine lv_iload hx hb dd_PT_signs_74 (lv_at hl 3 rfl) ?_
              refine lv_lshl hx hb dd_PT_signs_76 rfl ?_
              refine lv_lor hx hb dd_PT_signs_77 ?_
              refine lv_topl (fun v78 e78 => ?_)
              obtain rfl : v78 = (sgn d i).2.1 ||| sh1 i := e78
              refine lv_lstore hx hb dd_PT_signs_78 hl (by decide) rfl (fun ls hl => ?_)
              have hl : lv_has ls 12 [(5, .long ((sgn d i).2.1 ||| sh1 i)), (3, .long ((sgn d i).1 ||| sh1 i)), (7, .long ((sgn d i).2.2 / 3)), (10, .long (((sgn d i).2.2 - (sgn d i).2.2 / 3 * 3))), (9, .int (nI i)), (0, .ref (h 0))] := hl
              refine lv_iinc (k := 4) hx hb dd_PT_signs_80 hl rfl (tq_inc i) (by decide) rfl (fun ls hl => ?_)
              have hl : lv_has ls 12 [(9, .int (nI (i + 1))), (5, .long ((sgn d i).2.1 ||| sh1 i)), (3, .long ((sgn d i).1 ||| sh1 i)), (7, .long ((sgn d i).2.2 / 3)), (10, .long (((sgn d i).2.2 - (sgn d i).2.2 / 3 * 3))), (0, .ref (h 0))] := hl
              refine lv_goto (tgt := 25) hx hb dd_PT_signs_83 (by decide) ?_
              have eS : sgn d (i + 1) = ((sgn d i).1 ||| sh1 i, (sgn d i).2.1 ||| sh1 i, (sgn d i).2.2 / 3) := by show sgs i (sgn d i) = _; unfold sgs; rw [if_pos hd2, if_pos hd1]
              refine ih (i + 1) ls (by omega) ?_
              rw [eS]
              exact lv_sub hl [0, 3, 1, 2, 5] rfl
    exact loop 40 0 ls (by omega) hl
end
section
def GT (len n : Nat) (ca wa : Nat → Int64) (y : ZT) : Prop := y.1 ≤ 2048 ∧ y.2.1 ≤ 8192 ∧ TG ca wa len y.2.2.1 y.2.2.2.1 y.2.2.2.2.1 y.2.2.2.2.2.1 0 y.1 y.2.1 64 0 (List.range n)
def fdd (n : Nat) (ca wa : Nat → Int64) (w : Int64) (r : Int32) : Prop := (r = -1 ∧ ∀ k, k < n → tk ca wa w k = false) ∨ ∃ k, k < n ∧ r = nI k ∧ tk ca wa w k = true
theorem fdd_neg {n : Nat} {ca wa : Nat → Int64} {w : Int64} {r : Int32} (hn : n ≤ 512) (h : fdd n ca wa w r) (hr : ¬ 0 ≤ r) : ∀ k, k < n → tk ca wa w k = false := by
  rcases h with ⟨-, h⟩ | ⟨k, hk, rfl, -⟩
  · exact h
  · exact absurd (Int32.not_lt.mp (nI_pos (by omega))) hr
theorem fdd_pos {n : Nat} {ca wa : Nat → Int64} {w : Int64} {r : Int32} (h : fdd n ca wa w r) (hr : 0 ≤ r) : ∃ k, k < n ∧ tk ca wa w k = true := by
  rcases h with ⟨rfl, -⟩ | ⟨k, hk, -, h⟩
  · exact absurd hr (by decide)
  · exact ⟨k, hk, h⟩
set_option maxRecDepth 20000 in
theorem c_PT_find1 (l : Launch) (D : va_G) (cI cL : ClassId) (h : Nat → Nat) (g cl : Int32) (len n : Nat) (ca wa : Nat → Int64) (z : ZT) (w : Int64) (hlen : len ≤ 64) (hn : n ≤ 512) (hg : g = 0 ∨ g = 1 ∧ GT len n ca wa z) : MT (S := PX) l yy_PT_find1 bb_PT_find1 3 (some .int) [] (rmK 68) D cI cL [.ref (h 0), .long w] (wX cI cL h g cl len n ca wa z) (fun u => wPx cI cL h u) (pI (fun r u => fdd n ca wa (w &&& mk len) r ∧ ∃ y, GT len n ca wa y ∧ u = (len, n, ca, wa, cl, 1, y))) (nx) := by
  refine MT.mkI (by decide) (Nat.le_of_ble_eq_true rfl) ?_
  intro p e s m below meth c A Q B ret lv ls hl
  obtain ⟨hx, hb, hml, hown, hT, hK, hX, hSK, hA, hP, hD, hS, htab, hcode, hpl⟩ := B
  have hown : s.vm.findClass "PatternTree" = some m.cls := hown
  have hl : lv_has ls 3 [(0, .ref (h 0)), (1, .long w)] := hl
  have fin : ∀ (H : Heap) (locs : List Loc) (g : Int32) (y : ZT), GT len n ca wa y → va_P D classes (wX cI cL h g cl len n ca wa y) H → va_D A (wX cI cL h g cl len n ca wa y) → va_S A s.heap H locs → W p l e (rmK 68) s m ([.ref (h 0), .long w] : List Value).toArray below meth c H locs 0 0 Q (F0 m 14 ls []) := by
    intro H locs g y hy hP hD hS
    refine lv_aload_n hx hb dd_PT_find1_14 rfl (lv_at hl 0 rfl) ?_
    refine lv_iconst (v := 1) hx hb dd_PT_find1_15 (by decide) ?_
    refine va_put (D := D) (cl := classes) (ci := 0) (ty := .boolean) (C := R_PT) (T := F_PT) (N := 3) hx hb hT in_PT t_PT t_PT_ok n_PT hown hK hP hD hS 0 rfl rfl 1 (by decide) (hT _ tw_68) (fun _ h9 => h9) rfl (by decide +kernel) rfl rfl (Nat.le_of_ble_eq_true rfl) dd_PT_find1_16 (fun H locs hP hD hS => ?_)
    have hP : va_P D classes (wX cI cL h 1 cl len n ca wa y) H := hP
    have hD : va_D A (wX cI cL h 1 cl len n ca wa y) := hD
    refine lv_aload_n hx hb dd_PT_find1_19 rfl (lv_at hl 0 rfl) ?_
    refine va_get (D := D) (cl := classes) (ci := 0) (C := R_PT) (T := F_PT) (N := 3) hx hb hT in_PT hown hK hP 0 rfl rfl 0 (by decide) (hT _ tw_67) (fun _ h9 => h9) rfl dd_PT_find1_20 ?_
    refine lv_lload_n hx hb dd_PT_find1_23 rfl (lv_at hl 1 rfl) ?_
    refine lv_aload_n hx hb dd_PT_find1_24 rfl (lv_at hl 0 rfl) ?_
    refine va_get (D := D) (cl := classes) (ci := 0) (C := R_PT) (T := F_PT) (N := 3) hx hb hT in_PT hown hK hP 0 rfl rfl 0 (by decide) (hT _ tw_67) (fun _ h9 => h9) rfl dd_PT_find1_25 ?_
    refine RdL.callV (c_TR_mask l D cI cL h 1 cl len n ca wa y hlen) vs_PT_60 ⟨hx, hb, hml, hown, hT⟩ hK hP 1 rfl rfl ⟨rfl, rfl⟩ (by decide) rfl hl.1 rfl (Nat.le_of_ble_eq_true rfl) dd_PT_find1_28 ⟨Nat.zero_le _, Nat.zero_le _⟩ (fun r hr => ?_)
    subst hr
    refine lv_land hx hb dd_PT_find1_31 ?_
    refine RdI.callV (c_TR_decode l D cI cL h 1 cl len n ca wa y (w &&& mk len) 0 y.1 y.2.1 64 hlen hn hy.1 hy.2.1 hy.2.2) vs_PT_81 ⟨hx, hb, hml, hown, hT⟩ hK hP 1 rfl rfl ⟨rfl, rfl⟩ (by decide) rfl hl.1 rfl (Nat.le_of_ble_eq_true rfl) dd_PT_find1_32 ⟨Nat.zero_le _, Nat.zero_le _⟩ (fun r hr => ?_)
    exact ret _ (len, n, ca, wa, cl, 1, y) H locs 0 0 35 ls ⟨hr, y, hy, rfl⟩ hP hD hS (Nat.zero_le _) (Nat.zero_le _) rfl dd_PT_find1_35
  refine lv_aload_n hx hb dd_PT_find1_0 rfl (lv_at hl 0 rfl) ?_
  refine va_get (D := D) (cl := classes) (ci := 0) (C := R_PT) (T := F_PT) (N := 3) hx hb hT in_PT hown hK hP 0 rfl rfl 1 (by decide) (hT _ tw_68) (fun _ h9 => h9) rfl dd_PT_find1_1 ?_
  refine lv_if_ne (tgt := 14) hx hb dd_PT_find1_4 (by decide) (fun hc => ?_) (fun hc => ?_)
  · rcases hg with hg | ⟨hg, hgt⟩
    · exact absurd hg hc
    · exact fin _ _ _ z hgt hP hD hS
  · refine lv_aload_n hx hb dd_PT_find1_7 rfl (lv_at hl 0 rfl) ?_
    refine va_get (D := D) (cl := classes) (ci := 0) (C := R_PT) (T := F_PT) (N := 3) hx hb hT in_PT hown hK hP 0 rfl rfl 0 (by decide) (hT _ tw_67) (fun _ h9 => h9) rfl dd_PT_find1_8 ?_
    refine MT.callV (c_TR_grow l D cI cL h g cl len n ca wa z hlen hn) vs_PT_78 ⟨hx, hb, hml, hown, hT⟩ ⟨hK, hX, hSK _ _ hS, hP, hD, hS, hA⟩ (tq_J.same _) 1 rfl rfl (by decide) rfl hl.1 rfl (Nat.le_of_ble_eq_true rfl) dd_PT_find1_11 ⟨by decide, by decide⟩ (fun v y H locs hp hP hD hS => ?_) (fun x C u H locs hp hxf hP hD hS => hp.elim)
    obtain ⟨rfl, hy⟩ := hp
    exact fin H locs _ y hy hP hD hS
set_option maxRecDepth 20000 in
theorem c_PT_decode (l : Launch) (D : va_G) (cI cL : ClassId) (h : Nat → Nat) (g cl : Int32) (len n : Nat) (ca wa : Nat → Int64) (z : ZT) (w : Int64) (hlen : len ≤ 64) (hn : n ≤ 512) (hg : g = 0 ∨ g = 1 ∧ GT len n ca wa z) : MT (S := PX) l yy_PT_decode bb_PT_decode 3 (some .int) [] (rmK 69) D cI cL [.ref (h 0), .long w] (wX cI cL h g cl len n ca wa z) (fun u => wPx cI cL h u) (pI (fun r u => fdd n ca wa (w &&& mk len) r ∧ ∃ y, GT len n ca wa y ∧ u = (len, n, ca, wa, cl, 1, y))) (nx) := by
  refine MT.mkI (by decide) (Nat.le_of_ble_eq_true rfl) ?_
  intro p e s m below meth c A Q B ret lv ls hl
  obtain ⟨hx, hb, hml, hown, hT, hK, hX, hSK, hA, hP, hD, hS, htab, hcode, hpl⟩ := B
  have hown : s.vm.findClass "PatternTree" = some m.cls := hown
  have hl : lv_has ls 3 [(0, .ref (h 0)), (1, .long w)] := hl
  refine lv_aload_n hx hb dd_PT_decode_0 rfl (lv_at hl 0 rfl) ?_
  refine lv_lload_n hx hb dd_PT_decode_1 rfl (lv_at hl 1 rfl) ?_
  refine MT.callV (c_PT_find1 l D cI cL h g cl len n ca wa z w hlen hn hg) vs_PT_85 ⟨hx, hb, hml, hown, hT⟩ ⟨hK, hX, hSK _ _ hS, hP, hD, hS, hA⟩ (tq_J.same _) 0 rfl rfl (by decide) rfl hl.1 rfl (Nat.le_of_ble_eq_true rfl) dd_PT_decode_2 ⟨by decide, by decide⟩ (fun v u H locs hp hP hD hS => ?_) (fun x C u H locs hp hxf hP hD hS => hp.elim)
  obtain ⟨r1, rfl, hr1, y, hy, rfl⟩ := hp
  exact ret _ _ H locs 0 0 5 ls ⟨hr1, y, hy, rfl⟩ hP hD hS (Nat.zero_le _) (Nat.zero_le _) rfl dd_PT_decode_5
set_option maxRecDepth 20000 in
theorem c_PT_next (l : Launch) (D : va_G) (cI cL : ClassId) (h : Nat → Nat) (g cl : Int32) (len n : Nat) (ca wa : Nat → Int64) (z : ZT) (w : Int64) (hfl : l.flags = pinnedFlags ++ [noTraceFlag]) (hlen : len ≤ 64) (hn : n ≤ 512) (hg : g = 0 ∨ g = 1 ∧ GT len n ca wa z) : MT (S := PX) l yy_PT_next bb_PT_next 10 (some .long) [] (rmX 69 1) D cI cL [.ref (h 0), .long w] (wX cI cL h g cl len n ca wa z) (fun u => wPx cI cL h u) (pL (fun r u => ((∀ k, k < n → tk ca wa (w &&& mk len &&& mk len) k = false) ∧ r = (w &&& mk len) ∨ (∃ k, k < n ∧ tk ca wa (w &&& mk len &&& mk len) k = true) ∧ pnx (pany len n ca wa) (mk len) (w &&& mk len) 0 len = some r) ∧ ∃ y, GT len n ca wa y ∧ u = (len, n, ca, wa, cl, 1, y))) (fun C u => C = tq_NSE ∧ (∃ k, k < n ∧ tk ca wa (w &&& mk len &&& mk len) k = true) ∧ pnx (pany len n ca wa) (mk len) (w &&& mk len) 0 len = none ∧ ∃ y, GT len n ca wa y ∧ u = (len, n, ca, wa, cl, 1, y)) := by
  refine MT.mkL (by decide) (Nat.le_of_ble_eq_true rfl) ?_
  intro p e s m below meth c A Q B ret lv ls hl
  obtain ⟨hx, hb, hml, hown, hT, hK, hX, hSK, hA, hP, hD, hS, htab, hcode, hpl⟩ := B
  have hown : s.vm.findClass "PatternTree" = some m.cls := hown
  have hl : lv_has ls 10 [(0, .ref (h 0)), (1, .long w)] := hl
  refine lv_lload_n hx hb dd_PT_next_0 rfl (lv_at hl 1 rfl) ?_
  refine lv_aload_n hx hb dd_PT_next_1 rfl (lv_at hl 0 rfl) ?_
  refine va_get (D := D) (cl := classes) (ci := 0) (C := R_PT) (T := F_PT) (N := 3) hx hb hT in_PT hown hK hP 0 rfl rfl 0 (by decide) (hT _ tw_67) (fun _ h9 => h9) rfl dd_PT_next_2 ?_
  refine RdL.callV (c_TR_mask l D cI cL h g cl len n ca wa z hlen) vs_PT_60 ⟨hx, hb, hml, hown, hT⟩ hK hP 1 rfl rfl ⟨rfl, rfl⟩ (by decide) rfl hl.1 rfl (Nat.le_of_ble_eq_true rfl) dd_PT_next_5 ⟨Nat.zero_le _, Nat.zero_le _⟩ (fun r hr => ?_)
  subst hr
  refine lv_land hx hb dd_PT_next_8 ?_
  refine lv_topl (fun v9 e9 => ?_)
  obtain rfl : v9 = (w &&& mk len) := e9
  refine lv_lstore_n hx hb dd_PT_next_9 rfl hl (by decide) rfl (fun ls hl => ?_)
  have hl : lv_has ls 10 [(3, .long ((w &&& mk len))), (0, .ref (h 0)), (1, .long w)] := hl
  refine lv_aload_n hx hb dd_PT_next_10 rfl (lv_at hl 1 rfl) ?_
  refine lv_lload_n hx hb dd_PT_next_11 rfl (lv_at hl 0 rfl) ?_
  refine MT.callV (c_PT_find1 l D cI cL h g cl len n ca wa z (w &&& mk len) hlen hn hg) vs_PT_85 ⟨hx, hb, hml, hown, hT⟩ ⟨hK, hX, hSK _ _ hS, hP, hD, hS, hA⟩ (tq_J.same _) 0 rfl rfl (by decide) rfl hl.1 rfl (Nat.le_of_ble_eq_true rfl) dd_PT_next_12 ⟨by decide, by decide⟩ (fun v u H locs hp hP hD hS => ?_) (fun x C u H locs hp hxf hP hD hS => hp.elim)
  obtain ⟨r1, rfl, hr1, y, hy, rfl⟩ := hp
  have hP : va_P D classes (wX cI cL h 1 cl len n ca wa y) H := hP
  have hD : va_D A (wX cI cL h 1 cl len n ca wa y) := hD
  refine lv_if_ge (tgt := 20) hx hb dd_PT_next_15 (by decide) (fun hc => ?_) (fun hc => ?_)
  · have hk := fdd_pos hr1 hc
    refine lv_iconst (v := 0) hx hb dd_PT_next_20 (by decide) ?_
    refine lv_topi (fun v21 e21 => ?_)
    obtain rfl : v21 = nI 0 := e21
    refine lv_istore hx hb dd_PT_next_21 hl (by decide) rfl (fun ls hl => ?_)
    have hl : lv_has ls 10 [(5, .int (nI 0)), (3, .long ((w &&& mk len))), (0, .ref (h 0)), (1, .long w)] := hl
    have hl : lv_has ls 10 [(5, .int (nI 0)), (3, .long (w &&& mk len)), (0, .ref (h 0))] := lv_sub hl [0, 1, 2] rfl
    have loop : ∀ (j b : Nat) (ls : Array Slot), b + j = len → pnx (pany len n ca wa) (mk len) (w &&& mk len) 0 len = pnx (pany len n ca wa) (mk len) (w &&& mk len) b j → lv_has ls 10 [(5, .int (nI b)), (3, .long (w &&& mk len)), (0, .ref (h 0))] → W p l e (rmX 69 1) s m ([.ref (h 0), .long w] : List Value).toArray below meth c H locs 0 0 Q (F0 m 23 ls []) := by
      intro j
      induction j with
      | zero =>
        intro b ls hbj hf hl
        refine lv_iload hx hb dd_PT_next_23 (lv_at hl 0 rfl) ?_
        refine lv_aload_n hx hb dd_PT_next_25 rfl (lv_at hl 2 rfl) ?_
        refine va_get (D := D) (cl := classes) (ci := 0) (C := R_PT) (T := F_PT) (N := 3) hx hb hT in_PT hown hK hP 0 rfl rfl 0 (by decide) (hT _ tw_67) (fun _ h9 => h9) rfl dd_PT_next_26 ?_
        refine va_get (D := D) (cl := classes) (ci := 1) (C := R_TR) (T := F_TR) (N := 11) hx hb hT in_TR hown hK hP 1 rfl rfl 0 (by decide) (hT _ tw_28) (fun _ h9 => h9) rfl dd_PT_next_29 ?_
        refine tq_ige (tgt := 110) hx hb (by omega) (by omega) dd_PT_next_32 (by decide) (fun hc => ?_) (fun hc => ?_)
        · exact tq_thr (cls := tq_NSE) hfl hx hb hml hl.1 hown (by decide) (hw_NSE hT hX) (hT _ tw_259) (hT _ tw_9) hSK hA hP hD hS dd_PT_next_110 dd_PT_next_113 dd_PT_next_114 dd_PT_next_117 (Nat.le_of_ble_eq_true rfl) (Nat.le_of_ble_eq_true rfl) (Nat.le_of_ble_eq_true rfl) (Nat.le_of_ble_eq_true rfl) (fun x9 H locs hxf hP hD hS => lv x9 _ (len, n, ca, wa, cl, 1, y) H locs _ _ 117 ls _ (tq_nil htab) ⟨rfl, hk, hf, y, hy, rfl⟩ hxf hP hD hS (Nat.le_of_ble_eq_true rfl) (Nat.le_of_ble_eq_true rfl))
        · omega
      | succ j ih =>
        intro b ls hbj hf hl
        refine lv_iload hx hb dd_PT_next_23 (lv_at hl 0 rfl) ?_
        refine lv_aload_n hx hb dd_PT_next_25 rfl (lv_at hl 2 rfl) ?_
        refine va_get (D := D) (cl := classes) (ci := 0) (C := R_PT) (T := F_PT) (N := 3) hx hb hT in_PT hown hK hP 0 rfl rfl 0 (by decide) (hT _ tw_67) (fun _ h9 => h9) rfl dd_PT_next_26 ?_
        refine va_get (D := D) (cl := classes) (ci := 1) (C := R_TR) (T := F_TR) (N := 11) hx hb hT in_TR hown hK hP 1 rfl rfl 0 (by decide) (hT _ tw_28) (fun _ h9 => h9) rfl dd_PT_next_29 ?_
        refine tq_ige (tgt := 110) hx hb (by omega) (by omega) dd_PT_next_32 (by decide) (fun hc => ?_) (fun hc => ?_)
        · omega
        · refine lv_lload_n hx hb dd_PT_next_35 rfl (lv_at hl 1 rfl) ?_
          refine lv_iload hx hb dd_PT_next_36 (lv_at hl 0 rfl) ?_
          refine lv_lushr hx hb dd_PT_next_38 rfl ?_
          refine lv_lconst (v := 1) hx hb dd_PT_next_39 (by decide) ?_
          refine lv_land hx hb dd_PT_next_40 ?_
          refine lv_lconst (v := 0) hx hb dd_PT_next_41 (by decide) ?_
          refine tq_leq (tgt := 49) hx hb dd_PT_next_42 dd_PT_next_43 (by decide) (fun ht => ?_) (fun ht => ?_)
          · have hbt : bt (w &&& mk len) b = false := (ubit0 (by omega)).mp ht
            refine lv_aload_n hx hb dd_PT_next_49 rfl (lv_at hl 2 rfl) ?_
            refine va_get (D := D) (cl := classes) (ci := 0) (C := R_PT) (T := F_PT) (N := 3) hx hb hT in_PT hown hK hP 0 rfl rfl 0 (by decide) (hT _ tw_67) (fun _ h9 => h9) rfl dd_PT_next_50 ?_
            refine RdL.callV (c_TR_mask l D cI cL h 1 cl len n ca wa y hlen) vs_PT_60 ⟨hx, hb, hml, hown, hT⟩ hK hP 1 rfl rfl ⟨rfl, rfl⟩ (by decide) rfl hl.1 rfl (Nat.le_of_ble_eq_true rfl) dd_PT_next_53 ⟨(Nat.le_of_ble_eq_true rfl), (Nat.le_of_ble_eq_true rfl)⟩ (fun r hr => ?_)
            subst hr
            refine lv_lconst (v := 1) hx hb dd_PT_next_56 (by decide) ?_
            refine lv_iload hx hb dd_PT_next_57 (lv_at hl 0 rfl) ?_
            refine lv_lshl hx hb dd_PT_next_59 rfl ?_
            refine lv_lconst (v := 1) hx hb dd_PT_next_60 (by decide) ?_
            refine lv_lsub hx hb dd_PT_next_61 ?_
            refine lv_ldc2 (v := -1) hx hb hown (hT _ tw_211) dd_PT_next_62 ?_
            refine lv_lxor hx hb dd_PT_next_65 ?_
            refine lv_land hx hb dd_PT_next_66 ?_
            refine lv_topl (fun v67 e67 => ?_)
            obtain rfl : v67 = (mk len &&& ((sh1 b - 1) ^^^ (-1))) := e67
            refine lv_lstore hx hb dd_PT_next_67 hl (by decide) rfl (fun ls hl => ?_)
            have hl : lv_has ls 10 [(6, .long ((mk len &&& ((sh1 b - 1) ^^^ (-1))))), (5, .int (nI b)), (3, .long (w &&& mk len)), (0, .ref (h 0))] := hl
            refine lv_lload_n hx hb dd_PT_next_69 rfl (lv_at hl 2 rfl) ?_
            refine lv_lload hx hb dd_PT_next_70 (lv_at hl 0 rfl) ?_
            refine lv_land hx hb dd_PT_next_72 ?_
            refine lv_lconst (v := 1) hx hb dd_PT_next_73 (by decide) ?_
            refine lv_iload hx hb dd_PT_next_74 (lv_at hl 1 rfl) ?_
            refine lv_lshl hx hb dd_PT_next_76 rfl ?_
            refine lv_lor hx hb dd_PT_next_77 ?_
            refine lv_topl (fun v78 e78 => ?_)
            obtain rfl : v78 = ((w &&& mk len) &&& (mk len &&& ((sh1 b - 1) ^^^ (-1))) ||| sh1 b) := e78
            refine lv_lstore hx hb dd_PT_next_78 hl (by decide) rfl (fun ls hl => ?_)
            have hl : lv_has ls 10 [(8, .long (((w &&& mk len) &&& (mk len &&& ((sh1 b - 1) ^^^ (-1))) ||| sh1 b))), (6, .long ((mk len &&& ((sh1 b - 1) ^^^ (-1))))), (5, .int (nI b)), (3, .long (w &&& mk len)), (0, .ref (h 0))] := hl
            refine lv_aload_n hx hb dd_PT_next_80 rfl (lv_at hl 4 rfl) ?_
            refine lv_lload hx hb dd_PT_next_81 (lv_at hl 1 rfl) ?_
            refine lv_lload hx hb dd_PT_next_83 (lv_at hl 0 rfl) ?_
            refine RdI.callV (c_PT_any l D cI cL h 1 cl len n ca wa y (mk len &&& ((sh1 b - 1) ^^^ (-1))) ((w &&& mk len) &&& (mk len &&& ((sh1 b - 1) ^^^ (-1))) ||| sh1 b) hlen hn) vs_PT_100 ⟨hx, hb, hml, hown, hT⟩ hK hP 0 rfl rfl ⟨rfl, rfl⟩ (by decide) rfl hl.1 rfl (Nat.le_of_ble_eq_true rfl) dd_PT_next_85 ⟨(Nat.le_of_ble_eq_true rfl), (Nat.le_of_ble_eq_true rfl)⟩ (fun r hr => ?_)
            subst hr
            refine lv_if_eq (tgt := 104) hx hb dd_PT_next_88 (by decide) (fun hs2 => ?_) (fun hs2 => ?_)
            · have hsm : pany len n ca wa (mk len &&& ((sh1 b - 1) ^^^ (-1))) ((w &&& mk len) &&& (mk len &&& ((sh1 b - 1) ^^^ (-1))) ||| sh1 b) = false := by cases hb2 : pany len n ca wa (mk len &&& ((sh1 b - 1) ^^^ (-1))) ((w &&& mk len) &&& (mk len &&& ((sh1 b - 1) ^^^ (-1))) ||| sh1 b) <;> simp_all [b2i]
              refine lv_iinc (k := 2) hx hb dd_PT_next_104 hl rfl (tq_inc b) (by decide) rfl (fun ls hl => ?_)
              have hl : lv_has ls 10 [(5, .int (nI (b + 1))), (8, .long (((w &&& mk len) &&& (mk len &&& ((sh1 b - 1) ^^^ (-1))) ||| sh1 b))), (6, .long ((mk len &&& ((sh1 b - 1) ^^^ (-1))))), (3, .long (w &&& mk len)), (0, .ref (h 0))] := hl
              refine lv_goto (tgt := 23) hx hb dd_PT_next_107 (by decide) ?_
              refine ih (b + 1) ls (by omega) ?_ (lv_sub hl [0, 3, 4] rfl)
              rw [hf, pnx, if_neg (by rw [hbt]; decide), if_neg (by rw [hsm]; decide)]
            · have hsm : pany len n ca wa (mk len &&& ((sh1 b - 1) ^^^ (-1))) ((w &&& mk len) &&& (mk len &&& ((sh1 b - 1) ^^^ (-1))) ||| sh1 b) = true := by cases hb2 : pany len n ca wa (mk len &&& ((sh1 b - 1) ^^^ (-1))) ((w &&& mk len) &&& (mk len &&& ((sh1 b - 1) ^^^ (-1))) ||| sh1 b) <;> simp_all [b2i]
              refine lv_aload_n hx hb dd_PT_next_91 rfl (lv_at hl 4 rfl) ?_
              refine lv_lload hx hb dd_PT_next_92 (lv_at hl 1 rfl) ?_
              refine lv_lload hx hb dd_PT_next_94 (lv_at hl 0 rfl) ?_
              refine lv_iload hx hb dd_PT_next_96 (lv_at hl 2 rfl) ?_
              refine lv_iconst (v := 1) hx hb dd_PT_next_98 (by decide) ?_
              refine lv_isub hx hb dd_PT_next_99 ?_
              refine RdL.callV (c_PT_least l D cI cL h 1 cl len n ca wa y (mk len &&& ((sh1 b - 1) ^^^ (-1))) ((w &&& mk len) &&& (mk len &&& ((sh1 b - 1) ^^^ (-1))) ||| sh1 b) b hlen hn (by omega)) vs_PT_103 ⟨hx, hb, hml, hown, hT⟩ hK hP 0 rfl rfl ⟨rfl, rfl⟩ (by decide) rfl hl.1 rfl (Nat.le_of_ble_eq_true rfl) dd_PT_next_100 ⟨(Nat.le_of_ble_eq_true rfl), (Nat.le_of_ble_eq_true rfl)⟩ (fun r hr => ?_)
              subst hr
              exact ret _ (len, n, ca, wa, cl, 1, y) H locs 0 0 103 ls ⟨Or.inr ⟨hk, by rw [hf, pnx, if_neg (by rw [hbt]; decide), if_pos hsm]⟩, y, hy, rfl⟩ hP hD hS (Nat.zero_le _) (Nat.zero_le _) dd_PT_next_103
          · have hbt : bt (w &&& mk len) b = true := by
              cases hh : bt (w &&& mk len) b with
              | true => rfl
              | false => exact absurd ((ubit0 (by omega)).mpr hh) ht
            refine lv_goto (tgt := 104) hx hb dd_PT_next_46 (by decide) ?_
            refine lv_iinc (k := 0) hx hb dd_PT_next_104 hl rfl (tq_inc b) (by decide) rfl (fun ls hl => ?_)
            have hl : lv_has ls 10 [(5, .int (nI (b + 1))), (3, .long (w &&& mk len)), (0, .ref (h 0))] := hl
            refine lv_goto (tgt := 23) hx hb dd_PT_next_107 (by decide) ?_
            refine ih (b + 1) ls (by omega) ?_ (lv_sub hl [0, 1, 2] rfl)
            rw [hf]
            simp [pnx, hbt]
    exact loop len 0 ls (by omega) rfl hl
  · refine lv_lload_n hx hb dd_PT_next_18 rfl (lv_at hl 0 rfl) ?_
    exact ret _ (len, n, ca, wa, cl, 1, y) H locs 0 0 19 ls ⟨Or.inl ⟨fdd_neg hn hr1 hc, rfl⟩, y, hy, rfl⟩ hP hD hS (Nat.zero_le _) (Nat.zero_le _) dd_PT_next_19
set_option maxRecDepth 20000 in
theorem c_PT_told (l : Launch) (D : va_G) (cI cL : ClassId) (h : Nat → Nat) (g cl : Int32) (len n : Nat) (ca wa : Nat → Int64) (z : ZT) (i what : Int32) (hfl : l.flags = pinnedFlags ++ [noTraceFlag]) (hlen : len ≤ 64) (hn : n ≤ 512) : MT (S := PX) l yy_PT_told bb_PT_told 3 (some .long) [] (rmX 7 2) D cI cL [.ref (h 0), .int i, .int what] (wX cI cL h g cl len n ca wa z) (fun u => wPx cI cL h u) (pL (fun r u => r = (sTold len n ca wa i what).2 ∧ (sTold len n ca wa i what).1 = 0 ∧ u = (len, n, ca, wa, cl, g, z))) (fun C u => (C = tq_IAE ∧ (sTold len n ca wa i what).1 = 1 ∨ C = tq_NSE ∧ (sTold len n ca wa i what).1 = 2) ∧ u = (len, n, ca, wa, cl, g, z)) := by
  refine MT.mkL (by decide) (Nat.le_of_ble_eq_true rfl) ?_
  intro p e s m below meth c A Q B ret lv ls hl
  obtain ⟨hx, hb, hml, hown, hT, hK, hX, hSK, hA, hP, hD, hS, htab, hcode, hpl⟩ := B
  have hown : s.vm.findClass "PatternTree" = some m.cls := hown
  have hl : lv_has ls 3 [(0, .ref (h 0)), (1, .int i), (2, .int what)] := hl
  refine lv_iload_n hx hb dd_PT_told_0 rfl (lv_at hl 2 rfl) ?_
  refine lv_if_lt (tgt := 13) hx hb dd_PT_told_1 (by decide) (fun h0 => ?_) (fun h0 => ?_)
  · have eA : (sTold len n ca wa i what).1 = 1 := by unfold sTold; rw [if_neg (fun hh => absurd h0 (Int32.not_lt.mpr hh.1))]
    refine lv_iconst (v := 0) hx hb dd_PT_told_13 (by decide) ?_
    refine MT.callS (c_PT_check l D cI cL (wX cI cL h g cl len n ca wa z) 0 hfl) ss_PT_26 ⟨hx, hb, hml, hown, hT⟩ ⟨hK, hX, hSK _ _ hS, hP, hD, hS, hA⟩ (tq_J.same _) (by decide) rfl hl.1 rfl (Nat.le_of_ble_eq_true rfl) dd_PT_told_14 ⟨by decide, by decide⟩ (fun v u H locs hp hP hD hS => ?_) (fun x9 C9 u9 H locs hp hxf hP hD hS => lv x9 C9 (len, n, ca, wa, cl, g, z) H locs _ _ 14 ls _ (tq_nil htab) ⟨Or.inl ⟨hp.1, eA⟩, rfl⟩ hxf hP hD hS (Nat.le_of_ble_eq_true rfl) (Nat.le_of_ble_eq_true rfl))
    exact absurd rfl hp.2
  · refine lv_iload_n hx hb dd_PT_told_4 rfl (lv_at hl 2 rfl) ?_
    refine lv_iconst (v := 3) hx hb dd_PT_told_5 (by decide) ?_
    refine lv_icmp_ge (tgt := 13) hx hb dd_PT_told_6 (by decide) (fun h1 => ?_) (fun h1 => ?_)
    · have eA : (sTold len n ca wa i what).1 = 1 := by unfold sTold; rw [if_neg (fun hh => i3' h1 hh.2)]
      refine lv_iconst (v := 0) hx hb dd_PT_told_13 (by decide) ?_
      refine MT.callS (c_PT_check l D cI cL (wX cI cL h g cl len n ca wa z) 0 hfl) ss_PT_26 ⟨hx, hb, hml, hown, hT⟩ ⟨hK, hX, hSK _ _ hS, hP, hD, hS, hA⟩ (tq_J.same _) (by decide) rfl hl.1 rfl (Nat.le_of_ble_eq_true rfl) dd_PT_told_14 ⟨by decide, by decide⟩ (fun v u H locs hp hP hD hS => ?_) (fun x9 C9 u9 H locs hp hxf hP hD hS => lv x9 C9 (len, n, ca, wa, cl, g, z) H locs _ _ 14 ls _ (tq_nil htab) ⟨Or.inl ⟨hp.1, eA⟩, rfl⟩ hxf hP hD hS (Nat.le_of_ble_eq_true rfl) (Nat.le_of_ble_eq_true rfl))
      exact absurd rfl hp.2
    · have hw9 : 0 ≤ what ∧ what ≤ 2 := ⟨Int32.not_lt.mp h0, i3 h1⟩
      refine lv_iconst (v := 1) hx hb dd_PT_told_9 (by decide) ?_
      refine lv_goto (tgt := 14) hx hb dd_PT_told_10 (by decide) ?_
      refine MT.callS (c_PT_check l D cI cL (wX cI cL h g cl len n ca wa z) 1 hfl) ss_PT_26 ⟨hx, hb, hml, hown, hT⟩ ⟨hK, hX, hSK _ _ hS, hP, hD, hS, hA⟩ (tq_J.same _) (by decide) rfl hl.1 rfl (Nat.le_of_ble_eq_true rfl) dd_PT_told_14 ⟨by decide, by decide⟩ (fun v u H locs hp hP hD hS => ?_) (fun x9 C9 u9 H locs hp hxf hP hD hS => absurd hp.2 (by decide))
      obtain ⟨rfl, -⟩ := hp
      refine lv_iload_n hx hb dd_PT_told_17 rfl (lv_at hl 1 rfl) ?_
      refine lv_if_lt (tgt := 36) hx hb dd_PT_told_18 (by decide) (fun h2 => ?_) (fun h2 => ?_)
      · have eA : (sTold len n ca wa i what).1 = 2 := by unfold sTold; rw [if_pos hw9, if_neg (fun hh => absurd h2 (Int32.not_lt.mpr hh.1))]
        refine lv_iconst (v := 0) hx hb dd_PT_told_36 (by decide) ?_
        refine MT.callS (c_PT_there l D cI cL (wX cI cL h g cl len n ca wa z) 0 hfl) ss_PT_75 ⟨hx, hb, hml, hown, hT⟩ ⟨hK, hX, hSK _ _ hS, hP, hD, hS, hA⟩ (tq_J.same _) (by decide) rfl hl.1 rfl (Nat.le_of_ble_eq_true rfl) dd_PT_told_37 ⟨by decide, by decide⟩ (fun v u H locs hp hP hD hS => ?_) (fun x9 C9 u9 H locs hp hxf hP hD hS => lv x9 C9 (len, n, ca, wa, cl, g, z) H locs _ _ 37 ls _ (tq_nil htab) ⟨Or.inr ⟨hp.1, eA⟩, rfl⟩ hxf hP hD hS (Nat.le_of_ble_eq_true rfl) (Nat.le_of_ble_eq_true rfl))
        exact absurd rfl hp.2
      · refine lv_iload_n hx hb dd_PT_told_21 rfl (lv_at hl 1 rfl) ?_
        refine lv_aload_n hx hb dd_PT_told_22 rfl (lv_at hl 0 rfl) ?_
        refine va_get (D := D) (cl := classes) (ci := 0) (C := R_PT) (T := F_PT) (N := 3) hx hb hT in_PT hown hK hP 0 rfl rfl 0 (by decide) (hT _ tw_67) (fun _ h9 => h9) rfl dd_PT_told_23 ?_
        refine va_get (D := D) (cl := classes) (ci := 1) (C := R_TR) (T := F_TR) (N := 11) hx hb hT in_TR hown hK hP 1 rfl rfl 1 (by decide) (hT _ tw_29) (fun _ h9 => h9) rfl dd_PT_told_26 ?_
        refine lv_icmp_ge (tgt := 36) hx hb dd_PT_told_29 (by decide) (fun h3 => ?_) (fun h3 => ?_)
        · have eA : (sTold len n ca wa i what).1 = 2 := by unfold sTold; rw [if_pos hw9, if_neg (fun hh => absurd h3 (Int32.not_le.mpr hh.2))]
          refine lv_iconst (v := 0) hx hb dd_PT_told_36 (by decide) ?_
          refine MT.callS (c_PT_there l D cI cL (wX cI cL h g cl len n ca wa z) 0 hfl) ss_PT_75 ⟨hx, hb, hml, hown, hT⟩ ⟨hK, hX, hSK _ _ hS, hP, hD, hS, hA⟩ (tq_J.same _) (by decide) rfl hl.1 rfl (Nat.le_of_ble_eq_true rfl) dd_PT_told_37 ⟨by decide, by decide⟩ (fun v u H locs hp hP hD hS => ?_) (fun x9 C9 u9 H locs hp hxf hP hD hS => lv x9 C9 (len, n, ca, wa, cl, g, z) H locs _ _ 37 ls _ (tq_nil htab) ⟨Or.inr ⟨hp.1, eA⟩, rfl⟩ hxf hP hD hS (Nat.le_of_ble_eq_true rfl) (Nat.le_of_ble_eq_true rfl))
          exact absurd rfl hp.2
        · have h4 := Int32.not_le.mp h3
          obtain ⟨q, hq, rfl⟩ := ix_of (by omega) h2 h4
          have eA : (sTold len n ca wa (nI q) what) = (0, if what = 0 then ca q else if what = 1 then wa q else (nI len - nI (pcnt (ca q))).toInt64) := by unfold sTold; rw [if_pos hw9, if_pos ⟨Int32.not_lt.mp h2, h4⟩, nI_clamp (by omega)]
          refine lv_iconst (v := 1) hx hb dd_PT_told_32 (by decide) ?_
          refine lv_goto (tgt := 37) hx hb dd_PT_told_33 (by decide) ?_
          refine MT.callS (c_PT_there l D cI cL (wX cI cL h g cl len n ca wa z) 1 hfl) ss_PT_75 ⟨hx, hb, hml, hown, hT⟩ ⟨hK, hX, hSK _ _ hS, hP, hD, hS, hA⟩ (tq_J.same _) (by decide) rfl hl.1 rfl (Nat.le_of_ble_eq_true rfl) dd_PT_told_37 ⟨by decide, by decide⟩ (fun v u H locs hp hP hD hS => ?_) (fun x9 C9 u9 H locs hp hxf hP hD hS => absurd hp.2 (by decide))
          obtain ⟨rfl, -⟩ := hp
          refine lv_iload_n hx hb dd_PT_told_40 rfl (lv_at hl 2 rfl) ?_
          refine lv_if_ne (tgt := 56) hx hb dd_PT_told_41 (by decide) (fun h5 => ?_) (fun h5 => ?_)
          · refine lv_iload_n hx hb dd_PT_told_56 rfl (lv_at hl 2 rfl) ?_
            refine lv_iconst (v := 1) hx hb dd_PT_told_57 (by decide) ?_
            refine lv_icmp_ne (tgt := 73) hx hb dd_PT_told_58 (by decide) (fun h6 => ?_) (fun h6 => ?_)
            · refine lv_aload_n hx hb dd_PT_told_73 rfl (lv_at hl 0 rfl) ?_
              refine va_get (D := D) (cl := classes) (ci := 0) (C := R_PT) (T := F_PT) (N := 3) hx hb hT in_PT hown hK hP 0 rfl rfl 0 (by decide) (hT _ tw_67) (fun _ h9 => h9) rfl dd_PT_told_74 ?_
              refine va_get (D := D) (cl := classes) (ci := 1) (C := R_TR) (T := F_TR) (N := 11) hx hb hT in_TR hown hK hP 1 rfl rfl 0 (by decide) (hT _ tw_28) (fun _ h9 => h9) rfl dd_PT_told_77 ?_
              refine lv_aload_n hx hb dd_PT_told_80 rfl (lv_at hl 0 rfl) ?_
              refine va_get (D := D) (cl := classes) (ci := 0) (C := R_PT) (T := F_PT) (N := 3) hx hb hT in_PT hown hK hP 0 rfl rfl 0 (by decide) (hT _ tw_67) (fun _ h9 => h9) rfl dd_PT_told_81 ?_
              refine va_get (D := D) (cl := classes) (ci := 1) (C := R_TR) (T := F_TR) (N := 11) hx hb hT in_TR hown hK hP 1 rfl rfl 2 (by decide) (hT _ tw_32) (fun _ h9 => h9) rfl dd_PT_told_84 ?_
              refine lv_iload_n hx hb dd_PT_told_87 rfl (lv_at hl 1 rfl) ?_
              refine tq_lald (k := q) hx hb hK hP 2 rfl (by omega) (by decide) dd_PT_told_88 ?_
              refine RdI.callS (c_JL l D cI cL (wX cI cL h g cl len n ca wa z) (ca q)) ss_PT_87 ⟨hx, hb, hml, hown, hT⟩ hK hP ⟨rfl, rfl⟩ (by decide) rfl hl.1 rfl (Nat.le_of_ble_eq_true rfl) dd_PT_told_89 ⟨(Nat.le_of_ble_eq_true rfl), (Nat.le_of_ble_eq_true rfl)⟩ (fun r hr => ?_)
              subst hr
              refine lv_isub hx hb dd_PT_told_92 ?_
              refine lv_i2l hx hb dd_PT_told_93 rfl ?_
              exact ret _ (len, n, ca, wa, cl, g, z) H locs _ _ 94 ls ⟨by rw [eA, if_neg h5, if_neg h6], by rw [eA], rfl⟩ hP hD hS (Nat.le_of_ble_eq_true rfl) (Nat.le_of_ble_eq_true rfl) dd_PT_told_94
            · refine lv_aload_n hx hb dd_PT_told_61 rfl (lv_at hl 0 rfl) ?_
              refine va_get (D := D) (cl := classes) (ci := 0) (C := R_PT) (T := F_PT) (N := 3) hx hb hT in_PT hown hK hP 0 rfl rfl 0 (by decide) (hT _ tw_67) (fun _ h9 => h9) rfl dd_PT_told_62 ?_
              refine va_get (D := D) (cl := classes) (ci := 1) (C := R_TR) (T := F_TR) (N := 11) hx hb hT in_TR hown hK hP 1 rfl rfl 3 (by decide) (hT _ tw_34) (fun _ h9 => h9) rfl dd_PT_told_65 ?_
              refine lv_iload_n hx hb dd_PT_told_68 rfl (lv_at hl 1 rfl) ?_
              refine tq_lald (k := q) hx hb hK hP 3 rfl (by omega) (by decide) dd_PT_told_69 ?_
              refine lv_goto (tgt := 94) hx hb dd_PT_told_70 (by decide) ?_
              exact ret _ (len, n, ca, wa, cl, g, z) H locs _ _ 94 ls ⟨by rw [eA, if_neg h5, if_pos h6], by rw [eA], rfl⟩ hP hD hS (Nat.le_of_ble_eq_true rfl) (Nat.le_of_ble_eq_true rfl) dd_PT_told_94
          · refine lv_aload_n hx hb dd_PT_told_44 rfl (lv_at hl 0 rfl) ?_
            refine va_get (D := D) (cl := classes) (ci := 0) (C := R_PT) (T := F_PT) (N := 3) hx hb hT in_PT hown hK hP 0 rfl rfl 0 (by decide) (hT _ tw_67) (fun _ h9 => h9) rfl dd_PT_told_45 ?_
            refine va_get (D := D) (cl := classes) (ci := 1) (C := R_TR) (T := F_TR) (N := 11) hx hb hT in_TR hown hK hP 1 rfl rfl 2 (by decide) (hT _ tw_32) (fun _ h9 => h9) rfl dd_PT_told_48 ?_
            refine lv_iload_n hx hb dd_PT_told_51 rfl (lv_at hl 1 rfl) ?_
            refine tq_lald (k := q) hx hb hK hP 2 rfl (by omega) (by decide) dd_PT_told_52 ?_
            refine lv_goto (tgt := 94) hx hb dd_PT_told_53 (by decide) ?_
            exact ret _ (len, n, ca, wa, cl, g, z) H locs _ _ 94 ls ⟨by rw [eA, if_pos h5], by rw [eA], rfl⟩ hP hD hS (Nat.le_of_ble_eq_true rfl) (Nat.le_of_ble_eq_true rfl) dd_PT_told_94
set_option maxRecDepth 20000 in
theorem c_PT_count (l : Launch) (D : va_G) (cI cL : ClassId) (h : Nat → Nat) (g cl : Int32) (len n : Nat) (ca wa : Nat → Int64) (z : ZT) (what : Int32) : RdI l yy_PT_count bb_PT_count 2 (some .int) (rmK 0) D cI cL [.ref (h 0), .int what] (wX cI cL h g cl len n ca wa z) (fun r => r = sCount len n cl 0 what) := by
  refine RdI.mk (by decide) (Nat.le_of_ble_eq_true rfl) ?_
  intro p e s m below meth c Q hx hb hml hown hT hK hP ret ls hl
  have hown : s.vm.findClass "PatternTree" = some m.cls := hown
  have hl : lv_has ls 2 [(0, .ref (h 0)), (1, .int what)] := hl
  refine lv_iload_n hx hb dd_PT_count_0 rfl (lv_at hl 1 rfl) ?_
  by_cases h0 : what = 0
  · subst h0
    refine lv_tableIn (tgt := 32) (off := 31) hx hb dd_PT_count_1 (by decide) (by decide) rfl (by decide) ?_
    refine lv_aload_n hx hb dd_PT_count_32 rfl (lv_at hl 0 rfl) ?_
    refine va_get (D := D) (cl := classes) (ci := 0) (C := R_PT) (T := F_PT) (N := 3) hx hb hT in_PT hown hK hP 0 rfl rfl 0 (by decide) (hT _ tw_67) (fun _ h9 => h9) rfl dd_PT_count_33 ?_
    refine va_get (D := D) (cl := classes) (ci := 1) (C := R_TR) (T := F_TR) (N := 11) hx hb hT in_TR hown hK hP 1 rfl rfl 1 (by decide) (hT _ tw_29) (fun _ h9 => h9) rfl dd_PT_count_36 ?_
    exact ret 39 ls _ rfl rfl dd_PT_count_39
  by_cases h1 : what = 1
  · subst h1
    refine lv_tableIn (tgt := 40) (off := 39) hx hb dd_PT_count_1 (by decide) (by decide) rfl (by decide) ?_
    refine lv_aload_n hx hb dd_PT_count_40 rfl (lv_at hl 0 rfl) ?_
    refine va_get (D := D) (cl := classes) (ci := 0) (C := R_PT) (T := F_PT) (N := 3) hx hb hT in_PT hown hK hP 0 rfl rfl 0 (by decide) (hT _ tw_67) (fun _ h9 => h9) rfl dd_PT_count_41 ?_
    refine va_get (D := D) (cl := classes) (ci := 1) (C := R_TR) (T := F_TR) (N := 11) hx hb hT in_TR hown hK hP 1 rfl rfl 0 (by decide) (hT _ tw_28) (fun _ h9 => h9) rfl dd_PT_count_44 ?_
    exact ret 47 ls _ rfl rfl dd_PT_count_47
  by_cases h2 : what = 2
  · subst h2
    refine lv_tableIn (tgt := 48) (off := 47) hx hb dd_PT_count_1 (by decide) (by decide) rfl (by decide) ?_
    refine lv_aload_n hx hb dd_PT_count_48 rfl (lv_at hl 0 rfl) ?_
    refine va_get (D := D) (cl := classes) (ci := 0) (C := R_PT) (T := F_PT) (N := 3) hx hb hT in_PT hown hK hP 0 rfl rfl 2 (by decide) (hT _ tw_69) (fun _ h9 => h9) rfl dd_PT_count_49 ?_
    exact ret 52 ls _ rfl rfl dd_PT_count_52
  by_cases h3 : what = 3
  · subst h3
    refine lv_tableIn (tgt := 53) (off := 52) hx hb dd_PT_count_1 (by decide) (by decide) rfl (by decide) ?_
    refine lv_iconst (v := 0) hx hb dd_PT_count_53 (by decide) ?_
    exact ret 54 ls _ rfl rfl dd_PT_count_54
  have t0 : what.toInt ≠ 0 := fun h => h0 (Int32.toInt_inj.mp h)
  have t1 : what.toInt ≠ 1 := fun h => h1 (Int32.toInt_inj.mp h)
  have t2 : what.toInt ≠ 2 := fun h => h2 (Int32.toInt_inj.mp h)
  have t3 : what.toInt ≠ 3 := fun h => h3 (Int32.toInt_inj.mp h)
  refine lv_tableOut (tgt := 55) hx hb dd_PT_count_1 (by omega) (by decide) ?_
  refine lv_iconst (v := -1) hx hb dd_PT_count_55 (by decide) ?_
  exact ret 56 ls _ (by unfold sCount; rw [if_neg h0, if_neg h1, if_neg h2, if_neg h3]) rfl dd_PT_count_56
end
section
/-! the plain law: what tree and model compute agrees -/
theorem mk_bv : ∀ len, len < 65 → (mk len).toBitVec = BitVec.ofNat 64 (2 ^ len - 1) := by decide +kernel
theorem bt_mk {len i : Nat} (hl : len ≤ 64) (hi : i < 64) : bt (mk len) i = decide (i < len) := by
  unfold bt
  rw [mk_bv len (by omega), BitVec.getLsbD_ofNat, Nat.testBit_two_pow_sub_one]
  simp [hi]
theorem bt_m1 : ∀ b, b < 64 → bt (-1) b = true := by decide +kernel
theorem and_mk2 (w : Int64) (len : Nat) : (w &&& mk len) &&& mk len = w &&& mk len := by
  apply bt_ext; intro i hi; simp only [bt_and]; cases bt w i <;> cases bt (mk len) i <;> rfl
theorem mk_mk (len : Nat) : mk len &&& mk len = mk len := by
  apply bt_ext; intro i hi; simp only [bt_and]; cases bt (mk len) i <;> rfl
theorem csh_msh (len : Nat) (ca wa : Nat → Int64) (c w : Int64) (k : Nat) : csh ca wa (c &&& mk len) (w &&& mk len) k = msh len ca wa c w k := by
  unfold csh msh
  have : (ca k &&& (c &&& mk len) &&& (wa k ^^^ (w &&& mk len))) = ((wa k ^^^ w) &&& ca k &&& c &&& mk len) := by
    apply bt_ext; intro i hi; simp only [bt_and, bt_xor]
    cases bt (ca k) i <;> cases bt c i <;> cases bt (mk len) i <;> cases bt (wa k) i <;> cases bt w i <;> rfl
  rw [this]
theorem csh_fun (len : Nat) (ca wa : Nat → Int64) (c w : Int64) : csh ca wa (c &&& mk len) (w &&& mk len) = msh len ca wa c w := funext fun k => csh_msh len ca wa c w k
theorem add_eq (len n : Nat) (ca wa : Nat → Int64) (cl : Int32) (c w : Int64) : tAdd len n ca wa cl c w = mAdd len n ca wa cl c w := by
  unfold tAdd mAdd tPut; rw [csh_fun]
/-! signs -/
theorem sgn_hi (d : Int64) : ∀ i, i ≤ 64 → ∀ b, i ≤ b → b < 64 → bt (sgn d i).1 b = false ∧ bt (sgn d i).2.1 b = false := by
  intro i
  induction i with
  | zero => intro _ b _ _; exact ⟨by simp [sgn, bt], by simp [sgn, bt]⟩
  | succ i ih =>
    intro hi b hb hb6
    obtain ⟨h1, h2⟩ := ih (by omega) b (by omega) hb6
    have h3 : bt (sh1 i) b = false := by rw [bt_sh1 (by omega) hb6]; simp; omega
    show bt (sgs i (sgn d i)).1 b = false ∧ bt (sgs i (sgn d i)).2.1 b = false
    unfold sgs
    constructor
    · dsimp only; split
      · rw [bt_or, h1, h3]; rfl
      · exact h1
    · dsimp only; split
      · rw [bt_or, h2, h3]; rfl
      · exact h2
theorem sgn_lo (d : Int64) (i : Nat) : ∀ j, i + j ≤ 64 → ∀ b, b < i → bt (sgn d (i + j)).1 b = bt (sgn d i).1 b ∧ bt (sgn d (i + j)).2.1 b = bt (sgn d i).2.1 b := by
  intro j
  induction j with
  | zero => intro _ b _; exact ⟨rfl, rfl⟩
  | succ j ih =>
    intro hi b hb
    obtain ⟨h1, h2⟩ := ih (by omega) b hb
    have h3 : bt (sh1 (i + j)) b = false := by rw [bt_sh1 (by omega) (by omega)]; simp; omega
    show bt (sgs (i + j) (sgn d (i + j))).1 b = _ ∧ bt (sgs (i + j) (sgn d (i + j))).2.1 b = _
    unfold sgs
    constructor
    · dsimp only; split
      · rw [bt_or, h1, h3, Bool.or_false]
      · exact h1
    · dsimp only; split
      · rw [bt_or, h2, h3, Bool.or_false]
      · exact h2
theorem sgn_sub (d : Int64) : ∀ i, i ≤ 64 → ∀ b, b < 64 → bt (sgn d i).2.1 b = true → bt (sgn d i).1 b = true := by
  intro i
  induction i with
  | zero => intro _ b _ h; simp [sgn, bt] at h
  | succ i ih =>
    intro hi b hb
    show bt (sgs i (sgn d i)).2.1 b = true → bt (sgs i (sgn d i)).1 b = true
    unfold sgs
    dsimp only
    by_cases h1 : (sgn d i).2.2 - (sgn d i).2.2 / 3 * 3 = 1
    · rw [if_pos h1, if_pos (by rw [h1]; decide), bt_or, bt_or]
      intro h
      rcases Bool.or_eq_true_iff.mp h with h | h
      · rw [ih (by omega) b hb h]; rfl
      · rw [h]; simp
    · rw [if_neg h1]
      intro h
      have h2 := ih (by omega) b hb h
      split
      · rw [bt_or, h2]; rfl
      · exact h2
theorem sgn_mask {len : Nat} (hl : len ≤ 64) (d : Int64) : (sgn d 40).1 &&& mk len = (sgn d (min 40 len)).1 &&& mk len ∧ (sgn d 40).2.1 &&& mk len = (sgn d (min 40 len)).2.1 &&& mk len := by
  by_cases h : 40 ≤ len
  · rw [Nat.min_eq_left h]; exact ⟨rfl, rfl⟩
  · have hm : min 40 len = len := Nat.min_eq_right (by omega)
    rw [hm]
    constructor
    · apply bt_ext; intro i hi
      rw [bt_and, bt_and, bt_mk hl hi]
      by_cases h2 : i < len
      · have := (sgn_lo d len (40 - len) (by omega) i h2).1
        rw [show len + (40 - len) = 40 by omega] at this
        rw [this]
      · simp [h2]
    · apply bt_ext; intro i hi
      rw [bt_and, bt_and, bt_mk hl hi]
      by_cases h2 : i < len
      · have := (sgn_lo d len (40 - len) (by omega) i h2).2
        rw [show len + (40 - len) = 40 by omega] at this
        rw [this]
      · simp [h2]
theorem sgn_isP (len : Nat) (d : Int64) {i : Nat} (hi : i ≤ 64) : isP len (sgn d i).1 (sgn d i).2.1 = true := by
  unfold isP
  apply decide_eq_true
  apply bt_ext; intro b hb
  have h := sgn_sub d i hi b hb
  rw [bt_and, bt_and, bt_xor]
  have h1 : bt (-1) b = true := bt_m1 b hb
  rw [h1, show bt 0 b = false by simp [bt]]
  cases h2 : bt (sgn d i).2.1 b
  · rfl
  · rw [h h2]; rfl
theorem signs_eq {len : Nat} (hl : len ≤ 64) (n : Nat) (ca wa : Nat → Int64) (cl : Int32) (d : Int64) : tSigns len n ca wa cl d = mSigns len n ca wa cl d := by
  unfold tSigns mSigns
  by_cases h : d < 0
  · rw [if_pos h, if_pos h]
  · rw [if_neg h, if_neg h, ← add_eq]
    unfold tAdd
    rw [if_pos (sgn_isP len d (Nat.le_trans (Nat.min_le_left _ _) (by omega))), (sgn_mask hl d).1, (sgn_mask hl d).2]
/-! the invariant of the patterns -/
def Jv (len n : Nat) (ca wa : Nat → Int64) : Prop := (1 ≤ len ∧ len ≤ 64) ∧ n ≤ 512 ∧ (∀ k, k < n → ca k &&& mk len = ca k) ∧ (∀ k, k < n → wa k &&& ca k = wa k) ∧ ∀ i j, i < n → j < n → i ≠ j → csh ca wa (ca i) (wa i) j = false
theorem Jv.uniq {len n : Nat} {ca wa : Nat → Int64} (h : Jv len n ca wa) (w : Int64) : ∀ i j, i < n → j < n → tk ca wa w i = true → tk ca wa w j = true → i = j := by
  intro i j hi hj h1 h2
  rcases Nat.decEq i j with hne | he
  · exfalso
    have h3 := h.2.2.2.2 i j hi hj hne
    unfold csh at h3
    have h4 := of_decide_eq_false h3
    apply h4
    have e1 := of_decide_eq_true h1
    have e2 := of_decide_eq_true h2
    rw [← e1, ← e2]
    apply bt_ext; intro b hb; simp only [bt_and, bt_xor]
    rw [show bt 0 b = false by simp [bt]]
    cases bt (ca i) b <;> cases bt (ca j) b <;> cases bt w b <;> rfl
  · exact he
theorem tk_mask {len n : Nat} {ca wa : Nat → Int64} (h : Jv len n ca wa) (w : Int64) {k : Nat} (hk : k < n) : tk ca wa (w &&& mk len) k = tk ca wa w k := by
  unfold tk
  have : (w &&& mk len) &&& ca k = w &&& ca k := by
    have e := h.2.2.1 k hk
    rw [← e]
    apply bt_ext; intro b hb; simp only [bt_and]
    cases bt w b <;> cases bt (mk len) b <;> cases bt (ca k) b <;> rfl
  rw [this]
theorem ffr_none {P : Nat → Bool} : ∀ m k, (∀ i, k ≤ i → i < k + m → P i = false) → ffr P k m = -1 := by
  intro m
  induction m with
  | zero => intro k _; rfl
  | succ m ih =>
    intro k h
    rw [ffr, if_neg (by rw [h k (Nat.le_refl _) (by omega)]; decide)]
    exact ih (k + 1) (fun i h1 h2 => h i (by omega) (by omega))
theorem ffr_some {P : Nat → Bool} {q : Nat} (hq : P q = true) : ∀ m k, k ≤ q → q < k + m → (∀ i, k ≤ i → i < q → P i = false) → ffr P k m = nI q := by
  intro m
  induction m with
  | zero => intro k h1 h2; omega
  | succ m ih =>
    intro k h1 h2 h3
    rw [ffr]
    by_cases he : k = q
    · subst he; rw [if_pos hq]
    · rw [if_neg (by rw [h3 k (Nat.le_refl _) (by omega)]; decide)]
      exact ih (k + 1) (by omega) (by omega) (fun i h4 h5 => h3 i (by omega) h5)
theorem decode_eq {len n : Nat} {ca wa : Nat → Int64} (h : Jv len n ca wa) {w : Int64} {r : Int32} (hr : fdd n ca wa (w &&& mk len) r) : r = ff (tk ca wa w) n := by
  rcases hr with ⟨rfl, h1⟩ | ⟨k, hk, rfl, h1⟩
  · exact (ffr_none n 0 (fun i _ h2 => by rw [← tk_mask h w (by omega)]; exact h1 i (by omega))).symm
  · rw [tk_mask h w hk] at h1
    refine (ffr_some h1 n 0 (Nat.zero_le _) (by omega) (fun i _ h2 => ?_)).symm
    cases h3 : tk ca wa w i
    · rfl
    · exact absurd (h.uniq w i k (by omega) hk h3 h1) (by omega)
theorem por_congr {P P' : Nat → Bool} {S S' : Nat → Int64} : ∀ m k a, (∀ i, k ≤ i → i < k + m → P i = P' i ∧ S i = S' i) → por P S k m a = por P' S' k m a := by
  intro m
  induction m with
  | zero => intro k a _; rfl
  | succ m ih =>
    intro k a h
    rw [por, por, (h k (Nat.le_refl _) (by omega)).1, (h k (Nat.le_refl _) (by omega)).2]
    exact ih (k + 1) _ (fun i h1 h2 => h i (by omega) (by omega))
theorem free_eq {len n : Nat} {ca wa : Nat → Int64} (h : Jv len n ca wa) (c w : Int64) : popen len n ca wa (c &&& mk len) (w &&& mk len) = mnone len n ca wa c w := by
  unfold popen mnone
  apply por_congr
  intro i _ hi
  refine ⟨csh_msh len ca wa c w i, ?_⟩
  have e := h.2.2.1 i (by omega)
  have : (c &&& mk len ||| ca i) = ((c ||| ca i) &&& mk len) := by
    rw [← e]
    apply bt_ext; intro b hb; simp only [bt_and, bt_or]
    cases bt c b <;> cases bt (mk len) b <;> cases bt (ca i) b <;> rfl
  show psz len _ = psz len _
  rw [this]
theorem pcn_zero {v : Int64} : ∀ i, pcn v i = 0 ↔ ∀ j, j < i → bt v j = false := by
  intro i
  induction i with
  | zero => exact ⟨fun _ j h => by omega, fun _ => rfl⟩
  | succ i ih =>
    rw [pcn]
    constructor
    · intro h j hj
      by_cases he : j = i
      · subst he
        cases hb : bt v j
        · rfl
        · rw [hb] at h; simp at h
      · exact ih.mp (by omega) j (by omega)
    · intro h
      rw [ih.mpr (fun j hj => h j (by omega)), h i (by omega)]; rfl
theorem pcnt_zero {v : Int64} : pcnt v = 0 ↔ v = 0 := by
  unfold pcnt
  rw [pcn_zero]
  constructor
  · intro h; apply bt_ext; intro i hi; rw [h i hi]; simp [bt]
  · intro h j _; rw [h]; simp [bt]
theorem pcn_mk {len : Nat} (hl : len ≤ 64) : ∀ i, i ≤ 64 → pcn (mk len) i = min i len := by
  intro i
  induction i with
  | zero => intro _; simp [pcn]
  | succ i ih =>
    intro hi
    rw [pcn, ih (by omega), bt_mk hl (by omega)]
    by_cases h : i < len
    · rw [decide_eq_true h, if_pos rfl]; omega
    · rw [decide_eq_false h, if_neg (by decide)]; omega
theorem pcnt_mk {len : Nat} (hl : len ≤ 64) : pcnt (mk len) = len := by unfold pcnt; rw [pcn_mk hl 64 (Nat.le_refl _)]; omega
theorem msome_eq {len n : Nat} {ca wa : Nat → Int64} (h : Jv len n ca wa) (c w : Int64) : msome len n ca wa c w = pany len n ca wa (c &&& mk len) (w &&& mk len) := by
  unfold msome pany
  rw [free_eq h, decide_eq_decide.mpr (pcnt_zero (v := c &&& mk len))]
theorem or_sh1 {len b : Nat} (hl : len ≤ 64) (hb : b < len) {c : Int64} (hc : c &&& mk len = c) : (c ||| sh1 b) &&& mk len = c ||| sh1 b := by
  apply bt_ext; intro i hi
  have e := congrArg (fun x => bt x i) hc
  simp only [bt_and] at e
  rw [bt_and, bt_or, bt_sh1 (by omega) hi, bt_mk hl hi]
  rw [bt_mk hl hi] at e
  by_cases h : i = b
  · subst h; simp [hb]
  · by_cases h2 : i < len
    · simp [h2]
    · simp only [h2, decide_false, Bool.and_false] at e ⊢
      rw [← e]; simp [h]
theorem plst_eq {len : Nat} (hl : len ≤ 64) {A B : Int64 → Int64 → Bool} (hA : ∀ c w, c &&& mk len = c → w &&& mk len = w → A c w = B c w) : ∀ b c w, b ≤ len → c &&& mk len = c → w &&& mk len = w → plst A b c w = plst B b c w := by
  intro b
  induction b with
  | zero => intro c w _ _ _; rfl
  | succ b ih =>
    intro c w hb hc hw
    have h1 := or_sh1 hl (by omega : b < len) hc
    have h2 := or_sh1 hl (by omega : b < len) hw
    rw [plst, plst, hA _ _ h1 hw]
    refine ih _ _ (by omega) h1 ?_
    split
    · exact hw
    · exact h2
theorem pnx_eq {len : Nat} (hl : len ≤ 64) {A B : Int64 → Int64 → Bool} (hA : ∀ c w, c &&& mk len = c → w &&& mk len = w → A c w = B c w) (fr : Int64) : ∀ m b, b + m ≤ len → pnx A (mk len) fr b m = pnx B (mk len) fr b m := by
  intro m
  induction m with
  | zero => intro b _; rfl
  | succ m ih =>
    intro b hb
    have h1 : (mk len &&& ((sh1 b - 1) ^^^ (-1))) &&& mk len = mk len &&& ((sh1 b - 1) ^^^ (-1)) := by
      apply bt_ext; intro i hi; simp only [bt_and]; cases bt (mk len) i <;> simp
    have h3 : (fr &&& (mk len &&& ((sh1 b - 1) ^^^ (-1)))) &&& mk len = fr &&& (mk len &&& ((sh1 b - 1) ^^^ (-1))) := by
      apply bt_ext; intro i hi; simp only [bt_and]; cases bt (mk len) i <;> simp
    have h2 := or_sh1 hl (by omega : b < len) h3
    rw [pnx, pnx, hA _ _ h1 h2, plst_eq hl hA b _ _ (by omega) h1 h2, ih (b + 1) (by omega)]
theorem por_none {P : Nat → Bool} {S : Nat → Int64} : ∀ m k a, (∀ i, k ≤ i → i < k + m → P i = false) → por P S k m a = a := by
  intro m
  induction m with
  | zero => intro k a _; rfl
  | succ m ih =>
    intro k a h
    rw [por, if_neg (by rw [h k (Nat.le_refl _) (by omega)]; decide)]
    exact ih (k + 1) a (fun i h1 h2 => h i (by omega) (by omega))
theorem por_one {P : Nat → Bool} {S : Nat → Int64} {q : Nat} (hq : P q = true) : ∀ m k a, k ≤ q → q < k + m → (∀ i, k ≤ i → i < k + m → P i = true → i = q) → por P S k m a = a - S q := by
  intro m
  induction m with
  | zero => intro k a h1 h2; omega
  | succ m ih =>
    intro k a h1 h2 h3
    rw [por]
    by_cases he : k = q
    · subst he
      rw [if_pos hq]
      refine por_none m (k + 1) _ (fun i h4 h5 => ?_)
      cases h6 : P i
      · rfl
      · exact absurd (h3 i (by omega) (by omega) h6) (by omega)
    · rw [if_neg (fun h6 => he (h3 k (Nat.le_refl _) (by omega) h6))]
      exact ih (k + 1) a (by omega) (by omega) (fun i h4 h5 => h3 i (by omega) (by omega))
theorem psz_mk {len : Nat} (hl : len ≤ 64) : psz len (mk len) = 1 := by
  unfold psz
  rw [pcnt_mk hl, Int32.sub_self]
  decide
theorem msh_mk {len n : Nat} {ca wa : Nat → Int64} (h : Jv len n ca wa) (w : Int64) {k : Nat} (hk : k < n) : msh len ca wa (mk len) w k = tk ca wa w k := by
  unfold msh tk
  have e1 := h.2.2.1 k hk
  have e2 := h.2.2.2.1 k hk
  apply decide_eq_decide.mpr
  constructor
  · intro h0
    apply bt_ext; intro b hb
    have h1 := congrArg (fun x => bt x b) h0
    have h2 := congrArg (fun x => bt x b) e1
    have h3 := congrArg (fun x => bt x b) e2
    simp only [bt_and, bt_xor, show bt 0 b = false by simp [bt]] at h1 h2 h3 ⊢
    cases ha : bt (ca k) b <;> cases hm : bt (mk len) b <;> cases hw : bt (wa k) b <;> cases h4 : bt w b <;> simp_all
  · intro h0
    apply bt_ext; intro b hb
    have h1 := congrArg (fun x => bt x b) h0
    simp only [bt_and, bt_xor, show bt 0 b = false by simp [bt]] at h1 ⊢
    rw [← h1]
    cases bt (ca k) b <;> cases bt (mk len) b <;> cases bt w b <;> rfl
theorem or_mk {len n : Nat} {ca wa : Nat → Int64} (h : Jv len n ca wa) {k : Nat} (hk : k < n) : (mk len ||| ca k) &&& mk len = mk len := by
  apply bt_ext; intro b hb
  simp only [bt_and, bt_or]
  cases bt (mk len) b <;> simp
theorem mnone_mk {len n : Nat} {ca wa : Nat → Int64} (h : Jv len n ca wa) (w : Int64) : mnone len n ca wa (mk len) w = por (tk ca wa w) (fun _ => 1) 0 n 1 := by
  unfold mnone
  rw [mk_mk, psz_mk h.1.2]
  apply por_congr
  intro i _ hi
  refine ⟨msh_mk h w (by omega), ?_⟩
  show psz len _ = 1
  rw [or_mk h (by omega : i < n), psz_mk h.1.2]
theorem msome_mk {len n : Nat} {ca wa : Nat → Int64} (h : Jv len n ca wa) (w : Int64) : msome len n ca wa (mk len) w = !decide (por (tk ca wa w) (fun _ => 1) 0 n 1 = 0) := by
  unfold msome
  rw [mnone_mk h, mk_mk, pcnt_mk h.1.2, decide_eq_false (show ¬ len = 0 by have := h.1.1; omega)]
  simp
theorem next_none {len n : Nat} {ca wa : Nat → Int64} (h : Jv len n ca wa) {w : Int64} (h0 : ∀ k, k < n → tk ca wa (w &&& mk len &&& mk len) k = false) : mNext len n ca wa w = (0, w &&& mk len) := by
  unfold mNext
  rw [if_pos]
  rw [msome_mk h, por_none n 0 1 (fun i _ hi => by rw [← and_mk2]; exact h0 i (by omega))]
  decide
theorem msome_false {len n : Nat} {ca wa : Nat → Int64} (h : Jv len n ca wa) {w : Int64} (h0 : ∃ k, k < n ∧ tk ca wa (w &&& mk len &&& mk len) k = true) : msome len n ca wa (mk len) (w &&& mk len) = false := by
  obtain ⟨k, hk, h1⟩ := h0
  rw [and_mk2] at h1
  rw [msome_mk h, por_one h1 n 0 1 (Nat.zero_le _) (by omega) (fun i _ hi h2 => h.uniq _ i k (by omega) hk h2 h1)]
  decide
theorem pnx_pm {len n : Nat} {ca wa : Nat → Int64} (h : Jv len n ca wa) (w : Int64) : pnx (msome len n ca wa) (mk len) (w &&& mk len) 0 len = pnx (pany len n ca wa) (mk len) (w &&& mk len) 0 len :=
  pnx_eq h.1.2 (fun c w hc hw => by rw [msome_eq h, hc, hw]) _ len 0 (by omega)
theorem next_some {len n : Nat} {ca wa : Nat → Int64} (h : Jv len n ca wa) {w : Int64} (h0 : ∃ k, k < n ∧ tk ca wa (w &&& mk len &&& mk len) k = true) {r : Int64} (hr : pnx (pany len n ca wa) (mk len) (w &&& mk len) 0 len = some r) : mNext len n ca wa w = (0, r) := by
  unfold mNext
  rw [if_neg (by rw [msome_false h h0]; decide), pnx_pm h, hr]
theorem next_throw {len n : Nat} {ca wa : Nat → Int64} (h : Jv len n ca wa) {w : Int64} (h0 : ∃ k, k < n ∧ tk ca wa (w &&& mk len &&& mk len) k = true) (hr : pnx (pany len n ca wa) (mk len) (w &&& mk len) 0 len = none) : (mNext len n ca wa w).1 = 1 := by
  unfold mNext
  rw [if_neg (by rw [msome_false h h0]; decide), pnx_pm h, hr]
/-! the invariant is kept -/
theorem ffr_neg {P : Nat → Bool} : ∀ m k, k + m < 2 ^ 31 → ¬ 0 ≤ ffr P k m → ∀ i, k ≤ i → i < k + m → P i = false := by
  intro m
  induction m with
  | zero => intro k _ _ i h1 h2; omega
  | succ m ih =>
    intro k hb h i h1 h2
    rw [ffr] at h
    cases hp : P k
    · rw [if_neg (by rw [hp]; decide)] at h
      by_cases he : i = k
      · subst he; exact hp
      · exact ih (k + 1) (by omega) h i (by omega) (by omega)
    · rw [if_pos hp] at h
      exact absurd (Int32.not_lt.mp (nI_pos (by omega))) h
theorem csh_comm {ca wa : Nat → Int64} {c w : Int64} {i : Nat} {ca' wa' : Nat → Int64} {j : Nat} (h1 : ca' j = c) (h2 : wa' j = w) : csh ca' wa' (ca i) (wa i) j = csh ca wa c w i := by
  unfold csh
  rw [h1, h2]
  apply decide_eq_decide.mpr
  have : (c &&& ca i &&& (w ^^^ wa i)) = (ca i &&& c &&& (wa i ^^^ w)) := by
    apply bt_ext; intro b hb; simp only [bt_and, bt_xor]
    cases bt (ca i) b <;> cases bt c b <;> cases bt (wa i) b <;> cases bt w b <;> rfl
  rw [this]
theorem put_code {n : Nat} {ca wa : Nat → Int64} {cl : Int32} {c w : Int64} : (tPut n ca wa cl c w).1 = 0 ∧ n ≠ 512 ∧ (¬ 0 ≤ ff (csh ca wa c w) n) ∧ tPut n ca wa cl c w = (0, nI n, n + 1, vp_updL ca n c, vp_updL wa n w, cl) ∨ (tPut n ca wa cl c w).1 ≠ 0 ∧ (tPut n ca wa cl c w).2.2.1 = n ∧ (tPut n ca wa cl c w).2.2.2.1 = ca ∧ (tPut n ca wa cl c w).2.2.2.2.1 = wa := by
  unfold tPut sPut
  by_cases h1 : n = 512
  · rw [if_pos h1]; exact Or.inr ⟨(by decide : (2 : Int32) ≠ 0), rfl, rfl, rfl⟩
  · rw [if_neg h1]
    by_cases h2 : 0 ≤ ff (csh ca wa c w) n
    · rw [if_pos h2]; exact Or.inr ⟨(by decide : (2 : Int32) ≠ 0), rfl, rfl, rfl⟩
    · rw [if_neg h2]; exact Or.inl ⟨rfl, h1, h2, rfl⟩
theorem put_J {len n : Nat} {ca wa : Nat → Int64} {cl : Int32} {c w : Int64} (h : Jv len n ca wa) (hc : c &&& mk len = c) (hw : w &&& c = w) : Jv len (tPut n ca wa cl c w).2.2.1 (tPut n ca wa cl c w).2.2.2.1 (tPut n ca wa cl c w).2.2.2.2.1 := by
  rcases put_code (n := n) (ca := ca) (wa := wa) (cl := cl) (c := c) (w := w) with ⟨-, h1, h2, h3⟩ | ⟨-, h1, h2, h3⟩
  · rw [h3]
    obtain ⟨a1, a2, a3, a4, a5⟩ := h
    have h4 := ffr_neg n 0 (by omega) h2
    have un : ∀ (f : Nat → Int64) (v : Int64), vp_updL f n v n = v := fun f v => by unfold vp_updL; rw [if_pos rfl]
    have uo : ∀ (f : Nat → Int64) (v : Int64) (k : Nat), k ≠ n → vp_updL f n v k = f k := fun f v k hk => by unfold vp_updL; rw [if_neg hk]
    refine ⟨a1, by show n + 1 ≤ 512; omega, fun k hk => ?_, fun k hk => ?_, fun i j hi hj hij => ?_⟩
    · have hk : k < n + 1 := hk
      show vp_updL ca n c k &&& mk len = vp_updL ca n c k
      by_cases he : k = n
      · subst he; rw [un]; exact hc
      · rw [uo _ _ _ he]; exact a3 k (by omega)
    · have hk : k < n + 1 := hk
      show vp_updL wa n w k &&& vp_updL ca n c k = vp_updL wa n w k
      by_cases he : k = n
      · subst he; rw [un, un]; exact hw
      · rw [uo _ _ _ he, uo _ _ _ he]; exact a4 k (by omega)
    · have hi : i < n + 1 := hi
      have hj : j < n + 1 := hj
      show csh (vp_updL ca n c) (vp_updL wa n w) (vp_updL ca n c i) (vp_updL wa n w i) j = false
      by_cases he : i = n
      · subst he
        rw [un, un]
        have h5 := h4 j (Nat.zero_le _) (by omega)
        unfold csh at h5 ⊢
        rw [uo _ _ _ (by omega), uo _ _ _ (by omega)]
        exact h5
      · rw [uo _ _ _ he, uo _ _ _ he]
        by_cases hf : j = n
        · subst hf
          rw [csh_comm (un ca c) (un wa w)]
          exact h4 i (Nat.zero_le _) (by omega)
        · have h5 := a5 i j (by omega) (by omega) hij
          unfold csh at h5 ⊢
          rw [uo _ _ _ hf, uo _ _ _ hf]
          exact h5
  · rw [h1, h2, h3]; exact h
theorem isP_sub {len : Nat} {c w : Int64} (h : isP len c w = true) : (w &&& mk len) &&& (c &&& mk len) = w &&& mk len := by
  unfold isP at h
  have h0 := of_decide_eq_true h
  apply bt_ext; intro b hb
  have h1 := congrArg (fun x => bt x b) h0
  have h2 : bt (-1) b = true := bt_m1 b hb
  simp only [bt_and, bt_xor, h2, show bt 0 b = false by simp [bt]] at h1 ⊢
  cases h3 : bt c b <;> cases h4 : bt w b <;> cases h5 : bt (mk len) b <;> simp_all
theorem add_J {len n : Nat} {ca wa : Nat → Int64} {cl : Int32} {c w : Int64} (h : Jv len n ca wa) : Jv len (tAdd len n ca wa cl c w).2.2.1 (tAdd len n ca wa cl c w).2.2.2.1 (tAdd len n ca wa cl c w).2.2.2.2.1 := by
  unfold tAdd
  cases hp : isP len c w
  · exact h
  · exact put_J h (and_mk2 c len) (isP_sub hp)
theorem signs_J {len n : Nat} {ca wa : Nat → Int64} {cl : Int32} {d : Int64} (h : Jv len n ca wa) : Jv len (tSigns len n ca wa cl d).2.2.1 (tSigns len n ca wa cl d).2.2.2.1 (tSigns len n ca wa cl d).2.2.2.2.1 := by
  unfold tSigns
  split
  · exact h
  · exact put_J h (and_mk2 _ len) (isP_sub (sgn_isP len d (by omega)))
theorem drop_J {len n : Nat} {ca wa : Nat → Int64} {i : Int32} (h : Jv len n ca wa) : Jv len (sDrop n ca wa i).2.1 (sDrop n ca wa i).2.2.1 (sDrop n ca wa i).2.2.2 := by
  unfold sDrop
  split
  · obtain ⟨a1, a2, a3, a4, a5⟩ := h
    generalize i.toNatClampNeg = q
    have hs : ∀ k, k < n - 1 → ∃ k', k' < n ∧ shf ca q (n - 1) k = ca k' ∧ shf wa q (n - 1) k = wa k' ∧ k' = if q ≤ k then k + 1 else k := by
      intro k hk
      unfold shf
      by_cases h1 : q ≤ k
      · exact ⟨k + 1, by omega, by rw [if_pos ⟨h1, hk⟩], by rw [if_pos ⟨h1, hk⟩], by rw [if_pos h1]⟩
      · exact ⟨k, by omega, by rw [if_neg (fun h2 => h1 h2.1)], by rw [if_neg (fun h2 => h1 h2.1)], by rw [if_neg h1]⟩
    refine ⟨a1, by show n - 1 ≤ 512; omega, fun k hk => ?_, fun k hk => ?_, fun i j hi hj hij => ?_⟩
    · obtain ⟨k', h1, h2, h3, -⟩ := hs k hk
      show shf ca q (n - 1) k &&& mk len = shf ca q (n - 1) k
      rw [h2]; exact a3 k' h1
    · obtain ⟨k', h1, h2, h3, -⟩ := hs k hk
      show shf wa q (n - 1) k &&& shf ca q (n - 1) k = shf wa q (n - 1) k
      rw [h2, h3]; exact a4 k' h1
    · obtain ⟨i', b1, b2, b3, b4⟩ := hs i hi
      obtain ⟨j', c1, c2, c3, c4⟩ := hs j hj
      show csh (shf ca q (n - 1)) (shf wa q (n - 1)) (shf ca q (n - 1) i) (shf wa q (n - 1) i) j = false
      have hne : i' ≠ j' := by
        intro he
        apply hij
        rw [b4, c4] at he
        split at he <;> split at he <;> omega
      have h5 := a5 i' j' b1 c1 hne
      unfold csh at h5 ⊢
      rw [b2, b3, c2, c3]; exact h5
  · exact h
theorem clear_J {len : Nat} {ca wa : Nat → Int64} (h : 1 ≤ len ∧ len ≤ 64) : Jv len 0 ca wa := ⟨h, Nat.zero_le _, fun k hk => by omega, fun k hk => by omega, fun i j hi => by omega⟩
end
section
/-! constructors -/
section TQN
variable {p : Program} {l : Launch} {e : Env} {R : Room} {s : State} {m : MethodId} {args : Array Value} {below : List Frame} {meth : Method} {c : Code} {H H0 : Heap} {locs : List Loc} {cells slots : Nat} {Q : State → Prop}
variable {cc : ByteArray} {pc : Nat} {ls : Array Slot} {rest : List Value} {D : va_G} {cI cL : ClassId} {ws : va_W} {A : Nat → Prop}
theorem tq_newL (hx : p.tables.exec = Jvm.exec) (hb : c.code = cc) (harr : (Cond.arrayClass .long).before args s = true) (hK : va_K D classes (tys cI cL) s) (hP : va_P D classes ws H) (hD : va_D A ws) (hS : va_S A H0 H locs) (hA : ∀ q, H0.size ≤ q → A q)
    {n : Int32} {N' : Nat} (hn : ¬ n < 0) (hN : n.toNatClampNeg = N') (hbytes : N' * 8 ≤ 536870912) (hcells : cells + 1 ≤ R.cells) (hslots : slots + N' ≤ R.slots) (hdg : decode cc pc = .ok (.newarray .long, 2))
    (kk : ∀ (q : Nat) (H1 : Heap), va_P D classes (ws ++ [(q, .inl (cL, N', .inr (.inl fun _ => 0)))]) H1 → va_D A (ws ++ [(q, .inl (cL, N', .inr (.inl fun _ => 0)))]) → va_S A H0 H1 locs →
      W p l e R s m args below meth c H1 locs (cells + 1) (slots + N') Q (F0 m (pc + 2) ls (.ref q :: rest))) : W p l e R s m args below meth c H locs cells slots Q (F0 m pc ls (.int n :: rest)) := by
  refine va_newa hx hb (atype := .long) harr rfl hK hP hD hS hA (a0 := (N', .inr (.inl fun _ => 0))) (fun cA => rfl) hn hN hbytes hcells hslots hdg (fun q cA H1 hK' hP' hD' hS' => ?_)
  have h1 := (hK'.2 2 (cA, .long) rfl).2
  have h2 := (hK.2 1 (cL, .long) rfl).2
  obtain rfl : cA = cL := Option.some.inj (h1.symm.trans h2)
  exact kk q H1 hP' hD' hS'
theorem tq_newI (hx : p.tables.exec = Jvm.exec) (hb : c.code = cc) (harr : (Cond.arrayClass .int).before args s = true) (hK : va_K D classes (tys cI cL) s) (hP : va_P D classes ws H) (hD : va_D A ws) (hS : va_S A H0 H locs) (hA : ∀ q, H0.size ≤ q → A q)
    {n : Int32} {N' : Nat} (hn : ¬ n < 0) (hN : n.toNatClampNeg = N') (hbytes : N' * 4 ≤ 536870912) (hcells : cells + 1 ≤ R.cells) (hslots : slots + N' ≤ R.slots) (hdg : decode cc pc = .ok (.newarray .int, 2))
    (kk : ∀ (q : Nat) (H1 : Heap), va_P D classes (ws ++ [(q, .inl (cI, N', .inl fun _ => 0))]) H1 → va_D A (ws ++ [(q, .inl (cI, N', .inl fun _ => 0))]) → va_S A H0 H1 locs →
      W p l e R s m args below meth c H1 locs (cells + 1) (slots + N') Q (F0 m (pc + 2) ls (.ref q :: rest))) : W p l e R s m args below meth c H locs cells slots Q (F0 m pc ls (.int n :: rest)) := by
  refine va_newa hx hb (atype := .int) harr rfl hK hP hD hS hA (a0 := (N', .inl fun _ => 0)) (fun cA => rfl) hn hN hbytes hcells hslots hdg (fun q cA H1 hK' hP' hD' hS' => ?_)
  have h1 := (hK'.2 2 (cA, .int) rfl).2
  have h2 := (hK.2 0 (cI, .int) rfl).2
  obtain rfl : cA = cI := Option.some.inj (h1.symm.trans h2)
  exact kk q H1 hP' hD' hS'
variable {y : MethodName} {b' : ByteArray} {nL' nL : Nat} {rm' : Room} {st0 : List Value} {w0 wr : va_W} {own : String} {ix a : Nat} {A0 : Nat → Prop}
variable {S : Type} {wf : S → va_W} {post : Option Value → S → Prop} {pex : String → S → Prop}
theorem MT.callI (hM : MT l y b' nL' none [] rm' D cI cL [.ref a] w0 wf post pex) (hy1 : y.name = "<init>") (hy2 : y.desc = "()V") (hnot : y.cls ≠ "java/lang/invoke/MethodHandle" ∧ y.cls ≠ "java/lang/invoke/VarHandle") (hlen : (parseMethodDescriptor y.desc).map (fun d => d.parameters.length) = some 0)
    (lk : (Cond.methodLink own ix y).before args s = true ∨ ∃ host, (Cond.methodLinkNest own ix y host).before args s = true) (hinst : Cond.instanceMethod y ∈ TT) (hini : Cond.initialized y.cls ∈ TT) (hcd : tq_hd y b' nL' none [] ∈ TT)
    (F : CallFix p m c cc nL s args TT own) (K : tq_K s H locs D cI cL A0 ws) {isC isR : List Nat} (J : tq_J ws w0 wr isC isR)
    (hR : rm'.frames + 1 ≤ R.frames ∧ 8 + (nL' + 11) + rm'.locals ≤ R.locals) (hsize : ls.size = nL) (hW : (rest.map fun v => v.category).sum ≤ 8)
    (hdg : decode cc pc = .ok (.invokespecial ix, 3)) (hf : cells + rm'.cells ≤ R.cells ∧ slots + rm'.slots ≤ R.slots)
    (kr : ∀ (v : Option Value) (u : S) (H1 : Heap) (locs1 : List Loc), post v u → va_P D classes (wr ++ wf u) H1 → va_D A0 (wr ++ wf u) → va_S A0 s.heap H1 locs1 → W p l e R s m args below meth c H1 locs1 (cells + rm'.cells) (slots + rm'.slots) Q (F0 m (pc + 3) ls (v.toList ++ rest)))
    (kx : ∀ (x : Addr) (C : String) (u : S) (H1 : Heap) (locs1 : List Loc), pex C u → tq_xf C x s H1 → va_P D classes (wr ++ wf u) H1 → va_D A0 (wr ++ wf u) → va_S A0 s.heap H1 locs1 → tq_X p l e R s m args below meth c H1 locs1 (cells + rm'.cells) (slots + rm'.slots) Q (F0 m pc ls rest) x) :
    W p l e R s m args below meth c H locs cells slots Q (F0 m pc ls (.ref a :: rest)) := by
  obtain ⟨hx, hb, hml, hown, hT9⟩ := F
  obtain ⟨hK, hX, hSK, hP, hD, hS, hA⟩ := K
  obtain ⟨j1, j2, j3, j4, j5, j6⟩ := J
  intro T9 hT X
  have hpl : e.platform.magicAccessors = ({} : Platform).magicAccessors := by rw [X.admits.platform]
  have st : ∃ (tm : MethodId) (vm' : Vm), s.methodNamed? y = some tm ∧ s.WarmedH vm' ∧ ∀ target, (∀ acts, Steps p.tables e below (doInvoke e ((T9.setVm vm').setTop (F0 m pc ls rest)) acts tm #[.ref a]).1 target) → Steps p.tables e below (T9.setTop (F0 m pc ls (.ref a :: rest))) target := by
    rcases lk with lk | ⟨host, lk⟩
    · obtain ⟨tm, _, _, _, vm', hn, -, -, -, -, -, -, -, hW, st⟩ := Steps.initCold (tb := p.tables) (e := e) X.here hx X.warmed hpl hown hy1 hy2 hnot lk (hT9 _ hinst) (hT9 _ hcd) (f := F0 m pc ls (.ref a :: rest)) rfl (rest := rest) rfl (by rw [hb]; exact hdg)
      exact ⟨tm, vm', hn, hW, st⟩
    · obtain ⟨tm, _, _, _, vm', hn, -, -, -, -, -, -, -, hW, st⟩ := Steps.initColdArgsNest (tb := p.tables) (e := e) X.here hx X.warmed hpl hown hy1 hnot lk (hT9 _ hinst) (hT9 _ hcd) (f := F0 m pc ls (.ref a :: rest)) rfl (argsL := []) (rest := rest) (fun sig h => by rw [h] at hlen; exact (Option.some.inj hlen).symm) rfl (by rw [hb]; exact hdg)
      exact ⟨tm, vm', hn, hW, st⟩
  obtain ⟨mk, vm₁, hnamed, hW₁, st⟩ := st
  have X₁ := X.noted hW₁
  obtain ⟨t, a1, b1⟩ := MT.after X₁ hT hM hT9 hcd hini hK hX hSK hP hD hS hA isC isR j1 j2 j3 j4 j5 j6 hR (g' := F0 m pc ls rest) rfl (hsize.trans hml.symm) hW hf (ig := .invokespecial ix) (by rw [hb]; exact hdg) (X₁.named hnamed) kr kx
  exact ⟨t, st _ fun acts => by rw [doInvoke_state]; exact a1, b1⟩
end TQN
section MTI
variable {l : Launch} {y : MethodName} {b : ByteArray} {nL : Nat} {rm : Room} {D : va_G} {cI cL : ClassId} {av : List Value} {w0 : va_W} {hh : List (Nat × Nat × Nat × Nat)} {S : Type} {wf : S → va_W} {pex : String → S → Prop}
theorem MT.mkVi {f : S → Prop} (hy : plainName y.cls = true) (hsz : (lg_sl av).length ≤ nL)
    (body : ∀ (p : Program) (e : Env) (s : State) (m : MethodId) (below : List Frame) (meth : Method) (c : Code) (A : Nat → Prop) (Q : State → Prop), meth.name = y.name → tq_B p e s m meth c A y b nL hh D cI cL av w0 →
      (∀ (u : S) (H : Heap) (locs : List Loc) (cl sl pc : Nat) (ls : Array Slot), f u → va_P D classes (wf u) H → va_D A (wf u) → va_S A s.heap H locs → cl ≤ rm.cells → sl ≤ rm.slots → decode b pc = .ok (.return_, 1) → W p l e rm s m av.toArray below meth c H locs cl sl Q (F0 m pc ls [])) →
      tq_lv p l e rm s m av below meth c A D wf pex Q → ∀ ls : Array Slot, lv_has ls nL (lv_args 0 av) → W p l e rm s m av.toArray below meth c s.heap [] 0 0 Q (F0 m 0 ls [])) : MT l y b nL none hh rm D cI cL av w0 wf (pV f) pex := by
  intro sz
  refine tq_Met.ofW (cc := b) (maxL := nL) (ret := none) (hh := hh) hy rfl ?_
  intro p e s m args below meth c s₁ B hml htab hv
  obtain ⟨rfl, hsz0, hP, hK, hD0, hX⟩ := hv
  subst hsz0
  have hD := hD0.self (sz := s.heap.size)
  rw [lg_entry_eq]
  refine body p e s m below meth c _ _ (name_of_methodNamed B.named B.method).1 ⟨B.exec, B.bytes, hml, findClass_of_methodNamed B.named, fun w hw => atoms_spec B.pre w (List.mem_cons_of_mem _ hw), hK, hX, fun H locs hS => tq_SK.of hP hS, fun q h => Or.inr h, hP, hD, va_S.rf, htab, (Stand.of_body B).code, by rw [B.admits.platform]⟩
    (fun u H locs cl sl pc ls hf hP hD hS hc hs hd => ?_) (tq_lv.of B.notSynchronized) _ (lv_entry av hsz)
  exact W.widen (k := rm.cells) (n := rm.slots) hc hs (tq_mono (fun t h => tq_MQ.of h) (W.vret B.exec B.bytes B.returns (fun t ht hW => ⟨⟨u, Or.inl ⟨_, rfl, rfl, hf⟩, by rw [ht]; exact hP, hD⟩, hS.F ht⟩) hS.2.2 hd B.notSynchronized))
end MTI
def z0 : ZT := (0, 0, fun _ => 0, fun _ => 0, fun _ => 0, fun _ => 0, fun _ => 0)
abbrev wX0 (cI cL : ClassId) (h : Nat → Nat) : va_W := wX cI cL h 0 (-1) 32 0 (fun _ => 0) (fun _ => 0) z0
abbrev wT0 (cI cL : ClassId) (h : Nat → Nat) : va_W := (wX0 cI cL h).tail
abbrev wM0 (cL : ClassId) (h : Nat → Nat) : va_W := wM cL h 32 0 (-1) 0 0 (fun _ => 0) (fun _ => 0)
abbrev rmI (c sl : Nat) : Room := { frames := 3, cells := c, slots := sl, locals := 120 }
set_option maxRecDepth 20000 in
theorem c_TR_init (l : Launch) (D : va_G) (cI cL : ClassId) (a : Nat) : MT (S := Nat → Nat) l yy_TR_init bb_TR_init 1 none [] (rmI 7 49152) D cI cL [.ref a] ([(a, .inr (1, [.int 0, .int 0, .null, .null, .null, .null, .null, .int 0, .null, .int 0, .null]))]) (fun h => wT0 cI cL h) (pV (fun h => h 1 = a)) nx := by
  refine MT.mkVi (by decide) (Nat.le_of_ble_eq_true rfl) ?_
  intro p e s m below meth c A Q hnm B ret lv ls hl
  obtain ⟨hx, hb, hml, hown, hT, hK, hX, hSK, hA, hP, hD, hS, htab, hcode, hpl⟩ := B
  have hnm : meth.name = "<init>" := hnm
  have hown : s.vm.findClass "PatternTree$Tree" = some m.cls := hown
  have hl : lv_has ls 1 [(0, .ref a)] := hl
  refine lv_aload_n hx hb dd_TR_init_0 rfl (lv_at hl 0 rfl) ?_
  refine W.objInit hx hb hown (hT _ tw_25) (hT _ tw_18) (hT _ tw_19) (g := F0 m 1 ls [.ref a]) rfl (hl.1.trans hml.symm) rfl dd_TR_init_1 (by decide) (Nat.le_of_ble_eq_true rfl) ?_
  show W p l e _ s m _ below meth c _ _ _ _ _ (F0 m 4 ls [])
  refine lv_aload_n hx hb dd_TR_init_4 rfl (lv_at hl 0 rfl) ?_
  refine lv_bipush (v := 32) hx hb dd_TR_init_5 (by decide) ?_
  refine va_put (D := D) (cl := classes) (ci := 1) (ty := .int) (C := R_TR) (T := F_TR) (N := 11) hx hb hT in_TR t_TR t_TR_ok n_TR hown hK hP hD hS 0 rfl rfl 0 (by decide) (hT _ tw_27) (fun _ h9 => h9) rfl (by decide +kernel) rfl rfl (Nat.le_of_ble_eq_true rfl) dd_TR_init_7 (fun H locs hP hD hS => ?_)
  have hP : va_P D classes ([(a, .inr (1, [.int (nI 32), .int 0, .null, .null, .null, .null, .null, .int 0, .null, .int 0, .null]))] : va_W) H := hP
  have hD : va_D A ([(a, .inr (1, [.int (nI 32), .int 0, .null, .null, .null, .null, .null, .int 0, .null, .int 0, .null]))] : va_W) := hD
  refine lv_aload_n hx hb dd_TR_init_10 rfl (lv_at hl 0 rfl) ?_
  refine lv_sipush (v := 512) hx hb dd_TR_init_11 (by decide) ?_
  refine tq_newL (N' := 512) hx hb (hT _ tw_65) hK hP hD hS hA (by decide) (by decide) (by decide) (Nat.le_of_ble_eq_true rfl) (Nat.le_of_ble_eq_true rfl) dd_TR_init_14 (fun q2 H hP hD hS => ?_)
  have hP : va_P D classes ([(a, .inr (1, [.int (nI 32), .int 0, .null, .null, .null, .null, .null, .int 0, .null, .int 0, .null])), (q2, .inl (cL, 512, .inr (.inl fun _ => 0)))] : va_W) H := hP
  have hD : va_D A ([(a, .inr (1, [.int (nI 32), .int 0, .null, .null, .null, .null, .null, .int 0, .null, .int 0, .null])), (q2, .inl (cL, 512, .inr (.inl fun _ => 0)))] : va_W) := hD
  refine va_putF (D := D) (cl := classes) (ci := 1) (ty := (.array .long)) (C := R_TR) (T := F_TR) (N := 11) hx hb hT in_TR t_TR t_TR_ok n_TR hown hK hP hD hS 0 rfl rfl 2 (by decide) (hT _ tw_31) (fun _ h9 => h9) rfl hnm rfl (by decide +kernel) rfl rfl (Nat.le_of_ble_eq_true rfl) dd_TR_init_16 (fun H locs hP hD hS => ?_)
  have hP : va_P D classes ([(a, .inr (1, [.int (nI 32), .int 0, .ref q2, .null, .null, .null, .null, .int 0, .null, .int 0, .null])), (q2, .inl (cL, 512, .inr (.inl fun _ => 0)))] : va_W) H := hP
  have hD : va_D A ([(a, .inr (1, [.int (nI 32), .int 0, .ref q2, .null, .null, .null, .null, .int 0, .null, .int 0, .null])), (q2, .inl (cL, 512, .inr (.inl fun _ => 0)))] : va_W) := hD
  refine lv_aload_n hx hb dd_TR_init_19 rfl (lv_at hl 0 rfl) ?_
  refine lv_sipush (v := 512) hx hb dd_TR_init_20 (by decide) ?_
  refine tq_newL (N' := 512) hx hb (hT _ tw_65) hK hP hD hS hA (by decide) (by decide) (by decide) (Nat.le_of_ble_eq_true rfl) (Nat.le_of_ble_eq_true rfl) dd_TR_init_23 (fun q3 H hP hD hS => ?_)
  have hP : va_P D classes ([(a, .inr (1, [.int (nI 32), .int 0, .ref q2, .null, .null, .null, .null, .int 0, .null, .int 0, .null])), (q2, .inl (cL, 512, .inr (.inl fun _ => 0))), (q3, .inl (cL, 512, .inr (.inl fun _ => 0)))] : va_W) H := hP
  have hD : va_D A ([(a, .inr (1, [.int (nI 32), .int 0, .ref q2, .null, .null, .null, .null, .int 0, .null, .int 0, .null])), (q2, .inl (cL, 512, .inr (.inl fun _ => 0))), (q3, .inl (cL, 512, .inr (.inl fun _ => 0)))] : va_W) := hD
  refine va_putF (D := D) (cl := classes) (ci := 1) (ty := (.array .long)) (C := R_TR) (T := F_TR) (N := 11) hx hb hT in_TR t_TR t_TR_ok n_TR hown hK hP hD hS 0 rfl rfl 3 (by decide) (hT _ tw_33) (fun _ h9 => h9) rfl hnm rfl (by decide +kernel) rfl rfl (Nat.le_of_ble_eq_true rfl) dd_TR_init_25 (fun H locs hP hD hS => ?_)
  have hP : va_P D classes ([(a, .inr (1, [.int (nI 32), .int 0, .ref q2, .ref q3, .null, .null, .null, .int 0, .null, .int 0, .null])), (q2, .inl (cL, 512, .inr (.inl fun _ => 0))), (q3, .inl (cL, 512, .inr (.inl fun _ => 0)))] : va_W) H := hP
  have hD : va_D A ([(a, .inr (1, [.int (nI 32), .int 0, .ref q2, .ref q3, .null, .null, .null, .int 0, .null, .int 0, .null])), (q2, .inl (cL, 512, .inr (.inl fun _ => 0))), (q3, .inl (cL, 512, .inr (.inl fun _ => 0)))] : va_W) := hD
  refine lv_aload_n hx hb dd_TR_init_28 rfl (lv_at hl 0 rfl) ?_
  refine lv_sipush (v := 2048) hx hb dd_TR_init_29 (by decide) ?_
  refine tq_newI (N' := 2048) hx hb (hT _ tw_66) hK hP hD hS hA (by decide) (by decide) (by decide) (Nat.le_of_ble_eq_true rfl) (Nat.le_of_ble_eq_true rfl) dd_TR_init_32 (fun q4 H hP hD hS => ?_)
  have hP : va_P D classes ([(a, .inr (1, [.int (nI 32), .int 0, .ref q2, .ref q3, .null, .null, .null, .int 0, .null, .int 0, .null])), (q2, .inl (cL, 512, .inr (.inl fun _ => 0))), (q3, .inl (cL, 512, .inr (.inl fun _ => 0))), (q4, .inl (cI, 2048, .inl fun _ => 0))] : va_W) H := hP
  have hD : va_D A ([(a, .inr (1, [.int (nI 32), .int 0, .ref q2, .ref q3, .null, .null, .null, .int 0, .null, .int 0, .null])), (q2, .inl (cL, 512, .inr (.inl fun _ => 0))), (q3, .inl (cL, 512, .inr (.inl fun _ => 0))), (q4, .inl (cI, 2048, .inl fun _ => 0))] : va_W) := hD
  refine va_putF (D := D) (cl := classes) (ci := 1) (ty := (.array .int)) (C := R_TR) (T := F_TR) (N := 11) hx hb hT in_TR t_TR t_TR_ok n_TR hown hK hP hD hS 0 rfl rfl 4 (by decide) (hT _ tw_35) (fun _ h9 => h9) rfl hnm rfl (by decide +kernel) rfl rfl (Nat.le_of_ble_eq_true rfl) dd_TR_init_34 (fun H locs hP hD hS => ?_)
  have hP : va_P D classes ([(a, .inr (1, [.int (nI 32), .int 0, .ref q2, .ref q3, .ref q4, .null, .null, .int 0, .null, .int 0, .null])), (q2, .inl (cL, 512, .inr (.inl fun _ => 0))), (q3, .inl (cL, 512, .inr (.inl fun _ => 0))), (q4, .inl (cI, 2048, .inl fun _ => 0))] : va_W) H := hP
  have hD : va_D A ([(a, .inr (1, [.int (nI 32), .int 0, .ref q2, .ref q3, .ref q4, .null, .null, .int 0, .null, .int 0, .null])), (q2, .inl (cL, 512, .inr (.inl fun _ => 0))), (q3, .inl (cL, 512, .inr (.inl fun _ => 0))), (q4, .inl (cI, 2048, .inl fun _ => 0))] : va_W) := hD
  refine lv_aload_n hx hb dd_TR_init_37 rfl (lv_at hl 0 rfl) ?_
  refine lv_sipush (v := 2048) hx hb dd_TR_init_38 (by decide) ?_
  refine tq_newI (N' := 2048) hx hb (hT _ tw_66) hK hP hD hS hA (by decide) (by decide) (by decide) (Nat.le_of_ble_eq_true rfl) (Nat.le_of_ble_eq_true rfl) dd_TR_init_41 (fun q5 H hP hD hS => ?_)
  have hP : va_P D classes ([(a, .inr (1, [.int (nI 32), .int 0, .ref q2, .ref q3, .ref q4, .null, .null, .int 0, .null, .int 0, .null])), (q2, .inl (cL, 512, .inr (.inl fun _ => 0))), (q3, .inl (cL, 512, .inr (.inl fun _ => 0))), (q4, .inl (cI, 2048, .inl fun _ => 0)), (q5, .inl (cI, 2048, .inl fun _ => 0))] : va_W) H := hP
  have hD : va_D A ([(a, .inr (1, [.int (nI 32), .int 0, .ref q2, .ref q3, .ref q4, .null, .null, .int 0, .null, .int 0, .null])), (q2, .inl (cL, 512, .inr (.inl fun _ => 0))), (q3, .inl (cL, 512, .inr (.inl fun _ => 0))), (q4, .inl (cI, 2048, .inl fun _ => 0)), (q5, .inl (cI, 2048, .inl fun _ => 0))] : va_W) := hD
  refine va_putF (D := D) (cl := classes) (ci := 1) (ty := (.array .int)) (C := R_TR) (T := F_TR) (N := 11) hx hb hT in_TR t_TR t_TR_ok n_TR hown hK hP hD hS 0 rfl rfl 5 (by decide) (hT _ tw_36) (fun _ h9 => h9) rfl hnm rfl (by decide +kernel) rfl rfl (Nat.le_of_ble_eq_true rfl) dd_TR_init_43 (fun H locs hP hD hS => ?_)
  have hP : va_P D classes ([(a, .inr (1, [.int (nI 32), .int 0, .ref q2, .ref q3, .ref q4, .ref q5, .null, .int 0, .null, .int 0, .null])), (q2, .inl (cL, 512, .inr (.inl fun _ => 0))), (q3, .inl (cL, 512, .inr (.inl fun _ => 0))), (q4, .inl (cI, 2048, .inl fun _ => 0)), (q5, .inl (cI, 2048, .inl fun _ => 0))] : va_W) H := hP
  have hD : va_D A ([(a, .inr (1, [.int (nI 32), .int 0, .ref q2, .ref q3, .ref q4, .ref q5, .null, .int 0, .null, .int 0, .null])), (q2, .inl (cL, 512, .inr (.inl fun _ => 0))), (q3, .inl (cL, 512, .inr (.inl fun _ => 0))), (q4, .inl (cI, 2048, .inl fun _ => 0)), (q5, .inl (cI, 2048, .inl fun _ => 0))] : va_W) := hD
  refine lv_aload_n hx hb dd_TR_init_46 rfl (lv_at hl 0 rfl) ?_
  refine lv_sipush (v := 2048) hx hb dd_TR_init_47 (by decide) ?_
  refine tq_newI (N' := 2048) hx hb (hT _ tw_66) hK hP hD hS hA (by decide) (by decide) (by decide) (Nat.le_of_ble_eq_true rfl) (Nat.le_of_ble_eq_true rfl) dd_TR_init_50 (fun q6 H hP hD hS => ?_)
  have hP : va_P D classes ([(a, .inr (1, [.int (nI 32), .int 0, .ref q2, .ref q3, .ref q4, .ref q5, .null, .int 0, .null, .int 0, .null])), (q2, .inl (cL, 512, .inr (.inl fun _ => 0))), (q3, .inl (cL, 512, .inr (.inl fun _ => 0))), (q4, .inl (cI, 2048, .inl fun _ => 0)), (q5, .inl (cI, 2048, .inl fun _ => 0)), (q6, .inl (cI, 2048, .inl fun _ => 0))] : va_W) H := hP
  have hD : va_D A ([(a, .inr (1, [.int (nI 32), .int 0, .ref q2, .ref q3, .ref q4, .ref q5, .null, .int 0, .null, .int 0, .null])), (q2, .inl (cL, 512, .inr (.inl fun _ => 0))), (q3, .inl (cL, 512, .inr (.inl fun _ => 0))), (q4, .inl (cI, 2048, .inl fun _ => 0)), (q5, .inl (cI, 2048, .inl fun _ => 0)), (q6, .inl (cI, 2048, .inl fun _ => 0))] : va_W) := hD
  refine va_putF (D := D) (cl := classes) (ci := 1) (ty := (.array .int)) (C := R_TR) (T := F_TR) (N := 11) hx hb hT in_TR t_TR t_TR_ok n_TR hown hK hP hD hS 0 rfl rfl 6 (by decide) (hT _ tw_37) (fun _ h9 => h9) rfl hnm rfl (by decide +kernel) rfl rfl (Nat.le_of_ble_eq_true rfl) dd_TR_init_52 (fun H locs hP hD hS => ?_)
  have hP : va_P D classes ([(a, .inr (1, [.int (nI 32), .int 0, .ref q2, .ref q3, .ref q4, .ref q5, .ref q6, .int 0, .null, .int 0, .null])), (q2, .inl (cL, 512, .inr (.inl fun _ => 0))), (q3, .inl (cL, 512, .inr (.inl fun _ => 0))), (q4, .inl (cI, 2048, .inl fun _ => 0)), (q5, .inl (cI, 2048, .inl fun _ => 0)), (q6, .inl (cI, 2048, .inl fun _ => 0))] : va_W) H := hP
  have hD : va_D A ([(a, .inr (1, [.int (nI 32), .int 0, .ref q2, .ref q3, .ref q4, .ref q5, .ref q6, .int 0, .null, .int 0, .null])), (q2, .inl (cL, 512, .inr (.inl fun _ => 0))), (q3, .inl (cL, 512, .inr (.inl fun _ => 0))), (q4, .inl (cI, 2048, .inl fun _ => 0)), (q5, .inl (cI, 2048, .inl fun _ => 0)), (q6, .inl (cI, 2048, .inl fun _ => 0))] : va_W) := hD
  refine lv_aload_n hx hb dd_TR_init_55 rfl (lv_at hl 0 rfl) ?_
  refine lv_sipush (v := 8192) hx hb dd_TR_init_56 (by decide) ?_
  refine tq_newI (N' := 8192) hx hb (hT _ tw_66) hK hP hD hS hA (by decide) (by decide) (by decide) (Nat.le_of_ble_eq_true rfl) (Nat.le_of_ble_eq_true rfl) dd_TR_init_59 (fun q7 H hP hD hS => ?_)
  have hP : va_P D classes ([(a, .inr (1, [.int (nI 32), .int 0, .ref q2, .ref q3, .ref q4, .ref q5, .ref q6, .int 0, .null, .int 0, .null])), (q2, .inl (cL, 512, .inr (.inl fun _ => 0))), (q3, .inl (cL, 512, .inr (.inl fun _ => 0))), (q4, .inl (cI, 2048, .inl fun _ => 0)), (q5, .inl (cI, 2048, .inl fun _ => 0)), (q6, .inl (cI, 2048, .inl fun _ => 0)), (q7, .inl (cI, 8192, .inl fun _ => 0))] : va_W) H := hP
  have hD : va_D A ([(a, .inr (1, [.int (nI 32), .int 0, .ref q2, .ref q3, .ref q4, .ref q5, .ref q6, .int 0, .null, .int 0, .null])), (q2, .inl (cL, 512, .inr (.inl fun _ => 0))), (q3, .inl (cL, 512, .inr (.inl fun _ => 0))), (q4, .inl (cI, 2048, .inl fun _ => 0)), (q5, .inl (cI, 2048, .inl fun _ => 0)), (q6, .inl (cI, 2048, .inl fun _ => 0)), (q7, .inl (cI, 8192, .inl fun _ => 0))] : va_W) := hD
  refine va_putF (D := D) (cl := classes) (ci := 1) (ty := (.array .int)) (C := R_TR) (T := F_TR) (N := 11) hx hb hT in_TR t_TR t_TR_ok n_TR hown hK hP hD hS 0 rfl rfl 8 (by decide) (hT _ tw_39) (fun _ h9 => h9) rfl hnm rfl (by decide +kernel) rfl rfl (Nat.le_of_ble_eq_true rfl) dd_TR_init_61 (fun H locs hP hD hS => ?_)
  have hP : va_P D classes ([(a, .inr (1, [.int (nI 32), .int 0, .ref q2, .ref q3, .ref q4, .ref q5, .ref q6, .int 0, .ref q7, .int 0, .null])), (q2, .inl (cL, 512, .inr (.inl fun _ => 0))), (q3, .inl (cL, 512, .inr (.inl fun _ => 0))), (q4, .inl (cI, 2048, .inl fun _ => 0)), (q5, .inl (cI, 2048, .inl fun _ => 0)), (q6, .inl (cI, 2048, .inl fun _ => 0)), (q7, .inl (cI, 8192, .inl fun _ => 0))] : va_W) H := hP
  have hD : va_D A ([(a, .inr (1, [.int (nI 32), .int 0, .ref q2, .ref q3, .ref q4, .ref q5, .ref q6, .int 0, .ref q7, .int 0, .null])), (q2, .inl (cL, 512, .inr (.inl fun _ => 0))), (q3, .inl (cL, 512, .inr (.inl fun _ => 0))), (q4, .inl (cI, 2048, .inl fun _ => 0)), (q5, .inl (cI, 2048, .inl fun _ => 0)), (q6, .inl (cI, 2048, .inl fun _ => 0)), (q7, .inl (cI, 8192, .inl fun _ => 0))] : va_W) := hD
  refine lv_aload_n hx hb dd_TR_init_64 rfl (lv_at hl 0 rfl) ?_
  refine lv_ldc (v := 33792) hx hb hown (hT _ tw_26) dd_TR_init_65 ?_
  refine tq_newI (N' := 33792) hx hb (hT _ tw_66) hK hP hD hS hA (by decide) (by decide) (by decide) (Nat.le_of_ble_eq_true rfl) (Nat.le_of_ble_eq_true rfl) dd_TR_init_67 (fun q8 H hP hD hS => ?_)
  have hP : va_P D classes ([(a, .inr (1, [.int (nI 32), .int 0, .ref q2, .ref q3, .ref q4, .ref q5, .ref q6, .int 0, .ref q7, .int 0, .null])), (q2, .inl (cL, 512, .inr (.inl fun _ => 0))), (q3, .inl (cL, 512, .inr (.inl fun _ => 0))), (q4, .inl (cI, 2048, .inl fun _ => 0)), (q5, .inl (cI, 2048, .inl fun _ => 0)), (q6, .inl (cI, 2048, .inl fun _ => 0)), (q7, .inl (cI, 8192, .inl fun _ => 0)), (q8, .inl (cI, 33792, .inl fun _ => 0))] : va_W) H := hP
  have hD : va_D A ([(a, .inr (1, [.int (nI 32), .int 0, .ref q2, .ref q3, .ref q4, .ref q5, .ref q6, .int 0, .ref q7, .int 0, .null])), (q2, .inl (cL, 512, .inr (.inl fun _ => 0))), (q3, .inl (cL, 512, .inr (.inl fun _ => 0))), (q4, .inl (cI, 2048, .inl fun _ => 0)), (q5, .inl (cI, 2048, .inl fun _ => 0)), (q6, .inl (cI, 2048, .inl fun _ => 0)), (q7, .inl (cI, 8192, .inl fun _ => 0)), (q8, .inl (cI, 33792, .inl fun _ => 0))] : va_W) := hD
  refine va_putF (D := D) (cl := classes) (ci := 1) (ty := (.array .int)) (C := R_TR) (T := F_TR) (N := 11) hx hb hT in_TR t_TR t_TR_ok n_TR hown hK hP hD hS 0 rfl rfl 10 (by decide) (hT _ tw_41) (fun _ h9 => h9) rfl hnm rfl (by decide +kernel) rfl rfl (Nat.le_of_ble_eq_true rfl) dd_TR_init_69 (fun H locs hP hD hS => ?_)
  have hP : va_P D classes ([(a, .inr (1, [.int (nI 32), .int 0, .ref q2, .ref q3, .ref q4, .ref q5, .ref q6, .int 0, .ref q7, .int 0, .ref q8])), (q2, .inl (cL, 512, .inr (.inl fun _ => 0))), (q3, .inl (cL, 512, .inr (.inl fun _ => 0))), (q4, .inl (cI, 2048, .inl fun _ => 0)), (q5, .inl (cI, 2048, .inl fun _ => 0)), (q6, .inl (cI, 2048, .inl fun _ => 0)), (q7, .inl (cI, 8192, .inl fun _ => 0)), (q8, .inl (cI, 33792, .inl fun _ => 0))] : va_W) H := hP
  have hD : va_D A ([(a, .inr (1, [.int (nI 32), .int 0, .ref q2, .ref q3, .ref q4, .ref q5, .ref q6, .int 0, .ref q7, .int 0, .ref q8])), (q2, .inl (cL, 512, .inr (.inl fun _ => 0))), (q3, .inl (cL, 512, .inr (.inl fun _ => 0))), (q4, .inl (cI, 2048, .inl fun _ => 0)), (q5, .inl (cI, 2048, .inl fun _ => 0)), (q6, .inl (cI, 2048, .inl fun _ => 0)), (q7, .inl (cI, 8192, .inl fun _ => 0)), (q8, .inl (cI, 33792, .inl fun _ => 0))] : va_W) := hD
  exact ret (fun k => match k with | 1 => a | 2 => q2 | 3 => q3 | 4 => q4 | 5 => q5 | 6 => q6 | 7 => q7 | _ => q8) H locs _ _ 72 ls rfl hP hD hS (Nat.le_of_ble_eq_true rfl) (Nat.le_of_ble_eq_true rfl) dd_TR_init_72
set_option maxRecDepth 20000 in
theorem c_MO_init (l : Launch) (D : va_G) (cI cL : ClassId) (a : Nat) : MT (S := Nat → Nat) l yy_MO_init bb_MO_init 1 none [] (rmI 2 1024) D cI cL [.ref a] ([(a, .inr (2, [.null, .null, .int 0, .int 0, .int 0, .int 0, .int 0]))]) (fun h => wM0 cL h) (pV (fun h => h 0 = a)) nx := by
  refine MT.mkVi (by decide) (Nat.le_of_ble_eq_true rfl) ?_
  intro p e s m below meth c A Q hnm B ret lv ls hl
  obtain ⟨hx, hb, hml, hown, hT, hK, hX, hSK, hA, hP, hD, hS, htab, hcode, hpl⟩ := B
  have hnm : meth.name = "<init>" := hnm
  have hown : s.vm.findClass "PatternTreeModel" = some m.cls := hown
  have hl : lv_has ls 1 [(0, .ref a)] := hl
  refine lv_aload_n hx hb dd_MO_init_0 rfl (lv_at hl 0 rfl) ?_
  refine W.objInit hx hb hown (hT _ tw_329) (hT _ tw_18) (hT _ tw_19) (g := F0 m 1 ls [.ref a]) rfl (hl.1.trans hml.symm) rfl dd_MO_init_1 (by decide) (Nat.le_of_ble_eq_true rfl) ?_
  show W p l e _ s m _ below meth c _ _ _ _ _ (F0 m 4 ls [])
  refine lv_aload_n hx hb dd_MO_init_4 rfl (lv_at hl 0 rfl) ?_
  refine lv_sipush (v := 512) hx hb dd_MO_init_5 (by decide) ?_
  refine tq_newL (N' := 512) hx hb (hT _ tw_65) hK hP hD hS hA (by decide) (by decide) (by decide) (Nat.le_of_ble_eq_true rfl) (Nat.le_of_ble_eq_true rfl) dd_MO_init_8 (fun q1 H hP hD hS => ?_)
  have hP : va_P D classes ([(a, .inr (2, [.null, .null, .int 0, .int 0, .int 0, .int 0, .int 0])), (q1, .inl (cL, 512, .inr (.inl fun _ => 0)))] : va_W) H := hP
  have hD : va_D A ([(a, .inr (2, [.null, .null, .int 0, .int 0, .int 0, .int 0, .int 0])), (q1, .inl (cL, 512, .inr (.inl fun _ => 0)))] : va_W) := hD
  refine va_putF (D := D) (cl := classes) (ci := 2) (ty := (.array .long)) (C := R_MO) (T := F_MO) (N := 7) hx hb hT in_MO t_MO t_MO_ok n_MO hown hK hP hD hS 0 rfl rfl 0 (by decide) (hT _ tw_330) (fun _ h9 => h9) rfl hnm rfl (by decide +kernel) rfl rfl (Nat.le_of_ble_eq_true rfl) dd_MO_init_10 (fun H locs hP hD hS => ?_)
  have hP : va_P D classes ([(a, .inr (2, [.ref q1, .null, .int 0, .int 0, .int 0, .int 0, .int 0])), (q1, .inl (cL, 512, .inr (.inl fun _ => 0)))] : va_W) H := hP
  have hD : va_D A ([(a, .inr (2, [.ref q1, .null, .int 0, .int 0, .int 0, .int 0, .int 0])), (q1, .inl (cL, 512, .inr (.inl fun _ => 0)))] : va_W) := hD
  refine lv_aload_n hx hb dd_MO_init_13 rfl (lv_at hl 0 rfl) ?_
  refine lv_sipush (v := 512) hx hb dd_MO_init_14 (by decide) ?_
  refine tq_newL (N' := 512) hx hb (hT _ tw_65) hK hP hD hS hA (by decide) (by decide) (by decide) (Nat.le_of_ble_eq_true rfl) (Nat.le_of_ble_eq_true rfl) dd_MO_init_17 (fun q2 H hP hD hS => ?_)
  have hP : va_P D classes ([(a, .inr (2, [.ref q1, .null, .int 0, .int 0, .int 0, .int 0, .int 0])), (q1, .inl (cL, 512, .inr (.inl fun _ => 0))), (q2, .inl (cL, 512, .inr (.inl fun _ => 0)))] : va_W) H := hP
  have hD : va_D A ([(a, .inr (2, [.ref q1, .null, .int 0, .int 0, .int 0, .int 0, .int 0])), (q1, .inl (cL, 512, .inr (.inl fun _ => 0))), (q2, .inl (cL, 512, .inr (.inl fun _ => 0)))] : va_W) := hD
  refine va_putF (D := D) (cl := classes) (ci := 2) (ty := (.array .long)) (C := R_MO) (T := F_MO) (N := 7) hx hb hT in_MO t_MO t_MO_ok n_MO hown hK hP hD hS 0 rfl rfl 1 (by decide) (hT _ tw_331) (fun _ h9 => h9) rfl hnm rfl (by decide +kernel) rfl rfl (Nat.le_of_ble_eq_true rfl) dd_MO_init_19 (fun H locs hP hD hS => ?_)
  have hP : va_P D classes ([(a, .inr (2, [.ref q1, .ref q2, .int 0, .int 0, .int 0, .int 0, .int 0])), (q1, .inl (cL, 512, .inr (.inl fun _ => 0))), (q2, .inl (cL, 512, .inr (.inl fun _ => 0)))] : va_W) H := hP
  have hD : va_D A ([(a, .inr (2, [.ref q1, .ref q2, .int 0, .int 0, .int 0, .int 0, .int 0])), (q1, .inl (cL, 512, .inr (.inl fun _ => 0))), (q2, .inl (cL, 512, .inr (.inl fun _ => 0)))] : va_W) := hD
  refine lv_aload_n hx hb dd_MO_init_22 rfl (lv_at hl 0 rfl) ?_
  refine lv_bipush (v := 32) hx hb dd_MO_init_23 (by decide) ?_
  refine va_put (D := D) (cl := classes) (ci := 2) (ty := .int) (C := R_MO) (T := F_MO) (N := 7) hx hb hT in_MO t_MO t_MO_ok n_MO hown hK hP hD hS 0 rfl rfl 3 (by decide) (hT _ tw_333) (fun _ h9 => h9) rfl (by decide +kernel) rfl rfl (Nat.le_of_ble_eq_true rfl) dd_MO_init_25 (fun H locs hP hD hS => ?_)
  have hP : va_P D classes ([(a, .inr (2, [.ref q1, .ref q2, .int 0, .int (nI 32), .int 0, .int 0, .int 0])), (q1, .inl (cL, 512, .inr (.inl fun _ => 0))), (q2, .inl (cL, 512, .inr (.inl fun _ => 0)))] : va_W) H := hP
  have hD : va_D A ([(a, .inr (2, [.ref q1, .ref q2, .int 0, .int (nI 32), .int 0, .int 0, .int 0])), (q1, .inl (cL, 512, .inr (.inl fun _ => 0))), (q2, .inl (cL, 512, .inr (.inl fun _ => 0)))] : va_W) := hD
  refine lv_aload_n hx hb dd_MO_init_28 rfl (lv_at hl 0 rfl) ?_
  refine lv_iconst (v := -1) hx hb dd_MO_init_29 (by decide) ?_
  refine va_put (D := D) (cl := classes) (ci := 2) (ty := .int) (C := R_MO) (T := F_MO) (N := 7) hx hb hT in_MO t_MO t_MO_ok n_MO hown hK hP hD hS 0 rfl rfl 4 (by decide) (hT _ tw_334) (fun _ h9 => h9) rfl (by decide +kernel) rfl rfl (Nat.le_of_ble_eq_true rfl) dd_MO_init_30 (fun H locs hP hD hS => ?_)
  have hP : va_P D classes ([(a, .inr (2, [.ref q1, .ref q2, .int 0, .int (nI 32), .int (-1), .int 0, .int 0])), (q1, .inl (cL, 512, .inr (.inl fun _ => 0))), (q2, .inl (cL, 512, .inr (.inl fun _ => 0)))] : va_W) H := hP
  have hD : va_D A ([(a, .inr (2, [.ref q1, .ref q2, .int 0, .int (nI 32), .int (-1), .int 0, .int 0])), (q1, .inl (cL, 512, .inr (.inl fun _ => 0))), (q2, .inl (cL, 512, .inr (.inl fun _ => 0)))] : va_W) := hD
  exact ret (fun k => match k with | 0 => a | 1 => q1 | _ => q2) H locs _ _ 33 ls rfl hP hD hS (Nat.le_of_ble_eq_true rfl) (Nat.le_of_ble_eq_true rfl) dd_MO_init_33
set_option maxRecDepth 20000 in
theorem c_PT_init (l : Launch) (D : va_G) (cI cL : ClassId) (a : Nat) : MT (S := Nat → Nat) l yy_PT_init bb_PT_init 1 none [] ({ frames := 5, cells := 8, slots := 49163, locals := 200 }) D cI cL [.ref a] ([(a, .inr (0, [.null, .int 0, .int 0]))]) (fun h => wX0 cI cL h) (pV (fun h => h 0 = a)) nx := by
  refine MT.mkVi (by decide) (Nat.le_of_ble_eq_true rfl) ?_
  intro p e s m below meth c A Q hnm B ret lv ls hl
  obtain ⟨hx, hb, hml, hown, hT, hK, hX, hSK, hA, hP, hD, hS, htab, hcode, hpl⟩ := B
  have hnm : meth.name = "<init>" := hnm
  have hown : s.vm.findClass "PatternTree" = some m.cls := hown
  have hl : lv_has ls 1 [(0, .ref a)] := hl
  refine lv_aload_n hx hb dd_PT_init_0 rfl (lv_at hl 0 rfl) ?_
  refine W.objInit hx hb hown (hT _ tw_17) (hT _ tw_18) (hT _ tw_19) (g := F0 m 1 ls [.ref a]) rfl (hl.1.trans hml.symm) rfl dd_PT_init_1 (by decide) (Nat.le_of_ble_eq_true rfl) ?_
  show W p l e _ s m _ below meth c _ _ _ _ _ (F0 m 4 ls [])
  refine lv_aload_n hx hb dd_PT_init_4 rfl (lv_at hl 0 rfl) ?_
  refine va_new (ci := 1) (fs := [.int 0, .int 0, .null, .null, .null, .null, .null, .int 0, .null, .int 0, .null]) hx hb hT in_TR t_TR t_TR_ok hown (hT _ tw_20) (hT _ tw_21) (hT _ tw_2) hK hP hD hS hA rfl (by decide) (Nat.le_of_ble_eq_true rfl) (Nat.le_of_ble_eq_true rfl) dd_PT_init_5 (fun q H hP hD hS => ?_)
  have hP : va_P D classes ([(a, .inr (0, [.null, .int 0, .int 0])), (q, .inr (1, [.int 0, .int 0, .null, .null, .null, .null, .null, .int 0, .null, .int 0, .null]))] : va_W) H := hP
  have hD : va_D A ([(a, .inr (0, [.null, .int 0, .int 0])), (q, .inr (1, [.int 0, .int 0, .null, .null, .null, .null, .null, .int 0, .null, .int 0, .null]))] : va_W) := hD
  refine lv_dup hx hb dd_PT_init_8 rfl ?_
  refine MT.callI (own := "PatternTree") (c_TR_init l D cI cL q) rfl rfl (by decide) (by decide) (Or.inr ⟨_, hX.2.2.2.2.use rfl⟩) tw_23 tw_2 tw_24 ⟨hx, hb, hml, hown, hT⟩ ⟨hK, hX, hSK _ _ hS, hP, hD, hS, hA⟩ (wr := [(a, .inr (0, [.null, .int 0, .int 0]))]) (isC := [1]) (isR := [0]) ⟨rfl, rfl, rfl, rfl, rfl, by decide⟩ (by decide) hl.1 (Nat.le_of_ble_eq_true rfl) dd_PT_init_9 ⟨by decide, by decide⟩ (fun v h H1 locs1 hp hP1 hD1 hS1 => ?_) (fun x C u H locs hp hxf hP hD hS => hp.elim)
  obtain ⟨rfl, rfl⟩ := hp
  have hP : va_P D classes ((a, .inr (0, [.null, .int 0, .int 0])) :: wT0 cI cL h) H1 := hP1
  have hD : va_D A ((a, .inr (0, [.null, .int 0, .int 0])) :: wT0 cI cL h) := hD1
  have hS := hS1
  refine va_putF (D := D) (cl := classes) (ci := 0) (ty := (.object "PatternTree$Tree")) (C := R_PT) (T := F_PT) (N := 3) hx hb hT in_PT t_PT t_PT_ok n_PT hown hK hP hD hS 0 rfl rfl 0 (by decide) (hT _ tw_67) (fun _ h9 => h9) rfl hnm rfl (by decide +kernel) rfl rfl (Nat.le_of_ble_eq_true rfl) dd_PT_init_12 (fun H locs hP hD hS => ?_)
  have hP : va_P D classes ((a, .inr (0, [.ref (h 1), .int 0, .int 0])) :: wT0 cI cL h) H := hP
  have hD : va_D A ((a, .inr (0, [.ref (h 1), .int 0, .int 0])) :: wT0 cI cL h) := hD
  refine lv_aload_n hx hb dd_PT_init_15 rfl (lv_at hl 0 rfl) ?_
  refine lv_iconst (v := -1) hx hb dd_PT_init_16 (by decide) ?_
  refine va_put (D := D) (cl := classes) (ci := 0) (ty := .int) (C := R_PT) (T := F_PT) (N := 3) hx hb hT in_PT t_PT t_PT_ok n_PT hown hK hP hD hS 0 rfl rfl 2 (by decide) (hT _ tw_69) (fun _ h9 => h9) rfl (by decide +kernel) rfl rfl (Nat.le_of_ble_eq_true rfl) dd_PT_init_17 (fun H locs hP hD hS => ?_)
  have hP : va_P D classes ((a, .inr (0, [.ref (h 1), .int 0, .int (-1)])) :: wT0 cI cL h) H := hP
  have hD : va_D A ((a, .inr (0, [.ref (h 1), .int 0, .int (-1)])) :: wT0 cI cL h) := hD
  exact ret (fun k => match k with | 0 => a | k + 1 => h (k + 1)) H locs _ _ 20 ls rfl hP hD hS (Nat.le_of_ble_eq_true rfl) (Nat.le_of_ble_eq_true rfl) dd_PT_init_20
end
section
theorem dd_LW_clear_0 : decode bb_LW_clear 0 = .ok (.aload_n 0, 1) := by decide +kernel
theorem dd_LW_clear_1 : decode bb_LW_clear 1 = .ok (.iload_n 1, 1) := by decide +kernel
theorem dd_LW_clear_2 : decode bb_LW_clear 2 = .ok (.invokevirtual 7, 3) := by decide +kernel
theorem dd_LW_clear_5 : decode bb_LW_clear 5 = .ok (.goto 6, 3) := by decide +kernel
theorem dd_LW_clear_8 : decode bb_LW_clear 8 = .ok (.astore_n 2, 1) := by decide +kernel
theorem dd_LW_clear_9 : decode bb_LW_clear 9 = .ok (.iconst 1, 1) := by decide +kernel
theorem dd_LW_clear_10 : decode bb_LW_clear 10 = .ok (.ireturn, 1) := by decide +kernel
theorem dd_LW_clear_11 : decode bb_LW_clear 11 = .ok (.iconst 0, 1) := by decide +kernel
theorem dd_LW_clear_12 : decode bb_LW_clear 12 = .ok (.ireturn, 1) := by decide +kernel
theorem dd_LW_add_0 : decode bb_LW_add 0 = .ok (.aload 5, 2) := by decide +kernel
theorem dd_LW_add_2 : decode bb_LW_add 2 = .ok (.iconst 0, 1) := by decide +kernel
theorem dd_LW_add_3 : decode bb_LW_add 3 = .ok (.aload_n 0, 1) := by decide +kernel
theorem dd_LW_add_4 : decode bb_LW_add 4 = .ok (.lload_n 1, 1) := by decide +kernel
theorem dd_LW_add_5 : decode bb_LW_add 5 = .ok (.lload_n 3, 1) := by decide +kernel
theorem dd_LW_add_6 : decode bb_LW_add 6 = .ok (.invokevirtual 15, 3) := by decide +kernel
theorem dd_LW_add_9 : decode bb_LW_add 9 = .ok (.i2l, 1) := by decide +kernel
theorem dd_LW_add_10 : decode bb_LW_add 10 = .ok (.lastore, 1) := by decide +kernel
theorem dd_LW_add_11 : decode bb_LW_add 11 = .ok (.goto 11, 3) := by decide +kernel
theorem dd_LW_add_14 : decode bb_LW_add 14 = .ok (.astore 6, 2) := by decide +kernel
theorem dd_LW_add_16 : decode bb_LW_add 16 = .ok (.iconst 1, 1) := by decide +kernel
theorem dd_LW_add_17 : decode bb_LW_add 17 = .ok (.ireturn, 1) := by decide +kernel
theorem dd_LW_add_18 : decode bb_LW_add 18 = .ok (.astore 6, 2) := by decide +kernel
theorem dd_LW_add_20 : decode bb_LW_add 20 = .ok (.iconst 2, 1) := by decide +kernel
theorem dd_LW_add_21 : decode bb_LW_add 21 = .ok (.ireturn, 1) := by decide +kernel
theorem dd_LW_add_22 : decode bb_LW_add 22 = .ok (.iconst 0, 1) := by decide +kernel
theorem dd_LW_add_23 : decode bb_LW_add 23 = .ok (.ireturn, 1) := by decide +kernel
theorem dd_LW_signs_0 : decode bb_LW_signs 0 = .ok (.aload_n 3, 1) := by decide +kernel
theorem dd_LW_signs_1 : decode bb_LW_signs 1 = .ok (.iconst 0, 1) := by decide +kernel
theorem dd_LW_signs_2 : decode bb_LW_signs 2 = .ok (.aload_n 0, 1) := by decide +kernel
theorem dd_LW_signs_3 : decode bb_LW_signs 3 = .ok (.lload_n 1, 1) := by decide +kernel
theorem dd_LW_signs_4 : decode bb_LW_signs 4 = .ok (.invokevirtual 21, 3) := by decide +kernel
theorem dd_LW_signs_7 : decode bb_LW_signs 7 = .ok (.i2l, 1) := by decide +kernel
theorem dd_LW_signs_8 : decode bb_LW_signs 8 = .ok (.lastore, 1) := by decide +kernel
theorem dd_LW_signs_9 : decode bb_LW_signs 9 = .ok (.goto 11, 3) := by decide +kernel
theorem dd_LW_signs_12 : decode bb_LW_signs 12 = .ok (.astore 4, 2) := by decide +kernel
theorem dd_LW_signs_14 : decode bb_LW_signs 14 = .ok (.iconst 1, 1) := by decide +kernel
theorem dd_LW_signs_15 : decode bb_LW_signs 15 = .ok (.ireturn, 1) := by decide +kernel
theorem dd_LW_signs_16 : decode bb_LW_signs 16 = .ok (.astore 4, 2) := by decide +kernel
theorem dd_LW_signs_18 : decode bb_LW_signs 18 = .ok (.iconst 2, 1) := by decide +kernel
theorem dd_LW_signs_19 : decode bb_LW_signs 19 = .ok (.ireturn, 1) := by decide +kernel
theorem dd_LW_signs_20 : decode bb_LW_signs 20 = .ok (.iconst 0, 1) := by decide +kernel
theorem dd_LW_signs_21 : decode bb_LW_signs 21 = .ok (.ireturn, 1) := by decide +kernel
theorem dd_LW_drop_0 : decode bb_LW_drop 0 = .ok (.aload_n 0, 1) := by decide +kernel
theorem dd_LW_drop_1 : decode bb_LW_drop 1 = .ok (.iload_n 1, 1) := by decide +kernel
theorem dd_LW_drop_2 : decode bb_LW_drop 2 = .ok (.invokevirtual 25, 3) := by decide +kernel
theorem dd_LW_drop_5 : decode bb_LW_drop 5 = .ok (.goto 6, 3) := by decide +kernel
theorem dd_LW_drop_8 : decode bb_LW_drop 8 = .ok (.astore_n 2, 1) := by decide +kernel
theorem dd_LW_drop_9 : decode bb_LW_drop 9 = .ok (.iconst 1, 1) := by decide +kernel
theorem dd_LW_drop_10 : decode bb_LW_drop 10 = .ok (.ireturn, 1) := by decide +kernel
theorem dd_LW_drop_11 : decode bb_LW_drop 11 = .ok (.iconst 0, 1) := by decide +kernel
theorem dd_LW_drop_12 : decode bb_LW_drop 12 = .ok (.ireturn, 1) := by decide +kernel
theorem dd_LW_meets_0 : decode bb_LW_meets 0 = .ok (.aload 5, 2) := by decide +kernel
theorem dd_LW_meets_2 : decode bb_LW_meets 2 = .ok (.iconst 0, 1) := by decide +kernel
theorem dd_LW_meets_3 : decode bb_LW_meets 3 = .ok (.aload_n 0, 1) := by decide +kernel
theorem dd_LW_meets_4 : decode bb_LW_meets 4 = .ok (.lload_n 1, 1) := by decide +kernel
theorem dd_LW_meets_5 : decode bb_LW_meets 5 = .ok (.lload_n 3, 1) := by decide +kernel
theorem dd_LW_meets_6 : decode bb_LW_meets 6 = .ok (.invokevirtual 30, 3) := by decide +kernel
theorem dd_LW_meets_9 : decode bb_LW_meets 9 = .ok (.i2l, 1) := by decide +kernel
theorem dd_LW_meets_10 : decode bb_LW_meets 10 = .ok (.lastore, 1) := by decide +kernel
theorem dd_LW_meets_11 : decode bb_LW_meets 11 = .ok (.goto 7, 3) := by decide +kernel
theorem dd_LW_meets_14 : decode bb_LW_meets 14 = .ok (.astore 6, 2) := by decide +kernel
theorem dd_LW_meets_16 : decode bb_LW_meets 16 = .ok (.iconst 1, 1) := by decide +kernel
theorem dd_LW_meets_17 : decode bb_LW_meets 17 = .ok (.ireturn, 1) := by decide +kernel
theorem dd_LW_meets_18 : decode bb_LW_meets 18 = .ok (.iconst 0, 1) := by decide +kernel
theorem dd_LW_meets_19 : decode bb_LW_meets 19 = .ok (.ireturn, 1) := by decide +kernel
theorem dd_LW_free_0 : decode bb_LW_free 0 = .ok (.aload 5, 2) := by decide +kernel
theorem dd_LW_free_2 : decode bb_LW_free 2 = .ok (.iconst 0, 1) := by decide +kernel
theorem dd_LW_free_3 : decode bb_LW_free 3 = .ok (.aload_n 0, 1) := by decide +kernel
theorem dd_LW_free_4 : decode bb_LW_free 4 = .ok (.lload_n 1, 1) := by decide +kernel
theorem dd_LW_free_5 : decode bb_LW_free 5 = .ok (.lload_n 3, 1) := by decide +kernel
theorem dd_LW_free_6 : decode bb_LW_free 6 = .ok (.invokevirtual 33, 3) := by decide +kernel
theorem dd_LW_free_9 : decode bb_LW_free 9 = .ok (.lastore, 1) := by decide +kernel
theorem dd_LW_free_10 : decode bb_LW_free 10 = .ok (.goto 7, 3) := by decide +kernel
theorem dd_LW_free_13 : decode bb_LW_free 13 = .ok (.astore 6, 2) := by decide +kernel
theorem dd_LW_free_15 : decode bb_LW_free 15 = .ok (.iconst 1, 1) := by decide +kernel
theorem dd_LW_free_16 : decode bb_LW_free 16 = .ok (.ireturn, 1) := by decide +kernel
theorem dd_LW_free_17 : decode bb_LW_free 17 = .ok (.iconst 0, 1) := by decide +kernel
theorem dd_LW_free_18 : decode bb_LW_free 18 = .ok (.ireturn, 1) := by decide +kernel
theorem dd_LW_next_0 : decode bb_LW_next 0 = .ok (.aload_n 3, 1) := by decide +kernel
theorem dd_LW_next_1 : decode bb_LW_next 1 = .ok (.iconst 0, 1) := by decide +kernel
theorem dd_LW_next_2 : decode bb_LW_next 2 = .ok (.aload_n 0, 1) := by decide +kernel
theorem dd_LW_next_3 : decode bb_LW_next 3 = .ok (.lload_n 1, 1) := by decide +kernel
theorem dd_LW_next_4 : decode bb_LW_next 4 = .ok (.invokevirtual 37, 3) := by decide +kernel
theorem dd_LW_next_7 : decode bb_LW_next 7 = .ok (.lastore, 1) := by decide +kernel
theorem dd_LW_next_8 : decode bb_LW_next 8 = .ok (.goto 7, 3) := by decide +kernel
theorem dd_LW_next_11 : decode bb_LW_next 11 = .ok (.astore 4, 2) := by decide +kernel
theorem dd_LW_next_13 : decode bb_LW_next 13 = .ok (.iconst 1, 1) := by decide +kernel
theorem dd_LW_next_14 : decode bb_LW_next 14 = .ok (.ireturn, 1) := by decide +kernel
theorem dd_LW_next_15 : decode bb_LW_next 15 = .ok (.iconst 0, 1) := by decide +kernel
theorem dd_LW_next_16 : decode bb_LW_next 16 = .ok (.ireturn, 1) := by decide +kernel
theorem dd_LW_told_0 : decode bb_LW_told 0 = .ok (.aload_n 3, 1) := by decide +kernel
theorem dd_LW_told_1 : decode bb_LW_told 1 = .ok (.iconst 0, 1) := by decide +kernel
theorem dd_LW_told_2 : decode bb_LW_told 2 = .ok (.aload_n 0, 1) := by decide +kernel
theorem dd_LW_told_3 : decode bb_LW_told 3 = .ok (.iload_n 1, 1) := by decide +kernel
theorem dd_LW_told_4 : decode bb_LW_told 4 = .ok (.iload_n 2, 1) := by decide +kernel
theorem dd_LW_told_5 : decode bb_LW_told 5 = .ok (.invokevirtual 41, 3) := by decide +kernel
theorem dd_LW_told_8 : decode bb_LW_told 8 = .ok (.lastore, 1) := by decide +kernel
theorem dd_LW_told_9 : decode bb_LW_told 9 = .ok (.goto 11, 3) := by decide +kernel
theorem dd_LW_told_12 : decode bb_LW_told 12 = .ok (.astore 4, 2) := by decide +kernel
theorem dd_LW_told_14 : decode bb_LW_told 14 = .ok (.iconst 1, 1) := by decide +kernel
theorem dd_LW_told_15 : decode bb_LW_told 15 = .ok (.ireturn, 1) := by decide +kernel
theorem dd_LW_told_16 : decode bb_LW_told 16 = .ok (.astore 4, 2) := by decide +kernel
theorem dd_LW_told_18 : decode bb_LW_told 18 = .ok (.iconst 2, 1) := by decide +kernel
theorem dd_LW_told_19 : decode bb_LW_told 19 = .ok (.ireturn, 1) := by decide +kernel
theorem dd_LW_told_20 : decode bb_LW_told 20 = .ok (.iconst 0, 1) := by decide +kernel
theorem dd_LW_told_21 : decode bb_LW_told 21 = .ok (.ireturn, 1) := by decide +kernel
/-! the law's own methods -/
def IV (u : PX) : Prop := Jv u.1 u.2.1 u.2.2.1 u.2.2.2.1 ∧ (u.2.2.2.2.2.1 = 0 ∨ u.2.2.2.2.2.1 = 1 ∧ GT u.1 u.2.1 u.2.2.1 u.2.2.2.1 u.2.2.2.2.2.2)
abbrev LQ : Type := PX × (Nat → Int64)
abbrev wL (cI cL : ClassId) (h : Nat → Nat) (o : Nat) (u : LQ) : va_W := (o, .inl (cL, 1, .inr (.inl u.2))) :: wPx cI cL h u.1
theorem clampx {x : Int32} (h : 1 ≤ x ∧ x ≤ 64) : 1 ≤ x.toNatClampNeg ∧ x.toNatClampNeg ≤ 64 := by
  obtain ⟨j, hj, rfl⟩ : ∃ j, j ≤ 64 ∧ x = nI j := nI_of2 (M := 64) (by decide) (fun h0 => absurd (Int32.lt_of_le_of_lt h.1 h0) (by decide)) h.2
  rw [nI_clamp (by omega)]
  exact ⟨(nI_leI (a := 1) (by omega) (by omega)).mp h.1, hj⟩
theorem add_same {len n : Nat} {ca wa : Nat → Int64} {cl : Int32} {c w : Int64} (h : (tAdd len n ca wa cl c w).1 ≠ 0) : (tAdd len n ca wa cl c w).2.2.1 = n ∧ (tAdd len n ca wa cl c w).2.2.2.1 = ca ∧ (tAdd len n ca wa cl c w).2.2.2.2.1 = wa := by
  unfold tAdd at h ⊢
  split at h
  · rename_i hp
    rw [if_pos hp]
    rcases put_code (n := n) (ca := ca) (wa := wa) (cl := cl) (c := c &&& mk len) (w := w &&& mk len) with ⟨h1, -⟩ | ⟨-, h1⟩
    · exact absurd h1 h
    · exact h1
  · rename_i hp
    rw [if_neg hp]; exact ⟨rfl, rfl, rfl⟩
theorem signs_same {len n : Nat} {ca wa : Nat → Int64} {cl : Int32} {d : Int64} (h : (tSigns len n ca wa cl d).1 ≠ 0) : (tSigns len n ca wa cl d).2.2.1 = n ∧ (tSigns len n ca wa cl d).2.2.2.1 = ca ∧ (tSigns len n ca wa cl d).2.2.2.2.1 = wa := by
  unfold tSigns at h ⊢
  split at h
  · rename_i hp
    rw [if_pos hp]; exact ⟨rfl, rfl, rfl⟩
  · rename_i hp
    rw [if_neg hp]
    rcases put_code (n := n) (ca := ca) (wa := wa) (cl := cl) (c := (sgn d 40).1 &&& mk len) (w := (sgn d 40).2.1 &&& mk len) with ⟨h1, -⟩ | ⟨-, h1⟩
    · exact absurd h1 h
    · exact h1
theorem drop_same {n : Nat} {ca wa : Nat → Int64} {i : Int32} (h : (sDrop n ca wa i).1 ≠ 0) : (sDrop n ca wa i).2.1 = n ∧ (sDrop n ca wa i).2.2.1 = ca ∧ (sDrop n ca wa i).2.2.2 = wa := by
  unfold sDrop at h ⊢
  split at h
  · exact absurd rfl h
  · rename_i hp
    rw [if_neg hp]; exact ⟨rfl, rfl, rfl⟩
section IVL
variable {len n : Nat} {ca wa : Nat → Int64} {cl g : Int32} {z : ZT}
theorem iv_add (h : IV (len, n, ca, wa, cl, g, z)) (c w : Int64) {k : Int32} (hk : k = 0 ∨ (tAdd len n ca wa cl c w).1 ≠ 0 ∧ k = g) : IV (len, (tAdd len n ca wa cl c w).2.2.1, (tAdd len n ca wa cl c w).2.2.2.1, (tAdd len n ca wa cl c w).2.2.2.2.1, (tAdd len n ca wa cl c w).2.2.2.2.2, k, z) := by
  refine ⟨add_J h.1, ?_⟩
  rcases hk with rfl | ⟨h1, rfl⟩
  · exact Or.inl rfl
  · obtain ⟨e1, e2, e3⟩ := add_same h1
    show k = 0 ∨ k = 1 ∧ GT len (tAdd len n ca wa cl c w).2.2.1 (tAdd len n ca wa cl c w).2.2.2.1 (tAdd len n ca wa cl c w).2.2.2.2.1 z
    rw [e1, e2, e3]; exact h.2
theorem iv_signs (h : IV (len, n, ca, wa, cl, g, z)) (d : Int64) {k : Int32} (hk : k = 0 ∨ (tSigns len n ca wa cl d).1 ≠ 0 ∧ k = g) : IV (len, (tSigns len n ca wa cl d).2.2.1, (tSigns len n ca wa cl d).2.2.2.1, (tSigns len n ca wa cl d).2.2.2.2.1, (tSigns len n ca wa cl d).2.2.2.2.2, k, z) := by
  refine ⟨signs_J h.1, ?_⟩
  rcases hk with rfl | ⟨h1, rfl⟩
  · exact Or.inl rfl
  · obtain ⟨e1, e2, e3⟩ := signs_same h1
    show k = 0 ∨ k = 1 ∧ GT len (tSigns len n ca wa cl d).2.2.1 (tSigns len n ca wa cl d).2.2.2.1 (tSigns len n ca wa cl d).2.2.2.2.1 z
    rw [e1, e2, e3]; exact h.2
theorem iv_drop (h : IV (len, n, ca, wa, cl, g, z)) (i : Int32) {k : Int32} (hk : k = 0 ∨ (sDrop n ca wa i).1 ≠ 0 ∧ k = g) : IV (len, (sDrop n ca wa i).2.1, (sDrop n ca wa i).2.2.1, (sDrop n ca wa i).2.2.2, cl, k, z) := by
  refine ⟨drop_J h.1, ?_⟩
  rcases hk with rfl | ⟨h1, rfl⟩
  · exact Or.inl rfl
  · obtain ⟨e1, e2, e3⟩ := drop_same h1
    show k = 0 ∨ k = 1 ∧ GT len (sDrop n ca wa i).2.1 (sDrop n ca wa i).2.2.1 (sDrop n ca wa i).2.2.2 z
    rw [e1, e2, e3]; exact h.2
theorem iv_grown (h : IV (len, n, ca, wa, cl, g, z)) {y : ZT} (hy : GT len n ca wa y) : IV (len, n, ca, wa, cl, 1, y) := ⟨h.1, Or.inr ⟨rfl, hy⟩⟩
end IVL
theorem upd0 (f : Nat → Int64) (v : Int64) : vp_updL f 0 v 0 = v := by unfold vp_updL; rw [if_pos rfl]
set_option maxRecDepth 20000 in
theorem c_LW_clear (l : Launch) (D : va_G) (cI cL : ClassId) (h : Nat → Nat) (g cl : Int32) (len n : Nat) (ca wa : Nat → Int64) (z : ZT) (o : Nat) (f : Nat → Int64) (x : Int32) (hfl : l.flags = pinnedFlags ++ [noTraceFlag]) (hI : IV (len, n, ca, wa, cl, g, z)) : MT (S := LQ) l yy_LW_clear bb_LW_clear 3 (some .int) [(0, 5, 8, 13)] (rmX 8 2) D cI cL [.ref (h 0), .int x] ((o, .inl (cL, 1, .inr (.inl f))) :: wX cI cL h g cl len n ca wa z) (fun u => wL cI cL h o u) (pI (fun r u => r = (mClear len n cl 0 ca wa x).2.2.2.2.1 ∧ ∃ g1 z1, u.1 = ((mClear len n cl 0 ca wa x).1, (mClear len n cl 0 ca wa x).2.1, (mClear len n cl 0 ca wa x).2.2.2.2.2.1, (mClear len n cl 0 ca wa x).2.2.2.2.2.2, (mClear len n cl 0 ca wa x).2.2.1, g1, z1) ∧ IV u.1)) (nx) := by
  refine MT.mkI (by decide) (Nat.le_of_ble_eq_true rfl) ?_
  intro p e s m below meth c A Q B ret lv ls hl
  obtain ⟨hx, hb, hml, hown, hT, hK, hX, hSK, hA, hP, hD, hS, htab, hcode, hpl⟩ := B
  have hown : s.vm.findClass "PatternTreeLaw" = some m.cls := hown
  have hlen : len ≤ 64 := hI.1.1.2
  have hn : n ≤ 512 := hI.1.2.1
  have hg : g = 0 ∨ g = 1 ∧ GT len n ca wa z := hI.2
  have hl : lv_has ls 3 [(0, .ref (h 0)), (1, .int x)] := hl
  refine lv_aload_n hx hb dd_LW_clear_0 rfl (lv_at hl 0 rfl) ?_
  refine lv_iload_n hx hb dd_LW_clear_1 rfl (lv_at hl 1 rfl) ?_
  refine MT.callV (c_PT_clear l D cI cL h g cl len n ca wa z x hfl) vs_LW_7 ⟨hx, hb, hml, hown, hT⟩ ⟨hK, hX, hSK _ _ hS, hP, hD, hS, hA⟩ (⟨rfl, rfl, rfl, rfl, rfl, by decide⟩ : tq_J _ _ [(o, .inl (cL, 1, .inr (.inl f)))] [1, 2, 3, 4, 5, 6, 7, 8, 9] [0]) 0 rfl rfl (by decide) rfl hl.1 rfl (Nat.le_of_ble_eq_true rfl) dd_LW_clear_2 ⟨by decide, by decide⟩ (fun v u H locs hp hP hD hS => ?_) ?_
  · obtain ⟨rfl, hnx, rfl⟩ := hp
    have eC : (mClear len n cl 0 ca wa x) = (x.toNatClampNeg, 0, cl, 0, 0, ca, wa) := by unfold mClear; rw [if_pos hnx]
    refine lv_goto (tgt := 11) hx hb dd_LW_clear_5 (by decide) ?_
    refine lv_iconst (v := 0) hx hb dd_LW_clear_11 (by decide) ?_
    exact ret _ ((x.toNatClampNeg, 0, ca, wa, cl, 0, z), f) H locs _ _ 12 ls ⟨by rw [eC], 0, z, by rw [eC], clear_J (clampx hnx), Or.inl rfl⟩ hP hD hS (Nat.le_of_ble_eq_true rfl) (Nat.le_of_ble_eq_true rfl) rfl dd_LW_clear_12
  · intro x9 C9 u9 H locs hp hxf hP hD hS
    obtain ⟨rfl, hnx, rfl⟩ := hp
    have eC : (mClear len n cl 0 ca wa x) = (len, n, cl, 0, 1, ca, wa) := by unfold mClear; rw [if_neg hnx]
    refine tq_catch1 (own := "PatternTreeLaw") (C := tq_IAE) hcode hpl rfl hown htab ⟨Nat.le_of_ble_eq_true rfl, Nat.le_of_ble_eq_true rfl⟩ (by decide) (hT _ tw_128) (va_any rfl (hX.1 _ (List.mem_of_getElem? (i := 3) rfl))) hxf ?_
    show W p l e _ s m _ below meth c _ _ _ _ _ (F0 m 8 ls [.ref x9])
    refine lv_astore_n hx hb dd_LW_clear_8 rfl hl (by decide) rfl (fun ls hl => ?_)
    refine lv_iconst (v := 1) hx hb dd_LW_clear_9 (by decide) ?_
    exact ret _ ((len, n, ca, wa, cl, g, z), f) H locs _ _ 10 ls ⟨by rw [eC], g, z, by rw [eC], hI⟩ hP hD hS (Nat.le_of_ble_eq_true rfl) (Nat.le_of_ble_eq_true rfl) rfl dd_LW_clear_10
set_option maxRecDepth 20000 in
theorem c_LW_drop (l : Launch) (D : va_G) (cI cL : ClassId) (h : Nat → Nat) (g cl : Int32) (len n : Nat) (ca wa : Nat → Int64) (z : ZT) (o : Nat) (f : Nat → Int64) (i : Int32) (hfl : l.flags = pinnedFlags ++ [noTraceFlag]) (hI : IV (len, n, ca, wa, cl, g, z)) : MT (S := LQ) l yy_LW_drop bb_LW_drop 3 (some .int) [(0, 5, 8, 28)] (rmX 8 2) D cI cL [.ref (h 0), .int i] ((o, .inl (cL, 1, .inr (.inl f))) :: wX cI cL h g cl len n ca wa z) (fun u => wL cI cL h o u) (pI (fun r u => r = (sDrop n ca wa i).1 ∧ ∃ g1 z1, u.1 = (len, (sDrop n ca wa i).2.1, (sDrop n ca wa i).2.2.1, (sDrop n ca wa i).2.2.2, cl, g1, z1) ∧ IV u.1)) (nx) := by
  refine MT.mkI (by decide) (Nat.le_of_ble_eq_true rfl) ?_
  intro p e s m below meth c A Q B ret lv ls hl
  obtain ⟨hx, hb, hml, hown, hT, hK, hX, hSK, hA, hP, hD, hS, htab, hcode, hpl⟩ := B
  have hown : s.vm.findClass "PatternTreeLaw" = some m.cls := hown
  have hlen : len ≤ 64 := hI.1.1.2
  have hn : n ≤ 512 := hI.1.2.1
  have hg : g = 0 ∨ g = 1 ∧ GT len n ca wa z := hI.2
  have hl : lv_has ls 3 [(0, .ref (h 0)), (1, .int i)] := hl
  refine lv_aload_n hx hb dd_LW_drop_0 rfl (lv_at hl 0 rfl) ?_
  refine lv_iload_n hx hb dd_LW_drop_1 rfl (lv_at hl 1 rfl) ?_
  refine MT.callV (c_PT_drop l D cI cL h g cl len n ca wa z i hfl hn) vs_LW_25 ⟨hx, hb, hml, hown, hT⟩ ⟨hK, hX, hSK _ _ hS, hP, hD, hS, hA⟩ (⟨rfl, rfl, rfl, rfl, rfl, by decide⟩ : tq_J _ _ [(o, .inl (cL, 1, .inr (.inl f)))] [1, 2, 3, 4, 5, 6, 7, 8, 9] [0]) 0 rfl rfl (by decide) rfl hl.1 rfl (Nat.le_of_ble_eq_true rfl) dd_LW_drop_2 ⟨by decide, by decide⟩ (fun v u H locs hp hP hD hS => ?_) ?_
  · obtain ⟨rfl, hc1, rfl⟩ := hp
    refine lv_goto (tgt := 11) hx hb dd_LW_drop_5 (by decide) ?_
    refine lv_iconst (v := 0) hx hb dd_LW_drop_11 (by decide) ?_
    exact ret _ ((len, (sDrop n ca wa i).2.1, (sDrop n ca wa i).2.2.1, (sDrop n ca wa i).2.2.2, cl, 0, z), f) H locs _ _ 12 ls ⟨hc1.symm, 0, z, rfl, iv_drop hI i (Or.inl rfl)⟩ hP hD hS (Nat.le_of_ble_eq_true rfl) (Nat.le_of_ble_eq_true rfl) rfl dd_LW_drop_12
  · intro x9 C9 u9 H locs hp hxf hP hD hS
    obtain ⟨rfl, hc1, rfl⟩ := hp
    refine tq_catch1 (own := "PatternTreeLaw") (C := tq_NSE) hcode hpl rfl hown htab ⟨Nat.le_of_ble_eq_true rfl, Nat.le_of_ble_eq_true rfl⟩ (by decide) (hT _ tw_251) (va_any rfl (hX.1 _ (List.mem_of_getElem? (i := 5) rfl))) hxf ?_
    show W p l e _ s m _ below meth c _ _ _ _ _ (F0 m 8 ls [.ref x9])
    refine lv_astore_n hx hb dd_LW_drop_8 rfl hl (by decide) rfl (fun ls hl => ?_)
    refine lv_iconst (v := 1) hx hb dd_LW_drop_9 (by decide) ?_
    exact ret _ ((len, (sDrop n ca wa i).2.1, (sDrop n ca wa i).2.2.1, (sDrop n ca wa i).2.2.2, cl, g, z), f) H locs _ _ 10 ls ⟨hc1.symm, g, z, rfl, iv_drop hI i (Or.inr ⟨by rw [hc1]; decide, rfl⟩)⟩ hP hD hS (Nat.le_of_ble_eq_true rfl) (Nat.le_of_ble_eq_true rfl) rfl dd_LW_drop_10
set_option maxRecDepth 20000 in
theorem c_LW_add (l : Launch) (D : va_G) (cI cL : ClassId) (h : Nat → Nat) (g cl : Int32) (len n : Nat) (ca wa : Nat → Int64) (z : ZT) (o : Nat) (f : Nat → Int64) (c0 w : Int64) (hfl : l.flags = pinnedFlags ++ [noTraceFlag]) (hI : IV (len, n, ca, wa, cl, g, z)) : MT (S := LQ) l yy_LW_add bb_LW_add 7 (some .int) [(0, 11, 14, 13), (0, 11, 18, 19)] (rmX 8 2) D cI cL [.ref (h 0), .long c0, .long w, .ref o] ((o, .inl (cL, 1, .inr (.inl f))) :: wX cI cL h g cl len n ca wa z) (fun u => wL cI cL h o u) (pI (fun r u => r = (tAdd len n ca wa cl c0 w).1 ∧ ((tAdd len n ca wa cl c0 w).1 = 0 → u.2 0 = (tAdd len n ca wa cl c0 w).2.1.toInt64) ∧ ∃ g1 z1, u.1 = (len, (tAdd len n ca wa cl c0 w).2.2.1, (tAdd len n ca wa cl c0 w).2.2.2.1, (tAdd len n ca wa cl c0 w).2.2.2.2.1, (tAdd len n ca wa cl c0 w).2.2.2.2.2, g1, z1) ∧ IV u.1)) (nx) := by
  refine MT.mkI (by decide) (Nat.le_of_ble_eq_true rfl) ?_
  intro p e s m below meth c A Q B ret lv ls hl
  obtain ⟨hx, hb, hml, hown, hT, hK, hX, hSK, hA, hP, hD, hS, htab, hcode, hpl⟩ := B
  have hown : s.vm.findClass "PatternTreeLaw" = some m.cls := hown
  have hlen : len ≤ 64 := hI.1.1.2
  have hn : n ≤ 512 := hI.1.2.1
  have hg : g = 0 ∨ g = 1 ∧ GT len n ca wa z := hI.2
  have hl : lv_has ls 7 [(0, .ref (h 0)), (1, .long c0), (3, .long w), (5, .ref o)] := hl
  refine lv_aload hx hb dd_LW_add_0 (lv_at hl 3 rfl) ?_
  refine lv_iconst (v := 0) hx hb dd_LW_add_2 (by decide) ?_
  refine lv_aload_n hx hb dd_LW_add_3 rfl (lv_at hl 0 rfl) ?_
  refine lv_lload_n hx hb dd_LW_add_4 rfl (lv_at hl 1 rfl) ?_
  refine lv_lload_n hx hb dd_LW_add_5 rfl (lv_at hl 2 rfl) ?_
  refine MT.callV (c_PT_add l D cI cL h g cl len n ca wa z c0 w hfl hlen hn) vs_LW_15 ⟨hx, hb, hml, hown, hT⟩ ⟨hK, hX, hSK _ _ hS, hP, hD, hS, hA⟩ (⟨rfl, rfl, rfl, rfl, rfl, by decide⟩ : tq_J _ _ [(o, .inl (cL, 1, .inr (.inl f)))] [1, 2, 3, 4, 5, 6, 7, 8, 9] [0]) 0 rfl rfl (by decide) rfl hl.1 rfl (Nat.le_of_ble_eq_true rfl) dd_LW_add_6 ⟨by decide, by decide⟩ (fun v u H locs hp hP hD hS => ?_) ?_
  · obtain ⟨r1, rfl, rfl, hc1, rfl⟩ := hp
    have hP : va_P D classes ((o, .inl (cL, 1, .inr (.inl f))) :: wPx cI cL h (len, (tAdd len n ca wa cl c0 w).2.2.1, (tAdd len n ca wa cl c0 w).2.2.2.1, (tAdd len n ca wa cl c0 w).2.2.2.2.1, (tAdd len n ca wa cl c0 w).2.2.2.2.2, 0, z)) H := hP
    have hD : va_D A ((o, .inl (cL, 1, .inr (.inl f))) :: wPx cI cL h (len, (tAdd len n ca wa cl c0 w).2.2.1, (tAdd len n ca wa cl c0 w).2.2.2.1, (tAdd len n ca wa cl c0 w).2.2.2.2.1, (tAdd len n ca wa cl c0 w).2.2.2.2.2, 0, z)) := hD
    refine lv_i2l hx hb dd_LW_add_9 rfl ?_
    refine tq_last (k := 0) hx hb hK hP hD hS 0 rfl (by decide) (by decide) dd_LW_add_10 (fun H locs hP hD hS => ?_)
    have hP : va_P D classes ((o, .inl (cL, 1, .inr (.inl (vp_updL f 0 (tAdd len n ca wa cl c0 w).2.1.toInt64)))) :: wPx cI cL h (len, (tAdd len n ca wa cl c0 w).2.2.1, (tAdd len n ca wa cl c0 w).2.2.2.1, (tAdd len n ca wa cl c0 w).2.2.2.2.1, (tAdd len n ca wa cl c0 w).2.2.2.2.2, 0, z)) H := hP
    have hD : va_D A ((o, .inl (cL, 1, .inr (.inl (vp_updL f 0 (tAdd len n ca wa cl c0 w).2.1.toInt64)))) :: wPx cI cL h (len, (tAdd len n ca wa cl c0 w).2.2.1, (tAdd len n ca wa cl c0 w).2.2.2.1, (tAdd len n ca wa cl c0 w).2.2.2.2.1, (tAdd len n ca wa cl c0 w).2.2.2.2.2, 0, z)) := hD
    refine lv_goto (tgt := 22) hx hb dd_LW_add_11 (by decide) ?_
    refine lv_iconst (v := 0) hx hb dd_LW_add_22 (by decide) ?_
    exact ret _ ((len, (tAdd len n ca wa cl c0 w).2.2.1, (tAdd len n ca wa cl c0 w).2.2.2.1, (tAdd len n ca wa cl c0 w).2.2.2.2.1, (tAdd len n ca wa cl c0 w).2.2.2.2.2, 0, z), (vp_updL f 0 (tAdd len n ca wa cl c0 w).2.1.toInt64)) H locs _ _ 23 ls ⟨hc1.symm, fun _ => upd0 f _, 0, z, rfl, iv_add hI c0 w (Or.inl rfl)⟩ hP hD hS (Nat.le_of_ble_eq_true rfl) (Nat.le_of_ble_eq_true rfl) rfl dd_LW_add_23
  · intro x9 C9 u9 H locs hp hxf hP hD hS
    obtain ⟨⟨rfl, hc1⟩ | ⟨rfl, hc1⟩, rfl⟩ := hp
    · refine tq_catch1 (own := "PatternTreeLaw") (C := tq_IAE) hcode hpl rfl hown htab ⟨Nat.le_of_ble_eq_true rfl, Nat.le_of_ble_eq_true rfl⟩ (by decide) (hT _ tw_128) (va_any rfl (hX.1 _ (List.mem_of_getElem? (i := 3) rfl))) hxf ?_
      show W p l e _ s m _ below meth c _ _ _ _ _ (F0 m 14 ls [.ref x9])
      refine lv_astore hx hb dd_LW_add_14 hl (by decide) rfl (fun ls hl => ?_)
      refine lv_iconst (v := 1) hx hb dd_LW_add_16 (by decide) ?_
      exact ret _ ((len, (tAdd len n ca wa cl c0 w).2.2.1, (tAdd len n ca wa cl c0 w).2.2.2.1, (tAdd len n ca wa cl c0 w).2.2.2.2.1, (tAdd len n ca wa cl c0 w).2.2.2.2.2, g, z), f) H locs _ _ 17 ls ⟨hc1.symm, fun h8 => absurd (h8.symm.trans hc1) (by decide), g, z, rfl, iv_add hI c0 w (Or.inr ⟨by rw [hc1]; decide, rfl⟩)⟩ hP hD hS (Nat.le_of_ble_eq_true rfl) (Nat.le_of_ble_eq_true rfl) rfl dd_LW_add_17
    · refine tq_catch2 (own := "PatternTreeLaw") (C := tq_ISE) (N := tq_IAE) hcode hpl rfl hown htab ⟨Nat.le_of_ble_eq_true rfl, Nat.le_of_ble_eq_true rfl⟩ (by decide) ⟨Nat.le_of_ble_eq_true rfl, Nat.le_of_ble_eq_true rfl⟩ (by decide) (hT _ tw_128) hX.2.2.1 (hT _ tw_202) (va_any rfl (hX.1 _ (List.mem_of_getElem? (i := 4) rfl))) hxf ?_
      show W p l e _ s m _ below meth c _ _ _ _ _ (F0 m 18 ls [.ref x9])
      refine lv_astore hx hb dd_LW_add_18 hl (by decide) rfl (fun ls hl => ?_)
      refine lv_iconst (v := 2) hx hb dd_LW_add_20 (by decide) ?_
      exact ret _ ((len, (tAdd len n ca wa cl c0 w).2.2.1, (tAdd len n ca wa cl c0 w).2.2.2.1, (tAdd len n ca wa cl c0 w).2.2.2.2.1, (tAdd len n ca wa cl c0 w).2.2.2.2.2, g, z), f) H locs _ _ 21 ls ⟨hc1.symm, fun h8 => absurd (h8.symm.trans hc1) (by decide), g, z, rfl, iv_add hI c0 w (Or.inr ⟨by rw [hc1]; decide, rfl⟩)⟩ hP hD hS (Nat.le_of_ble_eq_true rfl) (Nat.le_of_ble_eq_true rfl) rfl dd_LW_add_21
set_option maxRecDepth 20000 in
theorem c_LW_signs (l : Launch) (D : va_G) (cI cL : ClassId) (h : Nat → Nat) (g cl : Int32) (len n : Nat) (ca wa : Nat → Int64) (z : ZT) (o : Nat) (f : Nat → Int64) (d : Int64) (hfl : l.flags = pinnedFlags ++ [noTraceFlag]) (hI : IV (len, n, ca, wa, cl, g, z)) : MT (S := LQ) l yy_LW_signs bb_LW_signs 5 (some .int) [(0, 9, 12, 13), (0, 9, 16, 19)] (rmX 8 2) D cI cL [.ref (h 0), .long d, .ref o] ((o, .inl (cL, 1, .inr (.inl f))) :: wX cI cL h g cl len n ca wa z) (fun u => wL cI cL h o u) (pI (fun r u => r = (tSigns len n ca wa cl d).1 ∧ ((tSigns len n ca wa cl d).1 = 0 → u.2 0 = (tSigns len n ca wa cl d).2.1.toInt64) ∧ ∃ g1 z1, u.1 = (len, (tSigns len n ca wa cl d).2.2.1, (tSigns len n ca wa cl d).2.2.2.1, (tSigns len n ca wa cl d).2.2.2.2.1, (tSigns len n ca wa cl d).2.2.2.2.2, g1, z1) ∧ IV u.1)) (nx) := by
  refine MT.mkI (by decide) (Nat.le_of_ble_eq_true rfl) ?_
  intro p e s m below meth c A Q B ret lv ls hl
  obtain ⟨hx, hb, hml, hown, hT, hK, hX, hSK, hA, hP, hD, hS, htab, hcode, hpl⟩ := B
  have hown : s.vm.findClass "PatternTreeLaw" = some m.cls := hown
  have hlen : len ≤ 64 := hI.1.1.2
  have hn : n ≤ 512 := hI.1.2.1
  have hg : g = 0 ∨ g = 1 ∧ GT len n ca wa z := hI.2
  have hl : lv_has ls 5 [(0, .ref (h 0)), (1, .long d), (3, .ref o)] := hl
  refine lv_aload_n hx hb dd_LW_signs_0 rfl (lv_at hl 2 rfl) ?_
  refine lv_iconst (v := 0) hx hb dd_LW_signs_1 (by decide) ?_
  refine lv_aload_n hx hb dd_LW_signs_2 rfl (lv_at hl 0 rfl) ?_
  refine lv_lload_n hx hb dd_LW_signs_3 rfl (lv_at hl 1 rfl) ?_
  refine MT.callV (c_PT_signs l D cI cL h g cl len n ca wa z d hfl hlen hn) vs_LW_21 ⟨hx, hb, hml, hown, hT⟩ ⟨hK, hX, hSK _ _ hS, hP, hD, hS, hA⟩ (⟨rfl, rfl, rfl, rfl, rfl, by decide⟩ : tq_J _ _ [(o, .inl (cL, 1, .inr (.inl f)))] [1, 2, 3, 4, 5, 6, 7, 8, 9] [0]) 0 rfl rfl (by decide) rfl hl.1 rfl (Nat.le_of_ble_eq_true rfl) dd_LW_signs_4 ⟨by decide, by decide⟩ (fun v u H locs hp hP hD hS => ?_) ?_
  · obtain ⟨r1, rfl, rfl, hc1, rfl⟩ := hp
    have hP : va_P D classes ((o, .inl (cL, 1, .inr (.inl f))) :: wPx cI cL h (len, (tSigns len n ca wa cl d).2.2.1, (tSigns len n ca wa cl d).2.2.2.1, (tSigns len n ca wa cl d).2.2.2.2.1, (tSigns len n ca wa cl d).2.2.2.2.2, 0, z)) H := hP
    have hD : va_D A ((o, .inl (cL, 1, .inr (.inl f))) :: wPx cI cL h (len, (tSigns len n ca wa cl d).2.2.1, (tSigns len n ca wa cl d).2.2.2.1, (tSigns len n ca wa cl d).2.2.2.2.1, (tSigns len n ca wa cl d).2.2.2.2.2, 0, z)) := hD
    refine lv_i2l hx hb dd_LW_signs_7 rfl ?_
    refine tq_last (k := 0) hx hb hK hP hD hS 0 rfl (by decide) (by decide) dd_LW_signs_8 (fun H locs hP hD hS => ?_)
    have hP : va_P D classes ((o, .inl (cL, 1, .inr (.inl (vp_updL f 0 (tSigns len n ca wa cl d).2.1.toInt64)))) :: wPx cI cL h (len, (tSigns len n ca wa cl d).2.2.1, (tSigns len n ca wa cl d).2.2.2.1, (tSigns len n ca wa cl d).2.2.2.2.1, (tSigns len n ca wa cl d).2.2.2.2.2, 0, z)) H := hP
    have hD : va_D A ((o, .inl (cL, 1, .inr (.inl (vp_updL f 0 (tSigns len n ca wa cl d).2.1.toInt64)))) :: wPx cI cL h (len, (tSigns len n ca wa cl d).2.2.1, (tSigns len n ca wa cl d).2.2.2.1, (tSigns len n ca wa cl d).2.2.2.2.1, (tSigns len n ca wa cl d).2.2.2.2.2, 0, z)) := hD
    refine lv_goto (tgt := 20) hx hb dd_LW_signs_9 (by decide) ?_
    refine lv_iconst (v := 0) hx hb dd_LW_signs_20 (by decide) ?_
    exact ret _ ((len, (tSigns len n ca wa cl d).2.2.1, (tSigns len n ca wa cl d).2.2.2.1, (tSigns len n ca wa cl d).2.2.2.2.1, (tSigns len n ca wa cl d).2.2.2.2.2, 0, z), (vp_updL f 0 (tSigns len n ca wa cl d).2.1.toInt64)) H locs _ _ 21 ls ⟨hc1.symm, fun _ => upd0 f _, 0, z, rfl, iv_signs hI d (Or.inl rfl)⟩ hP hD hS (Nat.le_of_ble_eq_true rfl) (Nat.le_of_ble_eq_true rfl) rfl dd_LW_signs_21
  · intro x9 C9 u9 H locs hp hxf hP hD hS
    obtain ⟨⟨rfl, hc1⟩ | ⟨rfl, hc1⟩, rfl⟩ := hp
    · refine tq_catch1 (own := "PatternTreeLaw") (C := tq_IAE) hcode hpl rfl hown htab ⟨Nat.le_of_ble_eq_true rfl, Nat.le_of_ble_eq_true rfl⟩ (by decide) (hT _ tw_128) (va_any rfl (hX.1 _ (List.mem_of_getElem? (i := 3) rfl))) hxf ?_
      show W p l e _ s m _ below meth c _ _ _ _ _ (F0 m 12 ls [.ref x9])
      refine lv_astore hx hb dd_LW_signs_12 hl (by decide) rfl (fun ls hl => ?_)
      refine lv_iconst (v := 1) hx hb dd_LW_signs_14 (by decide) ?_
      exact ret _ ((len, (tSigns len n ca wa cl d).2.2.1, (tSigns len n ca wa cl d).2.2.2.1, (tSigns len n ca wa cl d).2.2.2.2.1, (tSigns len n ca wa cl d).2.2.2.2.2, g, z), f) H locs _ _ 15 ls ⟨hc1.symm, fun h8 => absurd (h8.symm.trans hc1) (by decide), g, z, rfl, iv_signs hI d (Or.inr ⟨by rw [hc1]; decide, rfl⟩)⟩ hP hD hS (Nat.le_of_ble_eq_true rfl) (Nat.le_of_ble_eq_true rfl) rfl dd_LW_signs_15
    · refine tq_catch2 (own := "PatternTreeLaw") (C := tq_ISE) (N := tq_IAE) hcode hpl rfl hown htab ⟨Nat.le_of_ble_eq_true rfl, Nat.le_of_ble_eq_true rfl⟩ (by decide) ⟨Nat.le_of_ble_eq_true rfl, Nat.le_of_ble_eq_true rfl⟩ (by decide) (hT _ tw_128) hX.2.2.1 (hT _ tw_202) (va_any rfl (hX.1 _ (List.mem_of_getElem? (i := 4) rfl))) hxf ?_
      show W p l e _ s m _ below meth c _ _ _ _ _ (F0 m 16 ls [.ref x9])
      refine lv_astore hx hb dd_LW_signs_16 hl (by decide) rfl (fun ls hl => ?_)
      refine lv_iconst (v := 2) hx hb dd_LW_signs_18 (by decide) ?_
      exact ret _ ((len, (tSigns len n ca wa cl d).2.2.1, (tSigns len n ca wa cl d).2.2.2.1, (tSigns len n ca wa cl d).2.2.2.2.1, (tSigns len n ca wa cl d).2.2.2.2.2, g, z), f) H locs _ _ 19 ls ⟨hc1.symm, fun h8 => absurd (h8.symm.trans hc1) (by decide), g, z, rfl, iv_signs hI d (Or.inr ⟨by rw [hc1]; decide, rfl⟩)⟩ hP hD hS (Nat.le_of_ble_eq_true rfl) (Nat.le_of_ble_eq_true rfl) rfl dd_LW_signs_19
set_option maxRecDepth 20000 in
theorem c_LW_meets (l : Launch) (D : va_G) (cI cL : ClassId) (h : Nat → Nat) (g cl : Int32) (len n : Nat) (ca wa : Nat → Int64) (z : ZT) (o : Nat) (f : Nat → Int64) (c0 w : Int64) (hfl : l.flags = pinnedFlags ++ [noTraceFlag]) (hI : IV (len, n, ca, wa, cl, g, z)) : MT (S := LQ) l yy_LW_meets bb_LW_meets 7 (some .int) [(0, 11, 14, 13)] (rmX 8 2) D cI cL [.ref (h 0), .long c0, .long w, .ref o] ((o, .inl (cL, 1, .inr (.inl f))) :: wX cI cL h g cl len n ca wa z) (fun u => wL cI cL h o u) (pI (fun r u => r = (if isP len c0 w then (0 : Int32) else 1) ∧ ((if isP len c0 w then (0 : Int32) else 1) = 0 → u.2 0 = (ff (csh ca wa (c0 &&& mk len) (w &&& mk len)) n).toInt64) ∧ ∃ g1 z1, u.1 = (len, n, ca, wa, cl, g1, z1) ∧ IV u.1)) (nx) := by
  refine MT.mkI (by decide) (Nat.le_of_ble_eq_true rfl) ?_
  intro p e s m below meth c A Q B ret lv ls hl
  obtain ⟨hx, hb, hml, hown, hT, hK, hX, hSK, hA, hP, hD, hS, htab, hcode, hpl⟩ := B
  have hown : s.vm.findClass "PatternTreeLaw" = some m.cls := hown
  have hlen : len ≤ 64 := hI.1.1.2
  have hn : n ≤ 512 := hI.1.2.1
  have hg : g = 0 ∨ g = 1 ∧ GT len n ca wa z := hI.2
  have hl : lv_has ls 7 [(0, .ref (h 0)), (1, .long c0), (3, .long w), (5, .ref o)] := hl
  refine lv_aload hx hb dd_LW_meets_0 (lv_at hl 3 rfl) ?_
  refine lv_iconst (v := 0) hx hb dd_LW_meets_2 (by decide) ?_
  refine lv_aload_n hx hb dd_LW_meets_3 rfl (lv_at hl 0 rfl) ?_
  refine lv_lload_n hx hb dd_LW_meets_4 rfl (lv_at hl 1 rfl) ?_
  refine lv_lload_n hx hb dd_LW_meets_5 rfl (lv_at hl 2 rfl) ?_
  refine MT.callV (c_PT_meets l D cI cL h g cl len n ca wa z c0 w hfl hlen hn) vs_LW_30 ⟨hx, hb, hml, hown, hT⟩ ⟨hK, hX, hSK _ _ hS, hP, hD, hS, hA⟩ (⟨rfl, rfl, rfl, rfl, rfl, by decide⟩ : tq_J _ _ [(o, .inl (cL, 1, .inr (.inl f)))] [1, 2, 3, 4, 5, 6, 7, 8, 9] [0]) 0 rfl rfl (by decide) rfl hl.1 rfl (Nat.le_of_ble_eq_true rfl) dd_LW_meets_6 ⟨by decide, by decide⟩ (fun v u H locs hp hP hD hS => ?_) ?_
  · obtain ⟨r1, rfl, rfl, hc1, rfl⟩ := hp
    have e1 : (if isP len c0 w then (0 : Int32) else 1) = 0 := by rw [if_pos hc1]
    have hP : va_P D classes ((o, .inl (cL, 1, .inr (.inl f))) :: wX cI cL h g cl len n ca wa z) H := hP
    have hD : va_D A ((o, .inl (cL, 1, .inr (.inl f))) :: wX cI cL h g cl len n ca wa z) := hD
    refine lv_i2l hx hb dd_LW_meets_9 rfl ?_
    refine tq_last (k := 0) hx hb hK hP hD hS 0 rfl (by decide) (by decide) dd_LW_meets_10 (fun H locs hP hD hS => ?_)
    have hP : va_P D classes ((o, .inl (cL, 1, .inr (.inl (vp_updL f 0 (ff (csh ca wa (c0 &&& mk len) (w &&& mk len)) n).toInt64)))) :: wX cI cL h g cl len n ca wa z) H := hP
    have hD : va_D A ((o, .inl (cL, 1, .inr (.inl (vp_updL f 0 (ff (csh ca wa (c0 &&& mk len) (w &&& mk len)) n).toInt64)))) :: wX cI cL h g cl len n ca wa z) := hD
    refine lv_goto (tgt := 18) hx hb dd_LW_meets_11 (by decide) ?_
    refine lv_iconst (v := 0) hx hb dd_LW_meets_18 (by decide) ?_
    exact ret _ ((len, n, ca, wa, cl, g, z), (vp_updL f 0 (ff (csh ca wa (c0 &&& mk len) (w &&& mk len)) n).toInt64)) H locs _ _ 19 ls ⟨e1.symm, fun _ => upd0 f _, g, z, rfl, hI⟩ hP hD hS (Nat.le_of_ble_eq_true rfl) (Nat.le_of_ble_eq_true rfl) rfl dd_LW_meets_19
  · intro x9 C9 u9 H locs hp hxf hP hD hS
    obtain ⟨rfl, hc1, rfl⟩ := hp
    have e1 : (if isP len c0 w then (0 : Int32) else 1) = 1 := by rw [if_neg (by rw [hc1]; decide)]
    refine tq_catch1 (own := "PatternTreeLaw") (C := tq_IAE) hcode hpl rfl hown htab ⟨Nat.le_of_ble_eq_true rfl, Nat.le_of_ble_eq_true rfl⟩ (by decide) (hT _ tw_128) (va_any rfl (hX.1 _ (List.mem_of_getElem? (i := 3) rfl))) hxf ?_
    show W p l e _ s m _ below meth c _ _ _ _ _ (F0 m 14 ls [.ref x9])
    refine lv_astore hx hb dd_LW_meets_14 hl (by decide) rfl (fun ls hl => ?_)
    refine lv_iconst (v := 1) hx hb dd_LW_meets_16 (by decide) ?_
    exact ret _ ((len, n, ca, wa, cl, g, z), f) H locs _ _ 17 ls ⟨e1.symm, fun h8 => absurd (h8.symm.trans e1) (by decide), g, z, rfl, hI⟩ hP hD hS (Nat.le_of_ble_eq_true rfl) (Nat.le_of_ble_eq_true rfl) rfl dd_LW_meets_17
set_option maxRecDepth 20000 in
theorem c_LW_free (l : Launch) (D : va_G) (cI cL : ClassId) (h : Nat → Nat) (g cl : Int32) (len n : Nat) (ca wa : Nat → Int64) (z : ZT) (o : Nat) (f : Nat → Int64) (c0 w : Int64) (hfl : l.flags = pinnedFlags ++ [noTraceFlag]) (hI : IV (len, n, ca, wa, cl, g, z)) : MT (S := LQ) l yy_LW_free bb_LW_free 7 (some .int) [(0, 10, 13, 13)] (rmX 8 2) D cI cL [.ref (h 0), .long c0, .long w, .ref o] ((o, .inl (cL, 1, .inr (.inl f))) :: wX cI cL h g cl len n ca wa z) (fun u => wL cI cL h o u) (pI (fun r u => r = (if isP len c0 w then (0 : Int32) else 1) ∧ ((if isP len c0 w then (0 : Int32) else 1) = 0 → u.2 0 = (popen len n ca wa (c0 &&& mk len) (w &&& mk len))) ∧ ∃ g1 z1, u.1 = (len, n, ca, wa, cl, g1, z1) ∧ IV u.1)) (nx) := by
  refine MT.mkI (by decide) (Nat.le_of_ble_eq_true rfl) ?_
  intro p e s m below meth c A Q B ret lv ls hl
  obtain ⟨hx, hb, hml, hown, hT, hK, hX, hSK, hA, hP, hD, hS, htab, hcode, hpl⟩ := B
  have hown : s.vm.findClass "PatternTreeLaw" = some m.cls := hown
  have hlen : len ≤ 64 := hI.1.1.2
  have hn : n ≤ 512 := hI.1.2.1
  have hg : g = 0 ∨ g = 1 ∧ GT len n ca wa z := hI.2
  have hl : lv_has ls 7 [(0, .ref (h 0)), (1, .long c0), (3, .long w), (5, .ref o)] := hl
  refine lv_aload hx hb dd_LW_free_0 (lv_at hl 3 rfl) ?_
  refine lv_iconst (v := 0) hx hb dd_LW_free_2 (by decide) ?_
  refine lv_aload_n hx hb dd_LW_free_3 rfl (lv_at hl 0 rfl) ?_
  refine lv_lload_n hx hb dd_LW_free_4 rfl (lv_at hl 1 rfl) ?_
  refine lv_lload_n hx hb dd_LW_free_5 rfl (lv_at hl 2 rfl) ?_
  refine MT.callV (c_PT_free l D cI cL h g cl len n ca wa z c0 w hfl hlen hn) vs_LW_33 ⟨hx, hb, hml, hown, hT⟩ ⟨hK, hX, hSK _ _ hS, hP, hD, hS, hA⟩ (⟨rfl, rfl, rfl, rfl, rfl, by decide⟩ : tq_J _ _ [(o, .inl (cL, 1, .inr (.inl f)))] [1, 2, 3, 4, 5, 6, 7, 8, 9] [0]) 0 rfl rfl (by decide) rfl hl.1 rfl (Nat.le_of_ble_eq_true rfl) dd_LW_free_6 ⟨by decide, by decide⟩ (fun v u H locs hp hP hD hS => ?_) ?_
  · obtain ⟨r1, rfl, rfl, hc1, rfl⟩ := hp
    have e1 : (if isP len c0 w then (0 : Int32) else 1) = 0 := by rw [if_pos hc1]
    have hP : va_P D classes ((o, .inl (cL, 1, .inr (.inl f))) :: wX cI cL h g cl len n ca wa z) H := hP
    have hD : va_D A ((o, .inl (cL, 1, .inr (.inl f))) :: wX cI cL h g cl len n ca wa z) := hD
    refine tq_last (k := 0) hx hb hK hP hD hS 0 rfl (by decide) (by decide) dd_LW_free_9 (fun H locs hP hD hS => ?_)
    have hP : va_P D classes ((o, .inl (cL, 1, .inr (.inl (vp_updL f 0 (popen len n ca wa (c0 &&& mk len) (w &&& mk len)))))) :: wX cI cL h g cl len n ca wa z) H := hP
    have hD : va_D A ((o, .inl (cL, 1, .inr (.inl (vp_updL f 0 (popen len n ca wa (c0 &&& mk len) (w &&& mk len)))))) :: wX cI cL h g cl len n ca wa z) := hD
    refine lv_goto (tgt := 17) hx hb dd_LW_free_10 (by decide) ?_
    refine lv_iconst (v := 0) hx hb dd_LW_free_17 (by decide) ?_
    exact ret _ ((len, n, ca, wa, cl, g, z), (vp_updL f 0 (popen len n ca wa (c0 &&& mk len) (w &&& mk len)))) H locs _ _ 18 ls ⟨e1.symm, fun _ => upd0 f _, g, z, rfl, hI⟩ hP hD hS (Nat.le_of_ble_eq_true rfl) (Nat.le_of_ble_eq_true rfl) rfl dd_LW_free_18
  · intro x9 C9 u9 H locs hp hxf hP hD hS
    obtain ⟨rfl, hc1, rfl⟩ := hp
    have e1 : (if isP len c0 w then (0 : Int32) else 1) = 1 := by rw [if_neg (by rw [hc1]; decide)]
    refine tq_catch1 (own := "PatternTreeLaw") (C := tq_IAE) hcode hpl rfl hown htab ⟨Nat.le_of_ble_eq_true rfl, Nat.le_of_ble_eq_true rfl⟩ (by decide) (hT _ tw_128) (va_any rfl (hX.1 _ (List.mem_of_getElem? (i := 3) rfl))) hxf ?_
    show W p l e _ s m _ below meth c _ _ _ _ _ (F0 m 13 ls [.ref x9])
    refine lv_astore hx hb dd_LW_free_13 hl (by decide) rfl (fun ls hl => ?_)
    refine lv_iconst (v := 1) hx hb dd_LW_free_15 (by decide) ?_
    exact ret _ ((len, n, ca, wa, cl, g, z), f) H locs _ _ 16 ls ⟨e1.symm, fun h8 => absurd (h8.symm.trans e1) (by decide), g, z, rfl, hI⟩ hP hD hS (Nat.le_of_ble_eq_true rfl) (Nat.le_of_ble_eq_true rfl) rfl dd_LW_free_16
set_option maxRecDepth 20000 in
theorem c_LW_next (l : Launch) (D : va_G) (cI cL : ClassId) (h : Nat → Nat) (g cl : Int32) (len n : Nat) (ca wa : Nat → Int64) (z : ZT) (o : Nat) (f : Nat → Int64) (w : Int64) (hfl : l.flags = pinnedFlags ++ [noTraceFlag]) (hI : IV (len, n, ca, wa, cl, g, z)) : MT (S := LQ) l yy_LW_next bb_LW_next 5 (some .int) [(0, 8, 11, 28)] (rmX 70 2) D cI cL [.ref (h 0), .long w, .ref o] ((o, .inl (cL, 1, .inr (.inl f))) :: wX cI cL h g cl len n ca wa z) (fun u => wL cI cL h o u) (pI (fun r u => r = (mNext len n ca wa w).1 ∧ ((mNext len n ca wa w).1 = 0 → u.2 0 = (mNext len n ca wa w).2) ∧ ∃ g1 z1, u.1 = (len, n, ca, wa, cl, g1, z1) ∧ IV u.1)) (nx) := by
  refine MT.mkI (by decide) (Nat.le_of_ble_eq_true rfl) ?_
  intro p e s m below meth c A Q B ret lv ls hl
  obtain ⟨hx, hb, hml, hown, hT, hK, hX, hSK, hA, hP, hD, hS, htab, hcode, hpl⟩ := B
  have hown : s.vm.findClass "PatternTreeLaw" = some m.cls := hown
  have hlen : len ≤ 64 := hI.1.1.2
  have hn : n ≤ 512 := hI.1.2.1
  have hg : g = 0 ∨ g = 1 ∧ GT len n ca wa z := hI.2
  have hl : lv_has ls 5 [(0, .ref (h 0)), (1, .long w), (3, .ref o)] := hl
  refine lv_aload_n hx hb dd_LW_next_0 rfl (lv_at hl 2 rfl) ?_
  refine lv_iconst (v := 0) hx hb dd_LW_next_1 (by decide) ?_
  refine lv_aload_n hx hb dd_LW_next_2 rfl (lv_at hl 0 rfl) ?_
  refine lv_lload_n hx hb dd_LW_next_3 rfl (lv_at hl 1 rfl) ?_
  refine MT.callV (c_PT_next l D cI cL h g cl len n ca wa z w hfl hlen hn hg) vs_LW_37 ⟨hx, hb, hml, hown, hT⟩ ⟨hK, hX, hSK _ _ hS, hP, hD, hS, hA⟩ (⟨rfl, rfl, rfl, rfl, rfl, by decide⟩ : tq_J _ _ [(o, .inl (cL, 1, .inr (.inl f)))] [1, 2, 3, 4, 5, 6, 7, 8, 9] [0]) 0 rfl rfl (by decide) rfl hl.1 rfl (Nat.le_of_ble_eq_true rfl) dd_LW_next_4 ⟨by decide, by decide⟩ (fun v u H locs hp hP hD hS => ?_) ?_
  · obtain ⟨r1, rfl, hr1, y, hy, rfl⟩ := hp
    have eM : mNext len n ca wa w = (0, r1) := by
      rcases hr1 with ⟨h1, rfl⟩ | ⟨h1, h2⟩
      · exact next_none hI.1 h1
      · exact next_some hI.1 h1 h2
    have hP : va_P D classes ((o, .inl (cL, 1, .inr (.inl f))) :: wX cI cL h 1 cl len n ca wa y) H := hP
    have hD : va_D A ((o, .inl (cL, 1, .inr (.inl f))) :: wX cI cL h 1 cl len n ca wa y) := hD
    refine tq_last (k := 0) hx hb hK hP hD hS 0 rfl (by decide) (by decide) dd_LW_next_7 (fun H locs hP hD hS => ?_)
    have hP : va_P D classes ((o, .inl (cL, 1, .inr (.inl (vp_updL f 0 r1)))) :: wX cI cL h 1 cl len n ca wa y) H := hP
    have hD : va_D A ((o, .inl (cL, 1, .inr (.inl (vp_updL f 0 r1)))) :: wX cI cL h 1 cl len n ca wa y) := hD
    refine lv_goto (tgt := 15) hx hb dd_LW_next_8 (by decide) ?_
    refine lv_iconst (v := 0) hx hb dd_LW_next_15 (by decide) ?_
    exact ret _ ((len, n, ca, wa, cl, 1, y), (vp_updL f 0 r1)) H locs _ _ 16 ls ⟨by rw [eM], fun _ => by rw [eM]; exact upd0 f _, 1, y, rfl, iv_grown hI hy⟩ hP hD hS (Nat.le_of_ble_eq_true rfl) (Nat.le_of_ble_eq_true rfl) rfl dd_LW_next_16
  · intro x9 C9 u9 H locs hp hxf hP hD hS
    obtain ⟨rfl, h1, h2, y, hy, rfl⟩ := hp
    have e1 := next_throw hI.1 h1 h2
    refine tq_catch1 (own := "PatternTreeLaw") (C := tq_NSE) hcode hpl rfl hown htab ⟨Nat.le_of_ble_eq_true rfl, Nat.le_of_ble_eq_true rfl⟩ (by decide) (hT _ tw_251) (va_any rfl (hX.1 _ (List.mem_of_getElem? (i := 5) rfl))) hxf ?_
    show W p l e _ s m _ below meth c _ _ _ _ _ (F0 m 11 ls [.ref x9])
    refine lv_astore hx hb dd_LW_next_11 hl (by decide) rfl (fun ls hl => ?_)
    refine lv_iconst (v := 1) hx hb dd_LW_next_13 (by decide) ?_
    exact ret _ ((len, n, ca, wa, cl, 1, y), f) H locs _ _ 14 ls ⟨e1.symm, fun h8 => absurd (h8.symm.trans e1) (by decide), 1, y, rfl, iv_grown hI hy⟩ hP hD hS (Nat.le_of_ble_eq_true rfl) (Nat.le_of_ble_eq_true rfl) rfl dd_LW_next_14
set_option maxRecDepth 20000 in
theorem c_LW_told (l : Launch) (D : va_G) (cI cL : ClassId) (h : Nat → Nat) (g cl : Int32) (len n : Nat) (ca wa : Nat → Int64) (z : ZT) (o : Nat) (f : Nat → Int64) (i what : Int32) (hfl : l.flags = pinnedFlags ++ [noTraceFlag]) (hI : IV (len, n, ca, wa, cl, g, z)) : MT (S := LQ) l yy_LW_told bb_LW_told 5 (some .int) [(0, 9, 12, 13), (0, 9, 16, 28)] (rmX 8 2) D cI cL [.ref (h 0), .int i, .int what, .ref o] ((o, .inl (cL, 1, .inr (.inl f))) :: wX cI cL h g cl len n ca wa z) (fun u => wL cI cL h o u) (pI (fun r u => r = (sTold len n ca wa i what).1 ∧ ((sTold len n ca wa i what).1 = 0 → u.2 0 = (sTold len n ca wa i what).2) ∧ ∃ g1 z1, u.1 = (len, n, ca, wa, cl, g1, z1) ∧ IV u.1)) (nx) := by
  refine MT.mkI (by decide) (Nat.le_of_ble_eq_true rfl) ?_
  intro p e s m below meth c A Q B ret lv ls hl
  obtain ⟨hx, hb, hml, hown, hT, hK, hX, hSK, hA, hP, hD, hS, htab, hcode, hpl⟩ := B
  have hown : s.vm.findClass "PatternTreeLaw" = some m.cls := hown
  have hlen : len ≤ 64 := hI.1.1.2
  have hn : n ≤ 512 := hI.1.2.1
  have hg : g = 0 ∨ g = 1 ∧ GT len n ca wa z := hI.2
  have hl : lv_has ls 5 [(0, .ref (h 0)), (1, .int i), (2, .int what), (3, .ref o)] := hl
  refine lv_aload_n hx hb dd_LW_told_0 rfl (lv_at hl 3 rfl) ?_
  refine lv_iconst (v := 0) hx hb dd_LW_told_1 (by decide) ?_
  refine lv_aload_n hx hb dd_LW_told_2 rfl (lv_at hl 0 rfl) ?_
  refine lv_iload_n hx hb dd_LW_told_3 rfl (lv_at hl 1 rfl) ?_
  refine lv_iload_n hx hb dd_LW_told_4 rfl (lv_at hl 2 rfl) ?_
  refine MT.callV (c_PT_told l D cI cL h g cl len n ca wa z i what hfl hlen hn) vs_LW_41 ⟨hx, hb, hml, hown, hT⟩ ⟨hK, hX, hSK _ _ hS, hP, hD, hS, hA⟩ (⟨rfl, rfl, rfl, rfl, rfl, by decide⟩ : tq_J _ _ [(o, .inl (cL, 1, .inr (.inl f)))] [1, 2, 3, 4, 5, 6, 7, 8, 9] [0]) 0 rfl rfl (by decide) rfl hl.1 rfl (Nat.le_of_ble_eq_true rfl) dd_LW_told_5 ⟨by decide, by decide⟩ (fun v u H locs hp hP hD hS => ?_) ?_
  · obtain ⟨r1, rfl, rfl, hc1, rfl⟩ := hp
    have hP : va_P D classes ((o, .inl (cL, 1, .inr (.inl f))) :: wX cI cL h g cl len n ca wa z) H := hP
    have hD : va_D A ((o, .inl (cL, 1, .inr (.inl f))) :: wX cI cL h g cl len n ca wa z) := hD
    refine tq_last (k := 0) hx hb hK hP hD hS 0 rfl (by decide) (by decide) dd_LW_told_8 (fun H locs hP hD hS => ?_)
    have hP : va_P D classes ((o, .inl (cL, 1, .inr (.inl (vp_updL f 0 (sTold len n ca wa i what).2)))) :: wX cI cL h g cl len n ca wa z) H := hP
    have hD : va_D A ((o, .inl (cL, 1, .inr (.inl (vp_updL f 0 (sTold len n ca wa i what).2)))) :: wX cI cL h g cl len n ca wa z) := hD
    refine lv_goto (tgt := 20) hx hb dd_LW_told_9 (by decide) ?_
    refine lv_iconst (v := 0) hx hb dd_LW_told_20 (by decide) ?_
    exact ret _ ((len, n, ca, wa, cl, g, z), (vp_updL f 0 (sTold len n ca wa i what).2)) H locs _ _ 21 ls ⟨hc1.symm, fun _ => upd0 f _, g, z, rfl, hI⟩ hP hD hS (Nat.le_of_ble_eq_true rfl) (Nat.le_of_ble_eq_true rfl) rfl dd_LW_told_21
  · intro x9 C9 u9 H locs hp hxf hP hD hS
    obtain ⟨⟨rfl, hc1⟩ | ⟨rfl, hc1⟩, rfl⟩ := hp
    · refine tq_catch1 (own := "PatternTreeLaw") (C := tq_IAE) hcode hpl rfl hown htab ⟨Nat.le_of_ble_eq_true rfl, Nat.le_of_ble_eq_true rfl⟩ (by decide) (hT _ tw_128) (va_any rfl (hX.1 _ (List.mem_of_getElem? (i := 3) rfl))) hxf ?_
      show W p l e _ s m _ below meth c _ _ _ _ _ (F0 m 12 ls [.ref x9])
      refine lv_astore hx hb dd_LW_told_12 hl (by decide) rfl (fun ls hl => ?_)
      refine lv_iconst (v := 1) hx hb dd_LW_told_14 (by decide) ?_
      exact ret _ ((len, n, ca, wa, cl, g, z), f) H locs _ _ 15 ls ⟨hc1.symm, fun h8 => absurd (h8.symm.trans hc1) (by decide), g, z, rfl, hI⟩ hP hD hS (Nat.le_of_ble_eq_true rfl) (Nat.le_of_ble_eq_true rfl) rfl dd_LW_told_15
    · refine tq_catch2 (own := "PatternTreeLaw") (C := tq_NSE) (N := tq_IAE) hcode hpl rfl hown htab ⟨Nat.le_of_ble_eq_true rfl, Nat.le_of_ble_eq_true rfl⟩ (by decide) ⟨Nat.le_of_ble_eq_true rfl, Nat.le_of_ble_eq_true rfl⟩ (by decide) (hT _ tw_128) hX.2.2.2.1 (hT _ tw_251) (va_any rfl (hX.1 _ (List.mem_of_getElem? (i := 5) rfl))) hxf ?_
      show W p l e _ s m _ below meth c _ _ _ _ _ (F0 m 16 ls [.ref x9])
      refine lv_astore hx hb dd_LW_told_16 hl (by decide) rfl (fun ls hl => ?_)
      refine lv_iconst (v := 2) hx hb dd_LW_told_18 (by decide) ?_
      exact ret _ ((len, n, ca, wa, cl, g, z), f) H locs _ _ 19 ls ⟨hc1.symm, fun h8 => absurd (h8.symm.trans hc1) (by decide), g, z, rfl, hI⟩ hP hD hS (Nat.le_of_ble_eq_true rfl) (Nat.le_of_ble_eq_true rfl) rfl dd_LW_told_19
end
section
abbrev bb_LW_law : ByteArray := code
theorem dd_LW_law_0 : decode code 0 = .ok (.new 8, 3) := by decide +kernel
theorem dd_LW_law_3 : decode code 3 = .ok (.dup, 1) := by decide +kernel
theorem dd_LW_law_4 : decode code 4 = .ok (.invokespecial 45, 3) := by decide +kernel
theorem dd_LW_law_7 : decode code 7 = .ok (.astore_n 1, 1) := by decide +kernel
theorem dd_LW_law_8 : decode code 8 = .ok (.new 46, 3) := by decide +kernel
theorem dd_LW_law_11 : decode code 11 = .ok (.dup, 1) := by decide +kernel
theorem dd_LW_law_12 : decode code 12 = .ok (.invokespecial 48, 3) := by decide +kernel
theorem dd_LW_law_15 : decode code 15 = .ok (.astore_n 2, 1) := by decide +kernel
theorem dd_LW_law_16 : decode code 16 = .ok (.iconst 1, 1) := by decide +kernel
theorem dd_LW_law_17 : decode code 17 = .ok (.newarray .long, 2) := by decide +kernel
theorem dd_LW_law_19 : decode code 19 = .ok (.astore_n 3, 1) := by decide +kernel
theorem dd_LW_law_20 : decode code 20 = .ok (.iconst 0, 1) := by decide +kernel
theorem dd_LW_law_21 : decode code 21 = .ok (.istore 4, 2) := by decide +kernel
theorem dd_LW_law_23 : decode code 23 = .ok (.iload 4, 2) := by decide +kernel
theorem dd_LW_law_25 : decode code 25 = .ok (.aload_n 0, 1) := by decide +kernel
theorem dd_LW_law_26 : decode code 26 = .ok (.arraylength, 1) := by decide +kernel
theorem dd_LW_law_27 : decode code 27 = .ok (.iconst 5, 1) := by decide +kernel
theorem dd_LW_law_28 : decode code 28 = .ok (.isub, 1) := by decide +kernel
theorem dd_LW_law_29 : decode code 29 = .ok (.if_icmp .gt 860, 3) := by decide +kernel
theorem dd_LW_law_32 : decode code 32 = .ok (.aload_n 0, 1) := by decide +kernel
theorem dd_LW_law_33 : decode code 33 = .ok (.iload 4, 2) := by decide +kernel
theorem dd_LW_law_35 : decode code 35 = .ok (.iaload, 1) := by decide +kernel
theorem dd_LW_law_36 : decode code 36 = .ok (.bipush 15, 2) := by decide +kernel
theorem dd_LW_law_38 : decode code 38 = .ok (.iand, 1) := by decide +kernel
theorem dd_LW_law_39 : decode code 39 = .ok (.tableswitch 844 0 9 #[53, 89, 221, 309, 345, 402, 534, 665, 752, 819], 53) := by decide +kernel
theorem dd_LW_law_92 : decode code 92 = .ok (.aload_n 1, 1) := by decide +kernel
theorem dd_LW_law_93 : decode code 93 = .ok (.aload_n 0, 1) := by decide +kernel
theorem dd_LW_law_94 : decode code 94 = .ok (.iload 4, 2) := by decide +kernel
theorem dd_LW_law_96 : decode code 96 = .ok (.iconst 1, 1) := by decide +kernel
theorem dd_LW_law_97 : decode code 97 = .ok (.iadd, 1) := by decide +kernel
theorem dd_LW_law_98 : decode code 98 = .ok (.iaload, 1) := by decide +kernel
theorem dd_LW_law_99 : decode code 99 = .ok (.invokestatic 49, 3) := by decide +kernel
theorem dd_LW_law_102 : decode code 102 = .ok (.istore 5, 2) := by decide +kernel
theorem dd_LW_law_104 : decode code 104 = .ok (.aload_n 2, 1) := by decide +kernel
theorem dd_LW_law_105 : decode code 105 = .ok (.aload_n 0, 1) := by decide +kernel
theorem dd_LW_law_106 : decode code 106 = .ok (.iload 4, 2) := by decide +kernel
theorem dd_LW_law_108 : decode code 108 = .ok (.iconst 1, 1) := by decide +kernel
theorem dd_LW_law_109 : decode code 109 = .ok (.iadd, 1) := by decide +kernel
theorem dd_LW_law_110 : decode code 110 = .ok (.iaload, 1) := by decide +kernel
theorem dd_LW_law_111 : decode code 111 = .ok (.invokevirtual 54, 3) := by decide +kernel
theorem dd_LW_law_114 : decode code 114 = .ok (.aload_n 2, 1) := by decide +kernel
theorem dd_LW_law_115 : decode code 115 = .ok (.invokevirtual 55, 3) := by decide +kernel
theorem dd_LW_law_118 : decode code 118 = .ok (.iload 5, 2) := by decide +kernel
theorem dd_LW_law_120 : decode code 120 = .ok (.if_icmp .eq 5, 3) := by decide +kernel
theorem dd_LW_law_123 : decode code 123 = .ok (.iconst 0, 1) := by decide +kernel
theorem dd_LW_law_124 : decode code 124 = .ok (.ireturn, 1) := by decide +kernel
theorem dd_LW_law_125 : decode code 125 = .ok (.goto 758, 3) := by decide +kernel
theorem dd_LW_law_128 : decode code 128 = .ok (.aload_n 1, 1) := by decide +kernel
theorem dd_LW_law_129 : decode code 129 = .ok (.aload_n 0, 1) := by decide +kernel
theorem dd_LW_law_130 : decode code 130 = .ok (.iload 4, 2) := by decide +kernel
theorem dd_LW_law_132 : decode code 132 = .ok (.iconst 1, 1) := by decide +kernel
theorem dd_LW_law_133 : decode code 133 = .ok (.iadd, 1) := by decide +kernel
theorem dd_LW_law_134 : decode code 134 = .ok (.iaload, 1) := by decide +kernel
theorem dd_LW_law_135 : decode code 135 = .ok (.i2l, 1) := by decide +kernel
theorem dd_LW_law_136 : decode code 136 = .ok (.bipush 32, 2) := by decide +kernel
theorem dd_LW_law_138 : decode code 138 = .ok (.lshl, 1) := by decide +kernel
theorem dd_LW_law_139 : decode code 139 = .ok (.aload_n 0, 1) := by decide +kernel
theorem dd_LW_law_140 : decode code 140 = .ok (.iload 4, 2) := by decide +kernel
theorem dd_LW_law_142 : decode code 142 = .ok (.iconst 2, 1) := by decide +kernel
theorem dd_LW_law_143 : decode code 143 = .ok (.iadd, 1) := by decide +kernel
theorem dd_LW_law_144 : decode code 144 = .ok (.iaload, 1) := by decide +kernel
theorem dd_LW_law_145 : decode code 145 = .ok (.i2l, 1) := by decide +kernel
theorem dd_LW_law_146 : decode code 146 = .ok (.ldc2_w 59, 3) := by decide +kernel
theorem dd_LW_law_149 : decode code 149 = .ok (.land, 1) := by decide +kernel
theorem dd_LW_law_150 : decode code 150 = .ok (.lor, 1) := by decide +kernel
theorem dd_LW_law_151 : decode code 151 = .ok (.aload_n 0, 1) := by decide +kernel
theorem dd_LW_law_152 : decode code 152 = .ok (.iload 4, 2) := by decide +kernel
theorem dd_LW_law_154 : decode code 154 = .ok (.iconst 3, 1) := by decide +kernel
theorem dd_LW_law_155 : decode code 155 = .ok (.iadd, 1) := by decide +kernel
theorem dd_LW_law_156 : decode code 156 = .ok (.iaload, 1) := by decide +kernel
theorem dd_LW_law_157 : decode code 157 = .ok (.i2l, 1) := by decide +kernel
theorem dd_LW_law_158 : decode code 158 = .ok (.bipush 32, 2) := by decide +kernel
theorem dd_LW_law_160 : decode code 160 = .ok (.lshl, 1) := by decide +kernel
theorem dd_LW_law_161 : decode code 161 = .ok (.aload_n 0, 1) := by decide +kernel
theorem dd_LW_law_162 : decode code 162 = .ok (.iload 4, 2) := by decide +kernel
theorem dd_LW_law_164 : decode code 164 = .ok (.iconst 4, 1) := by decide +kernel
theorem dd_LW_law_165 : decode code 165 = .ok (.iadd, 1) := by decide +kernel
theorem dd_LW_law_166 : decode code 166 = .ok (.iaload, 1) := by decide +kernel
theorem dd_LW_law_167 : decode code 167 = .ok (.i2l, 1) := by decide +kernel
theorem dd_LW_law_168 : decode code 168 = .ok (.ldc2_w 59, 3) := by decide +kernel
theorem dd_LW_law_171 : decode code 171 = .ok (.land, 1) := by decide +kernel
theorem dd_LW_law_172 : decode code 172 = .ok (.lor, 1) := by decide +kernel
theorem dd_LW_law_173 : decode code 173 = .ok (.aload_n 3, 1) := by decide +kernel
theorem dd_LW_law_174 : decode code 174 = .ok (.invokestatic 61, 3) := by decide +kernel
theorem dd_LW_law_177 : decode code 177 = .ok (.istore 5, 2) := by decide +kernel
theorem dd_LW_law_179 : decode code 179 = .ok (.aload_n 2, 1) := by decide +kernel
theorem dd_LW_law_180 : decode code 180 = .ok (.aload_n 0, 1) := by decide +kernel
theorem dd_LW_law_181 : decode code 181 = .ok (.iload 4, 2) := by decide +kernel
theorem dd_LW_law_183 : decode code 183 = .ok (.iconst 1, 1) := by decide +kernel
theorem dd_LW_law_184 : decode code 184 = .ok (.iadd, 1) := by decide +kernel
theorem dd_LW_law_185 : decode code 185 = .ok (.iaload, 1) := by decide +kernel
theorem dd_LW_law_186 : decode code 186 = .ok (.i2l, 1) := by decide +kernel
theorem dd_LW_law_187 : decode code 187 = .ok (.bipush 32, 2) := by decide +kernel
theorem dd_LW_law_189 : decode code 189 = .ok (.lshl, 1) := by decide +kernel
theorem dd_LW_law_190 : decode code 190 = .ok (.aload_n 0, 1) := by decide +kernel
theorem dd_LW_law_191 : decode code 191 = .ok (.iload 4, 2) := by decide +kernel
theorem dd_LW_law_193 : decode code 193 = .ok (.iconst 2, 1) := by decide +kernel
theorem dd_LW_law_194 : decode code 194 = .ok (.iadd, 1) := by decide +kernel
theorem dd_LW_law_195 : decode code 195 = .ok (.iaload, 1) := by decide +kernel
theorem dd_LW_law_196 : decode code 196 = .ok (.i2l, 1) := by decide +kernel
theorem dd_LW_law_197 : decode code 197 = .ok (.ldc2_w 59, 3) := by decide +kernel
theorem dd_LW_law_200 : decode code 200 = .ok (.land, 1) := by decide +kernel
theorem dd_LW_law_201 : decode code 201 = .ok (.lor, 1) := by decide +kernel
theorem dd_LW_law_202 : decode code 202 = .ok (.aload_n 0, 1) := by decide +kernel
theorem dd_LW_law_203 : decode code 203 = .ok (.iload 4, 2) := by decide +kernel
theorem dd_LW_law_205 : decode code 205 = .ok (.iconst 3, 1) := by decide +kernel
theorem dd_LW_law_206 : decode code 206 = .ok (.iadd, 1) := by decide +kernel
theorem dd_LW_law_207 : decode code 207 = .ok (.iaload, 1) := by decide +kernel
theorem dd_LW_law_208 : decode code 208 = .ok (.i2l, 1) := by decide +kernel
theorem dd_LW_law_209 : decode code 209 = .ok (.bipush 32, 2) := by decide +kernel
theorem dd_LW_law_211 : decode code 211 = .ok (.lshl, 1) := by decide +kernel
theorem dd_LW_law_212 : decode code 212 = .ok (.aload_n 0, 1) := by decide +kernel
theorem dd_LW_law_213 : decode code 213 = .ok (.iload 4, 2) := by decide +kernel
theorem dd_LW_law_215 : decode code 215 = .ok (.iconst 4, 1) := by decide +kernel
theorem dd_LW_law_216 : decode code 216 = .ok (.iadd, 1) := by decide +kernel
theorem dd_LW_law_217 : decode code 217 = .ok (.iaload, 1) := by decide +kernel
theorem dd_LW_law_218 : decode code 218 = .ok (.i2l, 1) := by decide +kernel
theorem dd_LW_law_219 : decode code 219 = .ok (.ldc2_w 59, 3) := by decide +kernel
theorem dd_LW_law_222 : decode code 222 = .ok (.land, 1) := by decide +kernel
theorem dd_LW_law_223 : decode code 223 = .ok (.lor, 1) := by decide +kernel
theorem dd_LW_law_224 : decode code 224 = .ok (.invokevirtual 64, 3) := by decide +kernel
theorem dd_LW_law_227 : decode code 227 = .ok (.istore 6, 2) := by decide +kernel
theorem dd_LW_law_229 : decode code 229 = .ok (.aload_n 2, 1) := by decide +kernel
theorem dd_LW_law_230 : decode code 230 = .ok (.invokevirtual 55, 3) := by decide +kernel
theorem dd_LW_law_233 : decode code 233 = .ok (.iload 5, 2) := by decide +kernel
theorem dd_LW_law_235 : decode code 235 = .ok (.if_icmp .eq 5, 3) := by decide +kernel
theorem dd_LW_law_238 : decode code 238 = .ok (.iconst 0, 1) := by decide +kernel
theorem dd_LW_law_239 : decode code 239 = .ok (.ireturn, 1) := by decide +kernel
theorem dd_LW_law_240 : decode code 240 = .ok (.iload 5, 2) := by decide +kernel
theorem dd_LW_law_242 : decode code 242 = .ok (.ifCond .ne 15, 3) := by decide +kernel
theorem dd_LW_law_245 : decode code 245 = .ok (.aload_n 3, 1) := by decide +kernel
theorem dd_LW_law_246 : decode code 246 = .ok (.iconst 0, 1) := by decide +kernel
theorem dd_LW_law_247 : decode code 247 = .ok (.laload, 1) := by decide +kernel
theorem dd_LW_law_248 : decode code 248 = .ok (.iload 6, 2) := by decide +kernel
theorem dd_LW_law_250 : decode code 250 = .ok (.i2l, 1) := by decide +kernel
theorem dd_LW_law_251 : decode code 251 = .ok (.lcmp, 1) := by decide +kernel
theorem dd_LW_law_252 : decode code 252 = .ok (.ifCond .eq 5, 3) := by decide +kernel
theorem dd_LW_law_255 : decode code 255 = .ok (.iconst 0, 1) := by decide +kernel
theorem dd_LW_law_256 : decode code 256 = .ok (.ireturn, 1) := by decide +kernel
theorem dd_LW_law_257 : decode code 257 = .ok (.goto 626, 3) := by decide +kernel
theorem dd_LW_law_260 : decode code 260 = .ok (.aload_n 1, 1) := by decide +kernel
theorem dd_LW_law_261 : decode code 261 = .ok (.aload_n 0, 1) := by decide +kernel
theorem dd_LW_law_262 : decode code 262 = .ok (.iload 4, 2) := by decide +kernel
theorem dd_LW_law_264 : decode code 264 = .ok (.iconst 1, 1) := by decide +kernel
theorem dd_LW_law_265 : decode code 265 = .ok (.iadd, 1) := by decide +kernel
theorem dd_LW_law_266 : decode code 266 = .ok (.iaload, 1) := by decide +kernel
theorem dd_LW_law_267 : decode code 267 = .ok (.i2l, 1) := by decide +kernel
theorem dd_LW_law_268 : decode code 268 = .ok (.bipush 32, 2) := by decide +kernel
theorem dd_LW_law_270 : decode code 270 = .ok (.lshl, 1) := by decide +kernel
theorem dd_LW_law_271 : decode code 271 = .ok (.aload_n 0, 1) := by decide +kernel
theorem dd_LW_law_272 : decode code 272 = .ok (.iload 4, 2) := by decide +kernel
theorem dd_LW_law_274 : decode code 274 = .ok (.iconst 2, 1) := by decide +kernel
theorem dd_LW_law_275 : decode code 275 = .ok (.iadd, 1) := by decide +kernel
theorem dd_LW_law_276 : decode code 276 = .ok (.iaload, 1) := by decide +kernel
theorem dd_LW_law_277 : decode code 277 = .ok (.i2l, 1) := by decide +kernel
theorem dd_LW_law_278 : decode code 278 = .ok (.ldc2_w 59, 3) := by decide +kernel
theorem dd_LW_law_281 : decode code 281 = .ok (.land, 1) := by decide +kernel
theorem dd_LW_law_282 : decode code 282 = .ok (.lor, 1) := by decide +kernel
theorem dd_LW_law_283 : decode code 283 = .ok (.aload_n 3, 1) := by decide +kernel
theorem dd_LW_law_284 : decode code 284 = .ok (.invokestatic 65, 3) := by decide +kernel
theorem dd_LW_law_287 : decode code 287 = .ok (.istore 5, 2) := by decide +kernel
theorem dd_LW_law_289 : decode code 289 = .ok (.aload_n 2, 1) := by decide +kernel
theorem dd_LW_law_290 : decode code 290 = .ok (.aload_n 0, 1) := by decide +kernel
theorem dd_LW_law_291 : decode code 291 = .ok (.iload 4, 2) := by decide +kernel
theorem dd_LW_law_293 : decode code 293 = .ok (.iconst 1, 1) := by decide +kernel
theorem dd_LW_law_294 : decode code 294 = .ok (.iadd, 1) := by decide +kernel
theorem dd_LW_law_295 : decode code 295 = .ok (.iaload, 1) := by decide +kernel
theorem dd_LW_law_296 : decode code 296 = .ok (.i2l, 1) := by decide +kernel
theorem dd_LW_law_297 : decode code 297 = .ok (.bipush 32, 2) := by decide +kernel
theorem dd_LW_law_299 : decode code 299 = .ok (.lshl, 1) := by decide +kernel
theorem dd_LW_law_300 : decode code 300 = .ok (.aload_n 0, 1) := by decide +kernel
theorem dd_LW_law_301 : decode code 301 = .ok (.iload 4, 2) := by decide +kernel
theorem dd_LW_law_303 : decode code 303 = .ok (.iconst 2, 1) := by decide +kernel
theorem dd_LW_law_304 : decode code 304 = .ok (.iadd, 1) := by decide +kernel
theorem dd_LW_law_305 : decode code 305 = .ok (.iaload, 1) := by decide +kernel
theorem dd_LW_law_306 : decode code 306 = .ok (.i2l, 1) := by decide +kernel
theorem dd_LW_law_307 : decode code 307 = .ok (.ldc2_w 59, 3) := by decide +kernel
theorem dd_LW_law_310 : decode code 310 = .ok (.land, 1) := by decide +kernel
theorem dd_LW_law_311 : decode code 311 = .ok (.lor, 1) := by decide +kernel
theorem dd_LW_law_312 : decode code 312 = .ok (.invokevirtual 68, 3) := by decide +kernel
theorem dd_LW_law_315 : decode code 315 = .ok (.istore 6, 2) := by decide +kernel
theorem dd_LW_law_317 : decode code 317 = .ok (.aload_n 2, 1) := by decide +kernel
theorem dd_LW_law_318 : decode code 318 = .ok (.invokevirtual 55, 3) := by decide +kernel
theorem dd_LW_law_321 : decode code 321 = .ok (.iload 5, 2) := by decide +kernel
theorem dd_LW_law_323 : decode code 323 = .ok (.if_icmp .eq 5, 3) := by decide +kernel
theorem dd_LW_law_326 : decode code 326 = .ok (.iconst 0, 1) := by decide +kernel
theorem dd_LW_law_327 : decode code 327 = .ok (.ireturn, 1) := by decide +kernel
theorem dd_LW_law_328 : decode code 328 = .ok (.iload 5, 2) := by decide +kernel
theorem dd_LW_law_330 : decode code 330 = .ok (.ifCond .ne 15, 3) := by decide +kernel
theorem dd_LW_law_333 : decode code 333 = .ok (.aload_n 3, 1) := by decide +kernel
theorem dd_LW_law_334 : decode code 334 = .ok (.iconst 0, 1) := by decide +kernel
theorem dd_LW_law_335 : decode code 335 = .ok (.laload, 1) := by decide +kernel
theorem dd_LW_law_336 : decode code 336 = .ok (.iload 6, 2) := by decide +kernel
theorem dd_LW_law_338 : decode code 338 = .ok (.i2l, 1) := by decide +kernel
theorem dd_LW_law_339 : decode code 339 = .ok (.lcmp, 1) := by decide +kernel
theorem dd_LW_law_340 : decode code 340 = .ok (.ifCond .eq 5, 3) := by decide +kernel
theorem dd_LW_law_343 : decode code 343 = .ok (.iconst 0, 1) := by decide +kernel
theorem dd_LW_law_344 : decode code 344 = .ok (.ireturn, 1) := by decide +kernel
theorem dd_LW_law_345 : decode code 345 = .ok (.goto 538, 3) := by decide +kernel
theorem dd_LW_law_348 : decode code 348 = .ok (.aload_n 1, 1) := by decide +kernel
theorem dd_LW_law_349 : decode code 349 = .ok (.aload_n 0, 1) := by decide +kernel
theorem dd_LW_law_350 : decode code 350 = .ok (.iload 4, 2) := by decide +kernel
theorem dd_LW_law_352 : decode code 352 = .ok (.iconst 1, 1) := by decide +kernel
theorem dd_LW_law_353 : decode code 353 = .ok (.iadd, 1) := by decide +kernel
theorem dd_LW_law_354 : decode code 354 = .ok (.iaload, 1) := by decide +kernel
theorem dd_LW_law_355 : decode code 355 = .ok (.invokestatic 69, 3) := by decide +kernel
theorem dd_LW_law_358 : decode code 358 = .ok (.istore 5, 2) := by decide +kernel
theorem dd_LW_law_360 : decode code 360 = .ok (.aload_n 2, 1) := by decide +kernel
theorem dd_LW_law_361 : decode code 361 = .ok (.aload_n 0, 1) := by decide +kernel
theorem dd_LW_law_362 : decode code 362 = .ok (.iload 4, 2) := by decide +kernel
theorem dd_LW_law_364 : decode code 364 = .ok (.iconst 1, 1) := by decide +kernel
theorem dd_LW_law_365 : decode code 365 = .ok (.iadd, 1) := by decide +kernel
theorem dd_LW_law_366 : decode code 366 = .ok (.iaload, 1) := by decide +kernel
theorem dd_LW_law_367 : decode code 367 = .ok (.invokevirtual 71, 3) := by decide +kernel
theorem dd_LW_law_370 : decode code 370 = .ok (.aload_n 2, 1) := by decide +kernel
theorem dd_LW_law_371 : decode code 371 = .ok (.invokevirtual 55, 3) := by decide +kernel
theorem dd_LW_law_374 : decode code 374 = .ok (.iload 5, 2) := by decide +kernel
theorem dd_LW_law_376 : decode code 376 = .ok (.if_icmp .eq 5, 3) := by decide +kernel
theorem dd_LW_law_379 : decode code 379 = .ok (.iconst 0, 1) := by decide +kernel
theorem dd_LW_law_380 : decode code 380 = .ok (.ireturn, 1) := by decide +kernel
theorem dd_LW_law_381 : decode code 381 = .ok (.goto 502, 3) := by decide +kernel
theorem dd_LW_law_384 : decode code 384 = .ok (.aload_n 1, 1) := by decide +kernel
theorem dd_LW_law_385 : decode code 385 = .ok (.aload_n 0, 1) := by decide +kernel
theorem dd_LW_law_386 : decode code 386 = .ok (.iload 4, 2) := by decide +kernel
theorem dd_LW_law_388 : decode code 388 = .ok (.iconst 1, 1) := by decide +kernel
theorem dd_LW_law_389 : decode code 389 = .ok (.iadd, 1) := by decide +kernel
theorem dd_LW_law_390 : decode code 390 = .ok (.iaload, 1) := by decide +kernel
theorem dd_LW_law_391 : decode code 391 = .ok (.i2l, 1) := by decide +kernel
theorem dd_LW_law_392 : decode code 392 = .ok (.bipush 32, 2) := by decide +kernel
theorem dd_LW_law_394 : decode code 394 = .ok (.lshl, 1) := by decide +kernel
theorem dd_LW_law_395 : decode code 395 = .ok (.aload_n 0, 1) := by decide +kernel
theorem dd_LW_law_396 : decode code 396 = .ok (.iload 4, 2) := by decide +kernel
theorem dd_LW_law_398 : decode code 398 = .ok (.iconst 2, 1) := by decide +kernel
theorem dd_LW_law_399 : decode code 399 = .ok (.iadd, 1) := by decide +kernel
theorem dd_LW_law_400 : decode code 400 = .ok (.iaload, 1) := by decide +kernel
theorem dd_LW_law_401 : decode code 401 = .ok (.i2l, 1) := by decide +kernel
theorem dd_LW_law_402 : decode code 402 = .ok (.ldc2_w 59, 3) := by decide +kernel
theorem dd_LW_law_405 : decode code 405 = .ok (.land, 1) := by decide +kernel
theorem dd_LW_law_406 : decode code 406 = .ok (.lor, 1) := by decide +kernel
theorem dd_LW_law_407 : decode code 407 = .ok (.invokevirtual 72, 3) := by decide +kernel
theorem dd_LW_law_410 : decode code 410 = .ok (.aload_n 2, 1) := by decide +kernel
theorem dd_LW_law_411 : decode code 411 = .ok (.aload_n 0, 1) := by decide +kernel
theorem dd_LW_law_412 : decode code 412 = .ok (.iload 4, 2) := by decide +kernel
theorem dd_LW_law_414 : decode code 414 = .ok (.iconst 1, 1) := by decide +kernel
theorem dd_LW_law_415 : decode code 415 = .ok (.iadd, 1) := by decide +kernel
theorem dd_LW_law_416 : decode code 416 = .ok (.iaload, 1) := by decide +kernel
theorem dd_LW_law_417 : decode code 417 = .ok (.i2l, 1) := by decide +kernel
theorem dd_LW_law_418 : decode code 418 = .ok (.bipush 32, 2) := by decide +kernel
theorem dd_LW_law_420 : decode code 420 = .ok (.lshl, 1) := by decide +kernel
theorem dd_LW_law_421 : decode code 421 = .ok (.aload_n 0, 1) := by decide +kernel
theorem dd_LW_law_422 : decode code 422 = .ok (.iload 4, 2) := by decide +kernel
theorem dd_LW_law_424 : decode code 424 = .ok (.iconst 2, 1) := by decide +kernel
theorem dd_LW_law_425 : decode code 425 = .ok (.iadd, 1) := by decide +kernel
theorem dd_LW_law_426 : decode code 426 = .ok (.iaload, 1) := by decide +kernel
theorem dd_LW_law_427 : decode code 427 = .ok (.i2l, 1) := by decide +kernel
theorem dd_LW_law_428 : decode code 428 = .ok (.ldc2_w 59, 3) := by decide +kernel
theorem dd_LW_law_431 : decode code 431 = .ok (.land, 1) := by decide +kernel
theorem dd_LW_law_432 : decode code 432 = .ok (.lor, 1) := by decide +kernel
theorem dd_LW_law_433 : decode code 433 = .ok (.invokevirtual 75, 3) := by decide +kernel
theorem dd_LW_law_436 : decode code 436 = .ok (.if_icmp .eq 447, 3) := by decide +kernel
theorem dd_LW_law_439 : decode code 439 = .ok (.iconst 0, 1) := by decide +kernel
theorem dd_LW_law_440 : decode code 440 = .ok (.ireturn, 1) := by decide +kernel
theorem dd_LW_law_441 : decode code 441 = .ok (.aload_n 1, 1) := by decide +kernel
theorem dd_LW_law_442 : decode code 442 = .ok (.aload_n 0, 1) := by decide +kernel
theorem dd_LW_law_443 : decode code 443 = .ok (.iload 4, 2) := by decide +kernel
theorem dd_LW_law_445 : decode code 445 = .ok (.iconst 1, 1) := by decide +kernel
theorem dd_LW_law_446 : decode code 446 = .ok (.iadd, 1) := by decide +kernel
theorem dd_LW_law_447 : decode code 447 = .ok (.iaload, 1) := by decide +kernel
theorem dd_LW_law_448 : decode code 448 = .ok (.i2l, 1) := by decide +kernel
theorem dd_LW_law_449 : decode code 449 = .ok (.bipush 32, 2) := by decide +kernel
theorem dd_LW_law_451 : decode code 451 = .ok (.lshl, 1) := by decide +kernel
theorem dd_LW_law_452 : decode code 452 = .ok (.aload_n 0, 1) := by decide +kernel
theorem dd_LW_law_453 : decode code 453 = .ok (.iload 4, 2) := by decide +kernel
theorem dd_LW_law_455 : decode code 455 = .ok (.iconst 2, 1) := by decide +kernel
theorem dd_LW_law_456 : decode code 456 = .ok (.iadd, 1) := by decide +kernel
theorem dd_LW_law_457 : decode code 457 = .ok (.iaload, 1) := by decide +kernel
theorem dd_LW_law_458 : decode code 458 = .ok (.i2l, 1) := by decide +kernel
theorem dd_LW_law_459 : decode code 459 = .ok (.ldc2_w 59, 3) := by decide +kernel
theorem dd_LW_law_462 : decode code 462 = .ok (.land, 1) := by decide +kernel
theorem dd_LW_law_463 : decode code 463 = .ok (.lor, 1) := by decide +kernel
theorem dd_LW_law_464 : decode code 464 = .ok (.aload_n 0, 1) := by decide +kernel
theorem dd_LW_law_465 : decode code 465 = .ok (.iload 4, 2) := by decide +kernel
theorem dd_LW_law_467 : decode code 467 = .ok (.iconst 3, 1) := by decide +kernel
theorem dd_LW_law_468 : decode code 468 = .ok (.iadd, 1) := by decide +kernel
theorem dd_LW_law_469 : decode code 469 = .ok (.iaload, 1) := by decide +kernel
theorem dd_LW_law_470 : decode code 470 = .ok (.i2l, 1) := by decide +kernel
theorem dd_LW_law_471 : decode code 471 = .ok (.bipush 32, 2) := by decide +kernel
theorem dd_LW_law_473 : decode code 473 = .ok (.lshl, 1) := by decide +kernel
theorem dd_LW_law_474 : decode code 474 = .ok (.aload_n 0, 1) := by decide +kernel
theorem dd_LW_law_475 : decode code 475 = .ok (.iload 4, 2) := by decide +kernel
theorem dd_LW_law_477 : decode code 477 = .ok (.iconst 4, 1) := by decide +kernel
theorem dd_LW_law_478 : decode code 478 = .ok (.iadd, 1) := by decide +kernel
theorem dd_LW_law_479 : decode code 479 = .ok (.iaload, 1) := by decide +kernel
theorem dd_LW_law_480 : decode code 480 = .ok (.i2l, 1) := by decide +kernel
theorem dd_LW_law_481 : decode code 481 = .ok (.ldc2_w 59, 3) := by decide +kernel
theorem dd_LW_law_484 : decode code 484 = .ok (.land, 1) := by decide +kernel
theorem dd_LW_law_485 : decode code 485 = .ok (.lor, 1) := by decide +kernel
theorem dd_LW_law_486 : decode code 486 = .ok (.aload_n 3, 1) := by decide +kernel
theorem dd_LW_law_487 : decode code 487 = .ok (.invokestatic 76, 3) := by decide +kernel
theorem dd_LW_law_490 : decode code 490 = .ok (.istore 5, 2) := by decide +kernel
theorem dd_LW_law_492 : decode code 492 = .ok (.aload_n 2, 1) := by decide +kernel
theorem dd_LW_law_493 : decode code 493 = .ok (.aload_n 0, 1) := by decide +kernel
theorem dd_LW_law_494 : decode code 494 = .ok (.iload 4, 2) := by decide +kernel
theorem dd_LW_law_496 : decode code 496 = .ok (.iconst 1, 1) := by decide +kernel
theorem dd_LW_law_497 : decode code 497 = .ok (.iadd, 1) := by decide +kernel
theorem dd_LW_law_498 : decode code 498 = .ok (.iaload, 1) := by decide +kernel
theorem dd_LW_law_499 : decode code 499 = .ok (.i2l, 1) := by decide +kernel
theorem dd_LW_law_500 : decode code 500 = .ok (.bipush 32, 2) := by decide +kernel
theorem dd_LW_law_502 : decode code 502 = .ok (.lshl, 1) := by decide +kernel
theorem dd_LW_law_503 : decode code 503 = .ok (.aload_n 0, 1) := by decide +kernel
theorem dd_LW_law_504 : decode code 504 = .ok (.iload 4, 2) := by decide +kernel
theorem dd_LW_law_506 : decode code 506 = .ok (.iconst 2, 1) := by decide +kernel
theorem dd_LW_law_507 : decode code 507 = .ok (.iadd, 1) := by decide +kernel
theorem dd_LW_law_508 : decode code 508 = .ok (.iaload, 1) := by decide +kernel
theorem dd_LW_law_509 : decode code 509 = .ok (.i2l, 1) := by decide +kernel
theorem dd_LW_law_510 : decode code 510 = .ok (.ldc2_w 59, 3) := by decide +kernel
theorem dd_LW_law_513 : decode code 513 = .ok (.land, 1) := by decide +kernel
theorem dd_LW_law_514 : decode code 514 = .ok (.lor, 1) := by decide +kernel
theorem dd_LW_law_515 : decode code 515 = .ok (.aload_n 0, 1) := by decide +kernel
theorem dd_LW_law_516 : decode code 516 = .ok (.iload 4, 2) := by decide +kernel
theorem dd_LW_law_518 : decode code 518 = .ok (.iconst 3, 1) := by decide +kernel
theorem dd_LW_law_519 : decode code 519 = .ok (.iadd, 1) := by decide +kernel
theorem dd_LW_law_520 : decode code 520 = .ok (.iaload, 1) := by decide +kernel
theorem dd_LW_law_521 : decode code 521 = .ok (.i2l, 1) := by decide +kernel
theorem dd_LW_law_522 : decode code 522 = .ok (.bipush 32, 2) := by decide +kernel
theorem dd_LW_law_524 : decode code 524 = .ok (.lshl, 1) := by decide +kernel
theorem dd_LW_law_525 : decode code 525 = .ok (.aload_n 0, 1) := by decide +kernel
theorem dd_LW_law_526 : decode code 526 = .ok (.iload 4, 2) := by decide +kernel
theorem dd_LW_law_528 : decode code 528 = .ok (.iconst 4, 1) := by decide +kernel
theorem dd_LW_law_529 : decode code 529 = .ok (.iadd, 1) := by decide +kernel
theorem dd_LW_law_530 : decode code 530 = .ok (.iaload, 1) := by decide +kernel
theorem dd_LW_law_531 : decode code 531 = .ok (.i2l, 1) := by decide +kernel
theorem dd_LW_law_532 : decode code 532 = .ok (.ldc2_w 59, 3) := by decide +kernel
theorem dd_LW_law_535 : decode code 535 = .ok (.land, 1) := by decide +kernel
theorem dd_LW_law_536 : decode code 536 = .ok (.lor, 1) := by decide +kernel
theorem dd_LW_law_537 : decode code 537 = .ok (.invokevirtual 78, 3) := by decide +kernel
theorem dd_LW_law_540 : decode code 540 = .ok (.istore 6, 2) := by decide +kernel
theorem dd_LW_law_542 : decode code 542 = .ok (.aload_n 2, 1) := by decide +kernel
theorem dd_LW_law_543 : decode code 543 = .ok (.invokevirtual 55, 3) := by decide +kernel
theorem dd_LW_law_546 : decode code 546 = .ok (.iload 5, 2) := by decide +kernel
theorem dd_LW_law_548 : decode code 548 = .ok (.if_icmp .eq 5, 3) := by decide +kernel
theorem dd_LW_law_551 : decode code 551 = .ok (.iconst 0, 1) := by decide +kernel
theorem dd_LW_law_552 : decode code 552 = .ok (.ireturn, 1) := by decide +kernel
theorem dd_LW_law_553 : decode code 553 = .ok (.iload 5, 2) := by decide +kernel
theorem dd_LW_law_555 : decode code 555 = .ok (.ifCond .ne 15, 3) := by decide +kernel
theorem dd_LW_law_558 : decode code 558 = .ok (.aload_n 3, 1) := by decide +kernel
theorem dd_LW_law_559 : decode code 559 = .ok (.iconst 0, 1) := by decide +kernel
theorem dd_LW_law_560 : decode code 560 = .ok (.laload, 1) := by decide +kernel
theorem dd_LW_law_561 : decode code 561 = .ok (.iload 6, 2) := by decide +kernel
theorem dd_LW_law_563 : decode code 563 = .ok (.i2l, 1) := by decide +kernel
theorem dd_LW_law_564 : decode code 564 = .ok (.lcmp, 1) := by decide +kernel
theorem dd_LW_law_565 : decode code 565 = .ok (.ifCond .eq 5, 3) := by decide +kernel
theorem dd_LW_law_568 : decode code 568 = .ok (.iconst 0, 1) := by decide +kernel
theorem dd_LW_law_569 : decode code 569 = .ok (.ireturn, 1) := by decide +kernel
theorem dd_LW_law_570 : decode code 570 = .ok (.goto 313, 3) := by decide +kernel
theorem dd_LW_law_573 : decode code 573 = .ok (.aload_n 1, 1) := by decide +kernel
theorem dd_LW_law_574 : decode code 574 = .ok (.aload_n 0, 1) := by decide +kernel
theorem dd_LW_law_575 : decode code 575 = .ok (.iload 4, 2) := by decide +kernel
theorem dd_LW_law_577 : decode code 577 = .ok (.iconst 1, 1) := by decide +kernel
theorem dd_LW_law_578 : decode code 578 = .ok (.iadd, 1) := by decide +kernel
theorem dd_LW_law_579 : decode code 579 = .ok (.iaload, 1) := by decide +kernel
theorem dd_LW_law_580 : decode code 580 = .ok (.i2l, 1) := by decide +kernel
theorem dd_LW_law_581 : decode code 581 = .ok (.bipush 32, 2) := by decide +kernel
theorem dd_LW_law_583 : decode code 583 = .ok (.lshl, 1) := by decide +kernel
theorem dd_LW_law_584 : decode code 584 = .ok (.aload_n 0, 1) := by decide +kernel
theorem dd_LW_law_585 : decode code 585 = .ok (.iload 4, 2) := by decide +kernel
theorem dd_LW_law_587 : decode code 587 = .ok (.iconst 2, 1) := by decide +kernel
theorem dd_LW_law_588 : decode code 588 = .ok (.iadd, 1) := by decide +kernel
theorem dd_LW_law_589 : decode code 589 = .ok (.iaload, 1) := by decide +kernel
theorem dd_LW_law_590 : decode code 590 = .ok (.i2l, 1) := by decide +kernel
theorem dd_LW_law_591 : decode code 591 = .ok (.ldc2_w 59, 3) := by decide +kernel
theorem dd_LW_law_594 : decode code 594 = .ok (.land, 1) := by decide +kernel
theorem dd_LW_law_595 : decode code 595 = .ok (.lor, 1) := by decide +kernel
theorem dd_LW_law_596 : decode code 596 = .ok (.aload_n 0, 1) := by decide +kernel
theorem dd_LW_law_597 : decode code 597 = .ok (.iload 4, 2) := by decide +kernel
theorem dd_LW_law_599 : decode code 599 = .ok (.iconst 3, 1) := by decide +kernel
theorem dd_LW_law_600 : decode code 600 = .ok (.iadd, 1) := by decide +kernel
theorem dd_LW_law_601 : decode code 601 = .ok (.iaload, 1) := by decide +kernel
theorem dd_LW_law_602 : decode code 602 = .ok (.i2l, 1) := by decide +kernel
theorem dd_LW_law_603 : decode code 603 = .ok (.bipush 32, 2) := by decide +kernel
theorem dd_LW_law_605 : decode code 605 = .ok (.lshl, 1) := by decide +kernel
theorem dd_LW_law_606 : decode code 606 = .ok (.aload_n 0, 1) := by decide +kernel
theorem dd_LW_law_607 : decode code 607 = .ok (.iload 4, 2) := by decide +kernel
theorem dd_LW_law_609 : decode code 609 = .ok (.iconst 4, 1) := by decide +kernel
theorem dd_LW_law_610 : decode code 610 = .ok (.iadd, 1) := by decide +kernel
theorem dd_LW_law_611 : decode code 611 = .ok (.iaload, 1) := by decide +kernel
theorem dd_LW_law_612 : decode code 612 = .ok (.i2l, 1) := by decide +kernel
theorem dd_LW_law_613 : decode code 613 = .ok (.ldc2_w 59, 3) := by decide +kernel
theorem dd_LW_law_616 : decode code 616 = .ok (.land, 1) := by decide +kernel
theorem dd_LW_law_617 : decode code 617 = .ok (.lor, 1) := by decide +kernel
theorem dd_LW_law_618 : decode code 618 = .ok (.aload_n 3, 1) := by decide +kernel
theorem dd_LW_law_619 : decode code 619 = .ok (.invokestatic 79, 3) := by decide +kernel
theorem dd_LW_law_622 : decode code 622 = .ok (.istore 5, 2) := by decide +kernel
theorem dd_LW_law_624 : decode code 624 = .ok (.aload_n 2, 1) := by decide +kernel
theorem dd_LW_law_625 : decode code 625 = .ok (.aload_n 0, 1) := by decide +kernel
theorem dd_LW_law_626 : decode code 626 = .ok (.iload 4, 2) := by decide +kernel
theorem dd_LW_law_628 : decode code 628 = .ok (.iconst 1, 1) := by decide +kernel
theorem dd_LW_law_629 : decode code 629 = .ok (.iadd, 1) := by decide +kernel
theorem dd_LW_law_630 : decode code 630 = .ok (.iaload, 1) := by decide +kernel
theorem dd_LW_law_631 : decode code 631 = .ok (.i2l, 1) := by decide +kernel
theorem dd_LW_law_632 : decode code 632 = .ok (.bipush 32, 2) := by decide +kernel
theorem dd_LW_law_634 : decode code 634 = .ok (.lshl, 1) := by decide +kernel
theorem dd_LW_law_635 : decode code 635 = .ok (.aload_n 0, 1) := by decide +kernel
theorem dd_LW_law_636 : decode code 636 = .ok (.iload 4, 2) := by decide +kernel
theorem dd_LW_law_638 : decode code 638 = .ok (.iconst 2, 1) := by decide +kernel
theorem dd_LW_law_639 : decode code 639 = .ok (.iadd, 1) := by decide +kernel
theorem dd_LW_law_640 : decode code 640 = .ok (.iaload, 1) := by decide +kernel
theorem dd_LW_law_641 : decode code 641 = .ok (.i2l, 1) := by decide +kernel
theorem dd_LW_law_642 : decode code 642 = .ok (.ldc2_w 59, 3) := by decide +kernel
theorem dd_LW_law_645 : decode code 645 = .ok (.land, 1) := by decide +kernel
theorem dd_LW_law_646 : decode code 646 = .ok (.lor, 1) := by decide +kernel
theorem dd_LW_law_647 : decode code 647 = .ok (.aload_n 0, 1) := by decide +kernel
theorem dd_LW_law_648 : decode code 648 = .ok (.iload 4, 2) := by decide +kernel
theorem dd_LW_law_650 : decode code 650 = .ok (.iconst 3, 1) := by decide +kernel
theorem dd_LW_law_651 : decode code 651 = .ok (.iadd, 1) := by decide +kernel
theorem dd_LW_law_652 : decode code 652 = .ok (.iaload, 1) := by decide +kernel
theorem dd_LW_law_653 : decode code 653 = .ok (.i2l, 1) := by decide +kernel
theorem dd_LW_law_654 : decode code 654 = .ok (.bipush 32, 2) := by decide +kernel
theorem dd_LW_law_656 : decode code 656 = .ok (.lshl, 1) := by decide +kernel
theorem dd_LW_law_657 : decode code 657 = .ok (.aload_n 0, 1) := by decide +kernel
theorem dd_LW_law_658 : decode code 658 = .ok (.iload 4, 2) := by decide +kernel
theorem dd_LW_law_660 : decode code 660 = .ok (.iconst 4, 1) := by decide +kernel
theorem dd_LW_law_661 : decode code 661 = .ok (.iadd, 1) := by decide +kernel
theorem dd_LW_law_662 : decode code 662 = .ok (.iaload, 1) := by decide +kernel
theorem dd_LW_law_663 : decode code 663 = .ok (.i2l, 1) := by decide +kernel
theorem dd_LW_law_664 : decode code 664 = .ok (.ldc2_w 59, 3) := by decide +kernel
theorem dd_LW_law_667 : decode code 667 = .ok (.land, 1) := by decide +kernel
theorem dd_LW_law_668 : decode code 668 = .ok (.lor, 1) := by decide +kernel
theorem dd_LW_law_669 : decode code 669 = .ok (.invokevirtual 81, 3) := by decide +kernel
theorem dd_LW_law_672 : decode code 672 = .ok (.lstore 6, 2) := by decide +kernel
theorem dd_LW_law_674 : decode code 674 = .ok (.aload_n 2, 1) := by decide +kernel
theorem dd_LW_law_675 : decode code 675 = .ok (.invokevirtual 55, 3) := by decide +kernel
theorem dd_LW_law_678 : decode code 678 = .ok (.iload 5, 2) := by decide +kernel
theorem dd_LW_law_680 : decode code 680 = .ok (.if_icmp .eq 5, 3) := by decide +kernel
theorem dd_LW_law_683 : decode code 683 = .ok (.iconst 0, 1) := by decide +kernel
theorem dd_LW_law_684 : decode code 684 = .ok (.ireturn, 1) := by decide +kernel
theorem dd_LW_law_685 : decode code 685 = .ok (.iload 5, 2) := by decide +kernel
theorem dd_LW_law_687 : decode code 687 = .ok (.ifCond .ne 14, 3) := by decide +kernel
theorem dd_LW_law_690 : decode code 690 = .ok (.aload_n 3, 1) := by decide +kernel
theorem dd_LW_law_691 : decode code 691 = .ok (.iconst 0, 1) := by decide +kernel
theorem dd_LW_law_692 : decode code 692 = .ok (.laload, 1) := by decide +kernel
theorem dd_LW_law_693 : decode code 693 = .ok (.lload 6, 2) := by decide +kernel
theorem dd_LW_law_695 : decode code 695 = .ok (.lcmp, 1) := by decide +kernel
theorem dd_LW_law_696 : decode code 696 = .ok (.ifCond .eq 5, 3) := by decide +kernel
theorem dd_LW_law_699 : decode code 699 = .ok (.iconst 0, 1) := by decide +kernel
theorem dd_LW_law_700 : decode code 700 = .ok (.ireturn, 1) := by decide +kernel
theorem dd_LW_law_701 : decode code 701 = .ok (.goto 182, 3) := by decide +kernel
theorem dd_LW_law_704 : decode code 704 = .ok (.aload_n 1, 1) := by decide +kernel
theorem dd_LW_law_705 : decode code 705 = .ok (.aload_n 0, 1) := by decide +kernel
theorem dd_LW_law_706 : decode code 706 = .ok (.iload 4, 2) := by decide +kernel
theorem dd_LW_law_708 : decode code 708 = .ok (.iconst 1, 1) := by decide +kernel
theorem dd_LW_law_709 : decode code 709 = .ok (.iadd, 1) := by decide +kernel
theorem dd_LW_law_710 : decode code 710 = .ok (.iaload, 1) := by decide +kernel
theorem dd_LW_law_711 : decode code 711 = .ok (.i2l, 1) := by decide +kernel
theorem dd_LW_law_712 : decode code 712 = .ok (.bipush 32, 2) := by decide +kernel
theorem dd_LW_law_714 : decode code 714 = .ok (.lshl, 1) := by decide +kernel
theorem dd_LW_law_715 : decode code 715 = .ok (.aload_n 0, 1) := by decide +kernel
theorem dd_LW_law_716 : decode code 716 = .ok (.iload 4, 2) := by decide +kernel
theorem dd_LW_law_718 : decode code 718 = .ok (.iconst 2, 1) := by decide +kernel
theorem dd_LW_law_719 : decode code 719 = .ok (.iadd, 1) := by decide +kernel
theorem dd_LW_law_720 : decode code 720 = .ok (.iaload, 1) := by decide +kernel
theorem dd_LW_law_721 : decode code 721 = .ok (.i2l, 1) := by decide +kernel
theorem dd_LW_law_722 : decode code 722 = .ok (.ldc2_w 59, 3) := by decide +kernel
theorem dd_LW_law_725 : decode code 725 = .ok (.land, 1) := by decide +kernel
theorem dd_LW_law_726 : decode code 726 = .ok (.lor, 1) := by decide +kernel
theorem dd_LW_law_727 : decode code 727 = .ok (.aload_n 3, 1) := by decide +kernel
theorem dd_LW_law_728 : decode code 728 = .ok (.invokestatic 82, 3) := by decide +kernel
theorem dd_LW_law_731 : decode code 731 = .ok (.istore 5, 2) := by decide +kernel
theorem dd_LW_law_733 : decode code 733 = .ok (.aload_n 2, 1) := by decide +kernel
theorem dd_LW_law_734 : decode code 734 = .ok (.aload_n 0, 1) := by decide +kernel
theorem dd_LW_law_735 : decode code 735 = .ok (.iload 4, 2) := by decide +kernel
theorem dd_LW_law_737 : decode code 737 = .ok (.iconst 1, 1) := by decide +kernel
theorem dd_LW_law_738 : decode code 738 = .ok (.iadd, 1) := by decide +kernel
theorem dd_LW_law_739 : decode code 739 = .ok (.iaload, 1) := by decide +kernel
theorem dd_LW_law_740 : decode code 740 = .ok (.i2l, 1) := by decide +kernel
theorem dd_LW_law_741 : decode code 741 = .ok (.bipush 32, 2) := by decide +kernel
theorem dd_LW_law_743 : decode code 743 = .ok (.lshl, 1) := by decide +kernel
theorem dd_LW_law_744 : decode code 744 = .ok (.aload_n 0, 1) := by decide +kernel
theorem dd_LW_law_745 : decode code 745 = .ok (.iload 4, 2) := by decide +kernel
theorem dd_LW_law_747 : decode code 747 = .ok (.iconst 2, 1) := by decide +kernel
theorem dd_LW_law_748 : decode code 748 = .ok (.iadd, 1) := by decide +kernel
theorem dd_LW_law_749 : decode code 749 = .ok (.iaload, 1) := by decide +kernel
theorem dd_LW_law_750 : decode code 750 = .ok (.i2l, 1) := by decide +kernel
theorem dd_LW_law_751 : decode code 751 = .ok (.ldc2_w 59, 3) := by decide +kernel
theorem dd_LW_law_754 : decode code 754 = .ok (.land, 1) := by decide +kernel
theorem dd_LW_law_755 : decode code 755 = .ok (.lor, 1) := by decide +kernel
theorem dd_LW_law_756 : decode code 756 = .ok (.invokevirtual 84, 3) := by decide +kernel
theorem dd_LW_law_759 : decode code 759 = .ok (.lstore 6, 2) := by decide +kernel
theorem dd_LW_law_761 : decode code 761 = .ok (.aload_n 2, 1) := by decide +kernel
theorem dd_LW_law_762 : decode code 762 = .ok (.invokevirtual 55, 3) := by decide +kernel
theorem dd_LW_law_765 : decode code 765 = .ok (.iload 5, 2) := by decide +kernel
theorem dd_LW_law_767 : decode code 767 = .ok (.if_icmp .eq 5, 3) := by decide +kernel
theorem dd_LW_law_770 : decode code 770 = .ok (.iconst 0, 1) := by decide +kernel
theorem dd_LW_law_771 : decode code 771 = .ok (.ireturn, 1) := by decide +kernel
theorem dd_LW_law_772 : decode code 772 = .ok (.iload 5, 2) := by decide +kernel
theorem dd_LW_law_774 : decode code 774 = .ok (.ifCond .ne 14, 3) := by decide +kernel
theorem dd_LW_law_777 : decode code 777 = .ok (.aload_n 3, 1) := by decide +kernel
theorem dd_LW_law_778 : decode code 778 = .ok (.iconst 0, 1) := by decide +kernel
theorem dd_LW_law_779 : decode code 779 = .ok (.laload, 1) := by decide +kernel
theorem dd_LW_law_780 : decode code 780 = .ok (.lload 6, 2) := by decide +kernel
theorem dd_LW_law_782 : decode code 782 = .ok (.lcmp, 1) := by decide +kernel
theorem dd_LW_law_783 : decode code 783 = .ok (.ifCond .eq 5, 3) := by decide +kernel
theorem dd_LW_law_786 : decode code 786 = .ok (.iconst 0, 1) := by decide +kernel
theorem dd_LW_law_787 : decode code 787 = .ok (.ireturn, 1) := by decide +kernel
theorem dd_LW_law_788 : decode code 788 = .ok (.goto 95, 3) := by decide +kernel
theorem dd_LW_law_791 : decode code 791 = .ok (.aload_n 1, 1) := by decide +kernel
theorem dd_LW_law_792 : decode code 792 = .ok (.aload_n 0, 1) := by decide +kernel
theorem dd_LW_law_793 : decode code 793 = .ok (.iload 4, 2) := by decide +kernel
theorem dd_LW_law_795 : decode code 795 = .ok (.iconst 1, 1) := by decide +kernel
theorem dd_LW_law_796 : decode code 796 = .ok (.iadd, 1) := by decide +kernel
theorem dd_LW_law_797 : decode code 797 = .ok (.iaload, 1) := by decide +kernel
theorem dd_LW_law_798 : decode code 798 = .ok (.aload_n 0, 1) := by decide +kernel
theorem dd_LW_law_799 : decode code 799 = .ok (.iload 4, 2) := by decide +kernel
theorem dd_LW_law_801 : decode code 801 = .ok (.iconst 2, 1) := by decide +kernel
theorem dd_LW_law_802 : decode code 802 = .ok (.iadd, 1) := by decide +kernel
theorem dd_LW_law_803 : decode code 803 = .ok (.iaload, 1) := by decide +kernel
theorem dd_LW_law_804 : decode code 804 = .ok (.aload_n 3, 1) := by decide +kernel
theorem dd_LW_law_805 : decode code 805 = .ok (.invokestatic 85, 3) := by decide +kernel
theorem dd_LW_law_808 : decode code 808 = .ok (.istore 5, 2) := by decide +kernel
theorem dd_LW_law_810 : decode code 810 = .ok (.aload_n 2, 1) := by decide +kernel
theorem dd_LW_law_811 : decode code 811 = .ok (.aload_n 0, 1) := by decide +kernel
theorem dd_LW_law_812 : decode code 812 = .ok (.iload 4, 2) := by decide +kernel
theorem dd_LW_law_814 : decode code 814 = .ok (.iconst 1, 1) := by decide +kernel
theorem dd_LW_law_815 : decode code 815 = .ok (.iadd, 1) := by decide +kernel
theorem dd_LW_law_816 : decode code 816 = .ok (.iaload, 1) := by decide +kernel
theorem dd_LW_law_817 : decode code 817 = .ok (.aload_n 0, 1) := by decide +kernel
theorem dd_LW_law_818 : decode code 818 = .ok (.iload 4, 2) := by decide +kernel
theorem dd_LW_law_820 : decode code 820 = .ok (.iconst 2, 1) := by decide +kernel
theorem dd_LW_law_821 : decode code 821 = .ok (.iadd, 1) := by decide +kernel
theorem dd_LW_law_822 : decode code 822 = .ok (.iaload, 1) := by decide +kernel
theorem dd_LW_law_823 : decode code 823 = .ok (.invokevirtual 88, 3) := by decide +kernel
theorem dd_LW_law_826 : decode code 826 = .ok (.lstore 6, 2) := by decide +kernel
theorem dd_LW_law_828 : decode code 828 = .ok (.aload_n 2, 1) := by decide +kernel
theorem dd_LW_law_829 : decode code 829 = .ok (.invokevirtual 55, 3) := by decide +kernel
theorem dd_LW_law_832 : decode code 832 = .ok (.iload 5, 2) := by decide +kernel
theorem dd_LW_law_834 : decode code 834 = .ok (.if_icmp .eq 5, 3) := by decide +kernel
theorem dd_LW_law_837 : decode code 837 = .ok (.iconst 0, 1) := by decide +kernel
theorem dd_LW_law_838 : decode code 838 = .ok (.ireturn, 1) := by decide +kernel
theorem dd_LW_law_839 : decode code 839 = .ok (.iload 5, 2) := by decide +kernel
theorem dd_LW_law_841 : decode code 841 = .ok (.ifCond .ne 14, 3) := by decide +kernel
theorem dd_LW_law_844 : decode code 844 = .ok (.aload_n 3, 1) := by decide +kernel
theorem dd_LW_law_845 : decode code 845 = .ok (.iconst 0, 1) := by decide +kernel
theorem dd_LW_law_846 : decode code 846 = .ok (.laload, 1) := by decide +kernel
theorem dd_LW_law_847 : decode code 847 = .ok (.lload 6, 2) := by decide +kernel
theorem dd_LW_law_849 : decode code 849 = .ok (.lcmp, 1) := by decide +kernel
theorem dd_LW_law_850 : decode code 850 = .ok (.ifCond .eq 5, 3) := by decide +kernel
theorem dd_LW_law_853 : decode code 853 = .ok (.iconst 0, 1) := by decide +kernel
theorem dd_LW_law_854 : decode code 854 = .ok (.ireturn, 1) := by decide +kernel
theorem dd_LW_law_855 : decode code 855 = .ok (.goto 28, 3) := by decide +kernel
theorem dd_LW_law_858 : decode code 858 = .ok (.aload_n 1, 1) := by decide +kernel
theorem dd_LW_law_859 : decode code 859 = .ok (.aload_n 0, 1) := by decide +kernel
theorem dd_LW_law_860 : decode code 860 = .ok (.iload 4, 2) := by decide +kernel
theorem dd_LW_law_862 : decode code 862 = .ok (.iconst 1, 1) := by decide +kernel
theorem dd_LW_law_863 : decode code 863 = .ok (.iadd, 1) := by decide +kernel
theorem dd_LW_law_864 : decode code 864 = .ok (.iaload, 1) := by decide +kernel
theorem dd_LW_law_865 : decode code 865 = .ok (.invokevirtual 89, 3) := by decide +kernel
theorem dd_LW_law_868 : decode code 868 = .ok (.aload_n 2, 1) := by decide +kernel
theorem dd_LW_law_869 : decode code 869 = .ok (.aload_n 0, 1) := by decide +kernel
theorem dd_LW_law_870 : decode code 870 = .ok (.iload 4, 2) := by decide +kernel
theorem dd_LW_law_872 : decode code 872 = .ok (.iconst 1, 1) := by decide +kernel
theorem dd_LW_law_873 : decode code 873 = .ok (.iadd, 1) := by decide +kernel
theorem dd_LW_law_874 : decode code 874 = .ok (.iaload, 1) := by decide +kernel
theorem dd_LW_law_875 : decode code 875 = .ok (.invokevirtual 93, 3) := by decide +kernel
theorem dd_LW_law_878 : decode code 878 = .ok (.if_icmp .eq 5, 3) := by decide +kernel
theorem dd_LW_law_881 : decode code 881 = .ok (.iconst 0, 1) := by decide +kernel
theorem dd_LW_law_882 : decode code 882 = .ok (.ireturn, 1) := by decide +kernel
theorem dd_LW_law_883 : decode code 883 = .ok (.iinc 4 5, 3) := by decide +kernel
theorem dd_LW_law_886 : decode code 886 = .ok (.goto (-863), 3) := by decide +kernel
theorem dd_LW_law_889 : decode code 889 = .ok (.iconst 1, 1) := by decide +kernel
theorem dd_LW_law_890 : decode code 890 = .ok (.ireturn, 1) := by decide +kernel
end
section
/-! the arms of the law's switch -/
abbrev AL (s : State) : Nat → Prop := fun q => s.heap.size ≤ q
abbrev wA (cI cL : ClassId) (h hm : Nat → Nat) (o : Nat) (g cl : Int32) (len n : Nat) (ca wa : Nat → Int64) (z : ZT) (f : Nat → Int64) (th : Int32) : va_W :=
  wM cL hm len n cl 0 th ca wa ++ ((o, .inl (cL, 1, .inr (.inl f))) :: wX cI cL h g cl len n ca wa z)
abbrev LOC (h hm : Nat → Nat) (o b i : Nat) : List (Nat × Value) := [(4, .int (nI i)), (3, .ref o), (2, .ref (hm 0)), (1, .ref (h 0)), (0, .ref b)]
def lw_E (p : Program) (l : Launch) (s : State) (m : MethodId) (c : Code) (b L : Nat) (xs : Nat → Int32) (D : va_G) (cI cL : ClassId) : Prop :=
  p.tables.exec = Jvm.exec ∧ c.code = code ∧ c.maxLocals = 8 ∧ s.vm.findClass "PatternTreeLaw" = some m.cls ∧ (∀ w ∈ TT, w.before #[Value.ref b] s = true) ∧ va_K D classes (tys cI cL) s ∧ tq_XK s ∧ va_X b L xs s s.heap ∧ b < s.heap.size ∧ l.flags = pinnedFlags ++ [noTraceFlag] ∧ L ≤ 2560
def lw_N (p : Program) (l : Launch) (e : Env) (s : State) (m : MethodId) (below : List Frame) (meth : Method) (c : Code) (b : Nat) (D : va_G) (cI cL : ClassId) (h hm : Nat → Nat) (o i cells slots : Nat) (Q : State → Prop) : Prop :=
  ∀ (g cl : Int32) (len n : Nat) (ca wa : Nat → Int64) (z : ZT) (f : Nat → Int64) (th : Int32) (H : Heap) (locs : List Loc) (ls : Array Slot), IV (len, n, ca, wa, cl, g, z) → va_P D classes (wA cI cL h hm o g cl len n ca wa z f th) H → va_D (AL s) (wA cI cL h hm o g cl len n ca wa z f th) → va_S (AL s) s.heap H locs → lv_has ls 8 (LOC h hm o b i) →
    W p l e room_1 s m #[Value.ref b] below meth c H locs (cells + 2) (slots + 12) Q (F0 m 883 ls [])
theorem sin1 {i L : Nat} (h : i + 5 ≤ L) (hL : L ≤ 2560) : vp_in (nI i + 1) L := by rw [show nI i + 1 = nI (i + 1) from nI_add i 1]; exact vp_in_nI (by omega) (by omega)
theorem sin2 {i L : Nat} (h : i + 5 ≤ L) (hL : L ≤ 2560) : vp_in (nI i + 2) L := by rw [show nI i + 2 = nI (i + 2) from nI_add i 2]; exact vp_in_nI (by omega) (by omega)
theorem sin3 {i L : Nat} (h : i + 5 ≤ L) (hL : L ≤ 2560) : vp_in (nI i + 3) L := by rw [show nI i + 3 = nI (i + 3) from nI_add i 3]; exact vp_in_nI (by omega) (by omega)
theorem sin4 {i L : Nat} (h : i + 5 ≤ L) (hL : L ≤ 2560) : vp_in (nI i + 4) L := by rw [show nI i + 4 = nI (i + 4) from nI_add i 4]; exact vp_in_nI (by omega) (by omega)
theorem mClear_be (len n : Nat) (cl : Int32) (ca wa : Nat → Int64) (x : Int32) : (mClear len n cl 0 ca wa x).2.2.2.1 = 0 := by unfold mClear; split <;> rfl
theorem ifP {t : Bool} (h : (if t then (0 : Int32) else 1) = 0) : t = true := by cases t <;> simp_all
theorem lw_SK {s : State} (H : Heap) (locs : List Loc) (hS : va_S (AL s) s.heap H locs) : tq_SK s.heap H := by
  intro x cell hx _
  have hlt : x < s.heap.size := (Array.getElem?_eq_some_iff.mp hx).1
  rw [hS.2.1 x hlt (fun h => absurd h (Nat.not_le.mpr hlt))]
  exact hx
set_option maxRecDepth 20000 in
theorem arm_0 {p : Program} {l : Launch} {e : Env} {s : State} {m : MethodId} {below : List Frame} {meth : Method} {c : Code} {b L : Nat} {xs : Nat → Int32} {D : va_G} {cI cL : ClassId} {Q : State → Prop} (E : lw_E p l s m c b L xs D cI cL) {h hm : Nat → Nat} {o i : Nat} (hi : i + 5 ≤ L) {g cl : Int32} {len n : Nat} {ca wa : Nat → Int64} {z : ZT} {f : Nat → Int64} {th : Int32} (hI : IV (len, n, ca, wa, cl, g, z))
    {H : Heap} {locs : List Loc} {ls : Array Slot} {cells slots : Nat} (hP : va_P D classes (wA cI cL h hm o g cl len n ca wa z f th) H) (hD : va_D (AL s) (wA cI cL h hm o g cl len n ca wa z f th)) (hS : va_S (AL s) s.heap H locs) (hl : lv_has ls 8 (LOC h hm o b i)) (hc : cells + 2 ≤ 601024) (hs : slots + 12 ≤ 7293034)
    (kk : lw_N p l e s m below meth c b D cI cL h hm o i cells slots Q) : W p l e room_1 s m #[Value.ref b] below meth c H locs cells slots Q (F0 m 92 ls []) := by
  obtain ⟨hx, hb, hml, hown, hT, hK, hX, hXs, hbl, hfl, hL⟩ := E
  have hA : ∀ q, s.heap.size ≤ q → AL s q := fun _ h9 => h9
  have hSK := @lw_SK s
  have hbA : ¬ AL s b := Nat.not_le.mpr hbl
  have hlen : len ≤ 64 := hI.1.1.2
  have hn : n ≤ 512 := hI.1.2.1
  have hg : g = 0 ∨ g = 1 ∧ GT len n ca wa z := hI.2
  have hl : lv_has ls 8 [(4, .int (nI i)), (3, .ref o), (2, .ref (hm 0)), (1, .ref (h 0)), (0, .ref b)] := hl
  skip
  refine lv_aload_n hx hb dd_LW_law_92 rfl (lv_at hl 3 rfl) ?_
  refine lv_aload_n hx hb dd_LW_law_93 rfl (lv_at hl 4 rfl) ?_
  refine lv_iload hx hb dd_LW_law_94 (lv_at hl 0 rfl) ?_
  refine lv_iconst (v := 1) hx hb dd_LW_law_96 (by decide) ?_
  refine lv_iadd hx hb dd_LW_law_97 ?_
  refine va_sld hx hb hXs hbl hbA hS (sin1 hi hL) dd_LW_law_98 ?_
  refine lv_topi (fun a1 ea1 => ?_)
  have C9 := c_LW_clear l D cI cL h g cl len n ca wa z o f a1 hfl hI
  refine MT.callS (C9) ss_LW_49 ⟨hx, hb, hml, hown, hT⟩ ⟨hK, hX, hSK _ _ hS, hP, hD, hS, hA⟩ (⟨rfl, rfl, rfl, rfl, rfl, by decide⟩ : tq_J _ _ (wM cL hm len n cl 0 th ca wa) [3, 4, 5, 6, 7, 8, 9, 10, 11, 12] [0, 1, 2]) (by decide) rfl hl.1 rfl (Nat.le_of_ble_eq_true rfl) dd_LW_law_99 ⟨hc, hs⟩ (fun v u H locs hp hP hD hS => ?_) (fun x C u H locs hp hxf hP hD hS => hp.elim)
  obtain ⟨r1, rfl, hr1, g1, z1, hu, hIu⟩ := hp
  obtain ⟨u1, f1⟩ := u
  have hu : u1 = _ := hu
  subst hu
  have hP : va_P D classes (wM cL hm len n cl 0 th ca wa ++ ((o, .inl (cL, 1, .inr (.inl f1))) :: wX cI cL h g1 (mClear len n cl 0 ca wa a1).2.2.1 (mClear len n cl 0 ca wa a1).1 (mClear len n cl 0 ca wa a1).2.1 (mClear len n cl 0 ca wa a1).2.2.2.2.2.1 (mClear len n cl 0 ca wa a1).2.2.2.2.2.2 z1)) H := hP
  have hD : va_D (AL s) (wM cL hm len n cl 0 th ca wa ++ ((o, .inl (cL, 1, .inr (.inl f1))) :: wX cI cL h g1 (mClear len n cl 0 ca wa a1).2.2.1 (mClear len n cl 0 ca wa a1).1 (mClear len n cl 0 ca wa a1).2.1 (mClear len n cl 0 ca wa a1).2.2.2.2.2.1 (mClear len n cl 0 ca wa a1).2.2.2.2.2.2 z1)) := hD
  refine lv_topi (fun v102 e102 => ?_)
  obtain rfl : r1 = v102 := (e102).symm
  refine lv_istore hx hb dd_LW_law_102 hl (by decide) rfl (fun ls hl => ?_)
  have hl : lv_has ls 8 [(5, .int r1), (4, .int (nI i)), (3, .ref o), (2, .ref (hm 0)), (1, .ref (h 0)), (0, .ref b)] := hl
  refine lv_aload_n hx hb dd_LW_law_104 rfl (lv_at hl 3 rfl) ?_
  refine lv_aload_n hx hb dd_LW_law_105 rfl (lv_at hl 5 rfl) ?_
  refine lv_iload hx hb dd_LW_law_106 (lv_at hl 1 rfl) ?_
  refine lv_iconst (v := 1) hx hb dd_LW_law_108 (by decide) ?_
  refine lv_iadd hx hb dd_LW_law_109 ?_
  refine va_sld hx hb hXs hbl hbA hS (sin1 hi hL) dd_LW_law_110 ?_
  refine lv_topi (fun b1 eb1 => ?_)
  obtain rfl : a1 = b1 := ea1.trans eb1.symm
  refine MT.callV (c_MO_clear l D cI cL hm len n cl 0 th ca wa a1) vs_LW_54 ⟨hx, hb, hml, hown, hT⟩ ⟨hK, hX, hSK _ _ hS, hP, hD, hS, hA⟩ (⟨rfl, rfl, rfl, rfl, rfl, by decide⟩ : tq_J _ _ ((o, .inl (cL, 1, .inr (.inl f1))) :: wX cI cL h g1 (mClear len n cl 0 ca wa a1).2.2.1 (mClear len n cl 0 ca wa a1).1 (mClear len n cl 0 ca wa a1).2.1 (mClear len n cl 0 ca wa a1).2.2.2.2.2.1 (mClear len n cl 0 ca wa a1).2.2.2.2.2.2 z1) [0, 1, 2] [3, 4, 5, 6, 7, 8, 9, 10, 11, 12]) 0 rfl rfl (by decide) rfl hl.1 rfl (Nat.le_of_ble_eq_true rfl) dd_LW_law_111 ⟨hc, hs⟩ (fun v u H locs hp hP hD hS => ?_) (fun x C u H locs hp hxf hP hD hS => hp.elim)
  obtain ⟨rfl, rfl⟩ := hp
  have hP : va_P D classes (((o, .inl (cL, 1, .inr (.inl f1))) :: wX cI cL h g1 (mClear len n cl 0 ca wa a1).2.2.1 (mClear len n cl 0 ca wa a1).1 (mClear len n cl 0 ca wa a1).2.1 (mClear len n cl 0 ca wa a1).2.2.2.2.2.1 (mClear len n cl 0 ca wa a1).2.2.2.2.2.2 z1) ++ wM cL hm (mClear len n cl 0 ca wa a1).1 (mClear len n cl 0 ca wa a1).2.1 (mClear len n cl 0 ca wa a1).2.2.1 (mClear len n cl 0 ca wa a1).2.2.2.1 (mClear len n cl 0 ca wa a1).2.2.2.2.1 (mClear len n cl 0 ca wa a1).2.2.2.2.2.1 (mClear len n cl 0 ca wa a1).2.2.2.2.2.2) H := hP
  have hD : va_D (AL s) (((o, .inl (cL, 1, .inr (.inl f1))) :: wX cI cL h g1 (mClear len n cl 0 ca wa a1).2.2.1 (mClear len n cl 0 ca wa a1).1 (mClear len n cl 0 ca wa a1).2.1 (mClear len n cl 0 ca wa a1).2.2.2.2.2.1 (mClear len n cl 0 ca wa a1).2.2.2.2.2.2 z1) ++ wM cL hm (mClear len n cl 0 ca wa a1).1 (mClear len n cl 0 ca wa a1).2.1 (mClear len n cl 0 ca wa a1).2.2.1 (mClear len n cl 0 ca wa a1).2.2.2.1 (mClear len n cl 0 ca wa a1).2.2.2.2.1 (mClear len n cl 0 ca wa a1).2.2.2.2.2.1 (mClear len n cl 0 ca wa a1).2.2.2.2.2.2) := hD
  rw [mClear_be] at hP hD
  have hP : va_P D classes (wM cL hm (mClear len n cl 0 ca wa a1).1 (mClear len n cl 0 ca wa a1).2.1 (mClear len n cl 0 ca wa a1).2.2.1 0 (mClear len n cl 0 ca wa a1).2.2.2.2.1 (mClear len n cl 0 ca wa a1).2.2.2.2.2.1 (mClear len n cl 0 ca wa a1).2.2.2.2.2.2 ++ ((o, .inl (cL, 1, .inr (.inl f1))) :: wX cI cL h g1 (mClear len n cl 0 ca wa a1).2.2.1 (mClear len n cl 0 ca wa a1).1 (mClear len n cl 0 ca wa a1).2.1 (mClear len n cl 0 ca wa a1).2.2.2.2.2.1 (mClear len n cl 0 ca wa a1).2.2.2.2.2.2 z1)) H := va_P.swap (a := []) (b := (o, .inl (cL, 1, .inr (.inl f1))) :: wX cI cL h g1 (mClear len n cl 0 ca wa a1).2.2.1 (mClear len n cl 0 ca wa a1).1 (mClear len n cl 0 ca wa a1).2.1 (mClear len n cl 0 ca wa a1).2.2.2.2.2.1 (mClear len n cl 0 ca wa a1).2.2.2.2.2.2 z1) (c := wM cL hm (mClear len n cl 0 ca wa a1).1 (mClear len n cl 0 ca wa a1).2.1 (mClear len n cl 0 ca wa a1).2.2.1 0 (mClear len n cl 0 ca wa a1).2.2.2.2.1 (mClear len n cl 0 ca wa a1).2.2.2.2.2.1 (mClear len n cl 0 ca wa a1).2.2.2.2.2.2) hP
  have hD : va_D (AL s) (wM cL hm (mClear len n cl 0 ca wa a1).1 (mClear len n cl 0 ca wa a1).2.1 (mClear len n cl 0 ca wa a1).2.2.1 0 (mClear len n cl 0 ca wa a1).2.2.2.2.1 (mClear len n cl 0 ca wa a1).2.2.2.2.2.1 (mClear len n cl 0 ca wa a1).2.2.2.2.2.2 ++ ((o, .inl (cL, 1, .inr (.inl f1))) :: wX cI cL h g1 (mClear len n cl 0 ca wa a1).2.2.1 (mClear len n cl 0 ca wa a1).1 (mClear len n cl 0 ca wa a1).2.1 (mClear len n cl 0 ca wa a1).2.2.2.2.2.1 (mClear len n cl 0 ca wa a1).2.2.2.2.2.2 z1)) := va_D.swap (a := []) (b := (o, .inl (cL, 1, .inr (.inl f1))) :: wX cI cL h g1 (mClear len n cl 0 ca wa a1).2.2.1 (mClear len n cl 0 ca wa a1).1 (mClear len n cl 0 ca wa a1).2.1 (mClear len n cl 0 ca wa a1).2.2.2.2.2.1 (mClear len n cl 0 ca wa a1).2.2.2.2.2.2 z1) (c := wM cL hm (mClear len n cl 0 ca wa a1).1 (mClear len n cl 0 ca wa a1).2.1 (mClear len n cl 0 ca wa a1).2.2.1 0 (mClear len n cl 0 ca wa a1).2.2.2.2.1 (mClear len n cl 0 ca wa a1).2.2.2.2.2.1 (mClear len n cl 0 ca wa a1).2.2.2.2.2.2) hD
  refine lv_aload_n hx hb dd_LW_law_114 rfl (lv_at hl 3 rfl) ?_
  refine RdI.callV (c_MO_thrown l D cI cL hm (mClear len n cl 0 ca wa a1).1 (mClear len n cl 0 ca wa a1).2.1 (mClear len n cl 0 ca wa a1).2.2.1 0 (mClear len n cl 0 ca wa a1).2.2.2.2.1 (mClear len n cl 0 ca wa a1).2.2.2.2.2.1 (mClear len n cl 0 ca wa a1).2.2.2.2.2.2) vs_LW_55 ⟨hx, hb, hml, hown, hT⟩ hK (hP.sub (ws' := wM cL hm (mClear len n cl 0 ca wa a1).1 (mClear len n cl 0 ca wa a1).2.1 (mClear len n cl 0 ca wa a1).2.2.1 0 (mClear len n cl 0 ca wa a1).2.2.2.2.1 (mClear len n cl 0 ca wa a1).2.2.2.2.2.1 (mClear len n cl 0 ca wa a1).2.2.2.2.2.2) [0, 1, 2] rfl) 0 rfl rfl ⟨rfl, rfl⟩ (by decide) rfl hl.1 rfl (Nat.le_of_ble_eq_true rfl) dd_LW_law_115 ⟨hc, hs⟩ (fun r hr => ?_)
  subst hr
  refine lv_iload hx hb dd_LW_law_118 (lv_at hl 0 rfl) ?_
  refine lv_icmp_eq (tgt := 125) hx hb dd_LW_law_120 (by decide) (fun hc1 => ?_) (fun hc1 => ?_)
  · refine lv_goto (tgt := 883) hx hb dd_LW_law_125 (by decide) ?_
    exact kk g1 (mClear len n cl 0 ca wa a1).2.2.1 (mClear len n cl 0 ca wa a1).1 (mClear len n cl 0 ca wa a1).2.1 (mClear len n cl 0 ca wa a1).2.2.2.2.2.1 (mClear len n cl 0 ca wa a1).2.2.2.2.2.2 z1 f1 (mClear len n cl 0 ca wa a1).2.2.2.2.1 H locs ls hIu hP hD hS (lv_sub hl [1, 2, 3, 4, 5] rfl)
  · exact absurd hr1.symm hc1
set_option maxRecDepth 20000 in
theorem arm_1 {p : Program} {l : Launch} {e : Env} {s : State} {m : MethodId} {below : List Frame} {meth : Method} {c : Code} {b L : Nat} {xs : Nat → Int32} {D : va_G} {cI cL : ClassId} {Q : State → Prop} (E : lw_E p l s m c b L xs D cI cL) {h hm : Nat → Nat} {o i : Nat} (hi : i + 5 ≤ L) {g cl : Int32} {len n : Nat} {ca wa : Nat → Int64} {z : ZT} {f : Nat → Int64} {th : Int32} (hI : IV (len, n, ca, wa, cl, g, z))
    {H : Heap} {locs : List Loc} {ls : Array Slot} {cells slots : Nat} (hP : va_P D classes (wA cI cL h hm o g cl len n ca wa z f th) H) (hD : va_D (AL s) (wA cI cL h hm o g cl len n ca wa z f th)) (hS : va_S (AL s) s.heap H locs) (hl : lv_has ls 8 (LOC h hm o b i)) (hc : cells + 2 ≤ 601024) (hs : slots + 12 ≤ 7293034)
    (kk : lw_N p l e s m below meth c b D cI cL h hm o i cells slots Q) : W p l e room_1 s m #[Value.ref b] below meth c H locs cells slots Q (F0 m 128 ls []) := by
  obtain ⟨hx, hb, hml, hown, hT, hK, hX, hXs, hbl, hfl, hL⟩ := E
  have hA : ∀ q, s.heap.size ≤ q → AL s q := fun _ h9 => h9
  have hSK := @lw_SK s
  have hbA : ¬ AL s b := Nat.not_le.mpr hbl
  have hlen : len ≤ 64 := hI.1.1.2
  have hn : n ≤ 512 := hI.1.2.1
  have hg : g = 0 ∨ g = 1 ∧ GT len n ca wa z := hI.2
  have hl : lv_has ls 8 [(4, .int (nI i)), (3, .ref o), (2, .ref (hm 0)), (1, .ref (h 0)), (0, .ref b)] := hl
  skip
  refine lv_aload_n hx hb dd_LW_law_128 rfl (lv_at hl 3 rfl) ?_
  refine lv_aload_n hx hb dd_LW_law_129 rfl (lv_at hl 4 rfl) ?_
  refine lv_iload hx hb dd_LW_law_130 (lv_at hl 0 rfl) ?_
  refine lv_iconst (v := 1) hx hb dd_LW_law_132 (by decide) ?_
  refine lv_iadd hx hb dd_LW_law_133 ?_
  refine va_sld hx hb hXs hbl hbA hS (sin1 hi hL) dd_LW_law_134 ?_
  refine lv_i2l hx hb dd_LW_law_135 rfl ?_
  refine lv_bipush (v := 32) hx hb dd_LW_law_136 (by decide) ?_
  refine lv_lshl hx hb dd_LW_law_138 rfl ?_
  refine lv_aload_n hx hb dd_LW_law_139 rfl (lv_at hl 4 rfl) ?_
  refine lv_iload hx hb dd_LW_law_140 (lv_at hl 0 rfl) ?_
  refine lv_iconst (v := 2) hx hb dd_LW_law_142 (by decide) ?_
  refine lv_iadd hx hb dd_LW_law_143 ?_
  refine va_sld hx hb hXs hbl hbA hS (sin2 hi hL) dd_LW_law_144 ?_
  refine lv_i2l hx hb dd_LW_law_145 rfl ?_
  refine lv_ldc2 (v := 4294967295) hx hb hown (hT _ tw_434) dd_LW_law_146 ?_
  refine lv_land hx hb dd_LW_law_149 ?_
  refine lv_lor hx hb dd_LW_law_150 ?_
  refine lv_topl (fun a1 ea1 => ?_)
  refine lv_aload_n hx hb dd_LW_law_151 rfl (lv_at hl 4 rfl) ?_
  refine lv_iload hx hb dd_LW_law_152 (lv_at hl 0 rfl) ?_
  refine lv_iconst (v := 3) hx hb dd_LW_law_154 (by decide) ?_
  refine lv_iadd hx hb dd_LW_law_155 ?_
  refine va_sld hx hb hXs hbl hbA hS (sin3 hi hL) dd_LW_law_156 ?_
  refine lv_i2l hx hb dd_LW_law_157 rfl ?_
  refine lv_bipush (v := 32) hx hb dd_LW_law_158 (by decide) ?_
  refine lv_lshl hx hb dd_LW_law_160 rfl ?_
  refine lv_aload_n hx hb dd_LW_law_161 rfl (lv_at hl 4 rfl) ?_
  refine lv_iload hx hb dd_LW_law_162 (lv_at hl 0 rfl) ?_
  refine lv_iconst (v := 4) hx hb dd_LW_law_164 (by decide) ?_
  refine lv_iadd hx hb dd_LW_law_165 ?_
  refine va_sld hx hb hXs hbl hbA hS (sin4 hi hL) dd_LW_law_166 ?_
  refine lv_i2l hx hb dd_LW_law_167 rfl ?_
  refine lv_ldc2 (v := 4294967295) hx hb hown (hT _ tw_434) dd_LW_law_168 ?_
  refine lv_land hx hb dd_LW_law_171 ?_
  refine lv_lor hx hb dd_LW_law_172 ?_
  refine lv_topl (fun a2 ea2 => ?_)
  refine lv_aload_n hx hb dd_LW_law_173 rfl (lv_at hl 1 rfl) ?_
  have C9 := c_LW_add l D cI cL h g cl len n ca wa z o f a1 a2 hfl hI
  rw [add_eq] at C9
  refine MT.callS (C9) ss_LW_61 ⟨hx, hb, hml, hown, hT⟩ ⟨hK, hX, hSK _ _ hS, hP, hD, hS, hA⟩ (⟨rfl, rfl, rfl, rfl, rfl, by decide⟩ : tq_J _ _ (wM cL hm len n cl 0 th ca wa) [3, 4, 5, 6, 7, 8, 9, 10, 11, 12] [0, 1, 2]) (by decide) rfl hl.1 rfl (Nat.le_of_ble_eq_true rfl) dd_LW_law_174 ⟨hc, hs⟩ (fun v u H locs hp hP hD hS => ?_) (fun x C u H locs hp hxf hP hD hS => hp.elim)
  obtain ⟨r1, rfl, hr1, hans, g1, z1, hu, hIu⟩ := hp
  obtain ⟨u1, f1⟩ := u
  have hu : u1 = _ := hu
  subst hu
  have hans : _ → f1 0 = _ := hans
  have hP : va_P D classes (wM cL hm len n cl 0 th ca wa ++ ((o, .inl (cL, 1, .inr (.inl f1))) :: wX cI cL h g1 (mAdd len n ca wa cl a1 a2).2.2.2.2.2 len (mAdd len n ca wa cl a1 a2).2.2.1 (mAdd len n ca wa cl a1 a2).2.2.2.1 (mAdd len n ca wa cl a1 a2).2.2.2.2.1 z1)) H := hP
  have hD : va_D (AL s) (wM cL hm len n cl 0 th ca wa ++ ((o, .inl (cL, 1, .inr (.inl f1))) :: wX cI cL h g1 (mAdd len n ca wa cl a1 a2).2.2.2.2.2 len (mAdd len n ca wa cl a1 a2).2.2.1 (mAdd len n ca wa cl a1 a2).2.2.2.1 (mAdd len n ca wa cl a1 a2).2.2.2.2.1 z1)) := hD
  refine lv_topi (fun v177 e177 => ?_)
  obtain rfl : r1 = v177 := (e177).symm
  refine lv_istore hx hb dd_LW_law_177 hl (by decide) rfl (fun ls hl => ?_)
  have hl : lv_has ls 8 [(5, .int r1), (4, .int (nI i)), (3, .ref o), (2, .ref (hm 0)), (1, .ref (h 0)), (0, .ref b)] := hl
  refine lv_aload_n hx hb dd_LW_law_179 rfl (lv_at hl 3 rfl) ?_
  refine lv_aload_n hx hb dd_LW_law_180 rfl (lv_at hl 5 rfl) ?_
  refine lv_iload hx hb dd_LW_law_181 (lv_at hl 1 rfl) ?_
  refine lv_iconst (v := 1) hx hb dd_LW_law_183 (by decide) ?_
  refine lv_iadd hx hb dd_LW_law_184 ?_
  refine va_sld hx hb hXs hbl hbA hS (sin1 hi hL) dd_LW_law_185 ?_
  refine lv_i2l hx hb dd_LW_law_186 rfl ?_
  refine lv_bipush (v := 32) hx hb dd_LW_law_187 (by decide) ?_
  refine lv_lshl hx hb dd_LW_law_189 rfl ?_
  refine lv_aload_n hx hb dd_LW_law_190 rfl (lv_at hl 5 rfl) ?_
  refine lv_iload hx hb dd_LW_law_191 (lv_at hl 1 rfl) ?_
  refine lv_iconst (v := 2) hx hb dd_LW_law_193 (by decide) ?_
  refine lv_iadd hx hb dd_LW_law_194 ?_
  refine va_sld hx hb hXs hbl hbA hS (sin2 hi hL) dd_LW_law_195 ?_
  refine lv_i2l hx hb dd_LW_law_196 rfl ?_
  refine lv_ldc2 (v := 4294967295) hx hb hown (hT _ tw_434) dd_LW_law_197 ?_
  refine lv_land hx hb dd_LW_law_200 ?_
  refine lv_lor hx hb dd_LW_law_201 ?_
  refine lv_topl (fun b1 eb1 => ?_)
  obtain rfl : a1 = b1 := ea1.trans eb1.symm
  refine lv_aload_n hx hb dd_LW_law_202 rfl (lv_at hl 5 rfl) ?_
  refine lv_iload hx hb dd_LW_law_203 (lv_at hl 1 rfl) ?_
  refine lv_iconst (v := 3) hx hb dd_LW_law_205 (by decide) ?_
  refine lv_iadd hx hb dd_LW_law_206 ?_
  refine va_sld hx hb hXs hbl hbA hS (sin3 hi hL) dd_LW_law_207 ?_
  refine lv_i2l hx hb dd_LW_law_208 rfl ?_
  refine lv_bipush (v := 32) hx hb dd_LW_law_209 (by decide) ?_
  refine lv_lshl hx hb dd_LW_law_211 rfl ?_
  refine lv_aload_n hx hb dd_LW_law_212 rfl (lv_at hl 5 rfl) ?_
  refine lv_iload hx hb dd_LW_law_213 (lv_at hl 1 rfl) ?_
  refine lv_iconst (v := 4) hx hb dd_LW_law_215 (by decide) ?_
  refine lv_iadd hx hb dd_LW_law_216 ?_
  refine va_sld hx hb hXs hbl hbA hS (sin4 hi hL) dd_LW_law_217 ?_
  refine lv_i2l hx hb dd_LW_law_218 rfl ?_
  refine lv_ldc2 (v := 4294967295) hx hb hown (hT _ tw_434) dd_LW_law_219 ?_
  refine lv_land hx hb dd_LW_law_222 ?_
  refine lv_lor hx hb dd_LW_law_223 ?_
  refine lv_topl (fun b2 eb2 => ?_)
  obtain rfl : a2 = b2 := ea2.trans eb2.symm
  refine MT.callV (c_MO_add l D cI cL hm len n cl 0 th ca wa a1 a2 hlen hn) vs_LW_64 ⟨hx, hb, hml, hown, hT⟩ ⟨hK, hX, hSK _ _ hS, hP, hD, hS, hA⟩ (⟨rfl, rfl, rfl, rfl, rfl, by decide⟩ : tq_J _ _ ((o, .inl (cL, 1, .inr (.inl f1))) :: wX cI cL h g1 (mAdd len n ca wa cl a1 a2).2.2.2.2.2 len (mAdd len n ca wa cl a1 a2).2.2.1 (mAdd len n ca wa cl a1 a2).2.2.2.1 (mAdd len n ca wa cl a1 a2).2.2.2.2.1 z1) [0, 1, 2] [3, 4, 5, 6, 7, 8, 9, 10, 11, 12]) 0 rfl rfl (by decide) rfl hl.1 rfl (Nat.le_of_ble_eq_true rfl) dd_LW_law_224 ⟨hc, hs⟩ (fun v u H locs hp hP hD hS => ?_) (fun x C u H locs hp hxf hP hD hS => hp.elim)
  obtain ⟨rb, rfl, hrb, rfl⟩ := hp
  have hP : va_P D classes (wM cL hm len (mAdd len n ca wa cl a1 a2).2.2.1 (mAdd len n ca wa cl a1 a2).2.2.2.2.2 0 (mAdd len n ca wa cl a1 a2).1 (mAdd len n ca wa cl a1 a2).2.2.2.1 (mAdd len n ca wa cl a1 a2).2.2.2.2.1 ++ ((o, .inl (cL, 1, .inr (.inl f1))) :: wX cI cL h g1 (mAdd len n ca wa cl a1 a2).2.2.2.2.2 len (mAdd len n ca wa cl a1 a2).2.2.1 (mAdd len n ca wa cl a1 a2).2.2.2.1 (mAdd len n ca wa cl a1 a2).2.2.2.2.1 z1)) H := va_P.swap (a := []) (b := (o, .inl (cL, 1, .inr (.inl f1))) :: wX cI cL h g1 (mAdd len n ca wa cl a1 a2).2.2.2.2.2 len (mAdd len n ca wa cl a1 a2).2.2.1 (mAdd len n ca wa cl a1 a2).2.2.2.1 (mAdd len n ca wa cl a1 a2).2.2.2.2.1 z1) (c := wM cL hm len (mAdd len n ca wa cl a1 a2).2.2.1 (mAdd len n ca wa cl a1 a2).2.2.2.2.2 0 (mAdd len n ca wa cl a1 a2).1 (mAdd len n ca wa cl a1 a2).2.2.2.1 (mAdd len n ca wa cl a1 a2).2.2.2.2.1) hP
  have hD : va_D (AL s) (wM cL hm len (mAdd len n ca wa cl a1 a2).2.2.1 (mAdd len n ca wa cl a1 a2).2.2.2.2.2 0 (mAdd len n ca wa cl a1 a2).1 (mAdd len n ca wa cl a1 a2).2.2.2.1 (mAdd len n ca wa cl a1 a2).2.2.2.2.1 ++ ((o, .inl (cL, 1, .inr (.inl f1))) :: wX cI cL h g1 (mAdd len n ca wa cl a1 a2).2.2.2.2.2 len (mAdd len n ca wa cl a1 a2).2.2.1 (mAdd len n ca wa cl a1 a2).2.2.2.1 (mAdd len n ca wa cl a1 a2).2.2.2.2.1 z1)) := va_D.swap (a := []) (b := (o, .inl (cL, 1, .inr (.inl f1))) :: wX cI cL h g1 (mAdd len n ca wa cl a1 a2).2.2.2.2.2 len (mAdd len n ca wa cl a1 a2).2.2.1 (mAdd len n ca wa cl a1 a2).2.2.2.1 (mAdd len n ca wa cl a1 a2).2.2.2.2.1 z1) (c := wM cL hm len (mAdd len n ca wa cl a1 a2).2.2.1 (mAdd len n ca wa cl a1 a2).2.2.2.2.2 0 (mAdd len n ca wa cl a1 a2).1 (mAdd len n ca wa cl a1 a2).2.2.2.1 (mAdd len n ca wa cl a1 a2).2.2.2.2.1) hD
  refine lv_topi (fun v227 e227 => ?_)
  obtain rfl : rb = v227 := (e227).symm
  refine lv_istore hx hb dd_LW_law_227 hl (by decide) rfl (fun ls hl => ?_)
  have hl : lv_has ls 8 [(6, .int rb), (5, .int r1), (4, .int (nI i)), (3, .ref o), (2, .ref (hm 0)), (1, .ref (h 0)), (0, .ref b)] := hl
  refine lv_aload_n hx hb dd_LW_law_229 rfl (lv_at hl 4 rfl) ?_
  refine RdI.callV (c_MO_thrown l D cI cL hm len (mAdd len n ca wa cl a1 a2).2.2.1 (mAdd len n ca wa cl a1 a2).2.2.2.2.2 0 (mAdd len n ca wa cl a1 a2).1 (mAdd len n ca wa cl a1 a2).2.2.2.1 (mAdd len n ca wa cl a1 a2).2.2.2.2.1) vs_LW_55 ⟨hx, hb, hml, hown, hT⟩ hK (hP.sub (ws' := wM cL hm len (mAdd len n ca wa cl a1 a2).2.2.1 (mAdd len n ca wa cl a1 a2).2.2.2.2.2 0 (mAdd len n ca wa cl a1 a2).1 (mAdd len n ca wa cl a1 a2).2.2.2.1 (mAdd len n ca wa cl a1 a2).2.2.2.2.1) [0, 1, 2] rfl) 0 rfl rfl ⟨rfl, rfl⟩ (by decide) rfl hl.1 rfl (Nat.le_of_ble_eq_true rfl) dd_LW_law_230 ⟨hc, hs⟩ (fun r hr => ?_)
  subst hr
  refine lv_iload hx hb dd_LW_law_233 (lv_at hl 1 rfl) ?_
  refine lv_icmp_eq (tgt := 240) hx hb dd_LW_law_235 (by decide) (fun hc1 => ?_) (fun hc1 => ?_)
  · refine lv_iload hx hb dd_LW_law_240 (lv_at hl 1 rfl) ?_
    refine lv_if_ne (tgt := 257) hx hb dd_LW_law_242 (by decide) (fun h0 => ?_) (fun h0 => ?_)
    · refine lv_goto (tgt := 883) hx hb dd_LW_law_257 (by decide) ?_
      exact kk g1 (mAdd len n ca wa cl a1 a2).2.2.2.2.2 len (mAdd len n ca wa cl a1 a2).2.2.1 (mAdd len n ca wa cl a1 a2).2.2.2.1 (mAdd len n ca wa cl a1 a2).2.2.2.2.1 z1 f1 (mAdd len n ca wa cl a1 a2).1 H locs ls hIu hP hD hS (lv_sub hl [2, 3, 4, 5, 6] rfl)
    · refine lv_aload_n hx hb dd_LW_law_245 rfl (lv_at hl 3 rfl) ?_
      refine lv_iconst (v := 0) hx hb dd_LW_law_246 (by decide) ?_
      refine tq_lald (k := 0) hx hb hK hP 3 rfl (by decide) (by decide) dd_LW_law_247 ?_
      refine lv_iload hx hb dd_LW_law_248 (lv_at hl 0 rfl) ?_
      refine lv_i2l hx hb dd_LW_law_250 rfl ?_
      refine tq_leq (tgt := 257) hx hb dd_LW_law_251 dd_LW_law_252 (by decide) (fun hne => ?_) (fun hne => ?_)
      · refine lv_goto (tgt := 883) hx hb dd_LW_law_257 (by decide) ?_
        exact kk g1 (mAdd len n ca wa cl a1 a2).2.2.2.2.2 len (mAdd len n ca wa cl a1 a2).2.2.1 (mAdd len n ca wa cl a1 a2).2.2.2.1 (mAdd len n ca wa cl a1 a2).2.2.2.2.1 z1 f1 (mAdd len n ca wa cl a1 a2).1 H locs ls hIu hP hD hS (lv_sub hl [2, 3, 4, 5, 6] rfl)
      · exact absurd (by rw [hrb]; exact hans (hr1.symm.trans h0)) hne
  · exact absurd hr1.symm hc1
set_option maxRecDepth 20000 in
theorem arm_2 {p : Program} {l : Launch} {e : Env} {s : State} {m : MethodId} {below : List Frame} {meth : Method} {c : Code} {b L : Nat} {xs : Nat → Int32} {D : va_G} {cI cL : ClassId} {Q : State → Prop} (E : lw_E p l s m c b L xs D cI cL) {h hm : Nat → Nat} {o i : Nat} (hi : i + 5 ≤ L) {g cl : Int32} {len n : Nat} {ca wa : Nat → Int64} {z : ZT} {f : Nat → Int64} {th : Int32} (hI : IV (len, n, ca, wa, cl, g, z))
    {H : Heap} {locs : List Loc} {ls : Array Slot} {cells slots : Nat} (hP : va_P D classes (wA cI cL h hm o g cl len n ca wa z f th) H) (hD : va_D (AL s) (wA cI cL h hm o g cl len n ca wa z f th)) (hS : va_S (AL s) s.heap H locs) (hl : lv_has ls 8 (LOC h hm o b i)) (hc : cells + 2 ≤ 601024) (hs : slots + 12 ≤ 7293034)
    (kk : lw_N p l e s m below meth c b D cI cL h hm o i cells slots Q) : W p l e room_1 s m #[Value.ref b] below meth c H locs cells slots Q (F0 m 260 ls []) := by
  obtain ⟨hx, hb, hml, hown, hT, hK, hX, hXs, hbl, hfl, hL⟩ := E
  have hA : ∀ q, s.heap.size ≤ q → AL s q := fun _ h9 => h9
  have hSK := @lw_SK s
  have hbA : ¬ AL s b := Nat.not_le.mpr hbl
  have hlen : len ≤ 64 := hI.1.1.2
  have hn : n ≤ 512 := hI.1.2.1
  have hg : g = 0 ∨ g = 1 ∧ GT len n ca wa z := hI.2
  have hl : lv_has ls 8 [(4, .int (nI i)), (3, .ref o), (2, .ref (hm 0)), (1, .ref (h 0)), (0, .ref b)] := hl
  skip
  refine lv_aload_n hx hb dd_LW_law_260 rfl (lv_at hl 3 rfl) ?_
  refine lv_aload_n hx hb dd_LW_law_261 rfl (lv_at hl 4 rfl) ?_
  refine lv_iload hx hb dd_LW_law_262 (lv_at hl 0 rfl) ?_
  refine lv_iconst (v := 1) hx hb dd_LW_law_264 (by decide) ?_
  refine lv_iadd hx hb dd_LW_law_265 ?_
  refine va_sld hx hb hXs hbl hbA hS (sin1 hi hL) dd_LW_law_266 ?_
  refine lv_i2l hx hb dd_LW_law_267 rfl ?_
  refine lv_bipush (v := 32) hx hb dd_LW_law_268 (by decide) ?_
  refine lv_lshl hx hb dd_LW_law_270 rfl ?_
  refine lv_aload_n hx hb dd_LW_law_271 rfl (lv_at hl 4 rfl) ?_
  refine lv_iload hx hb dd_LW_law_272 (lv_at hl 0 rfl) ?_
  refine lv_iconst (v := 2) hx hb dd_LW_law_274 (by decide) ?_
  refine lv_iadd hx hb dd_LW_law_275 ?_
  refine va_sld hx hb hXs hbl hbA hS (sin2 hi hL) dd_LW_law_276 ?_
  refine lv_i2l hx hb dd_LW_law_277 rfl ?_
  refine lv_ldc2 (v := 4294967295) hx hb hown (hT _ tw_434) dd_LW_law_278 ?_
  refine lv_land hx hb dd_LW_law_281 ?_
  refine lv_lor hx hb dd_LW_law_282 ?_
  refine lv_topl (fun a1 ea1 => ?_)
  refine lv_aload_n hx hb dd_LW_law_283 rfl (lv_at hl 1 rfl) ?_
  have C9 := c_LW_signs l D cI cL h g cl len n ca wa z o f a1 hfl hI
  rw [signs_eq hlen] at C9
  refine MT.callS (C9) ss_LW_65 ⟨hx, hb, hml, hown, hT⟩ ⟨hK, hX, hSK _ _ hS, hP, hD, hS, hA⟩ (⟨rfl, rfl, rfl, rfl, rfl, by decide⟩ : tq_J _ _ (wM cL hm len n cl 0 th ca wa) [3, 4, 5, 6, 7, 8, 9, 10, 11, 12] [0, 1, 2]) (by decide) rfl hl.1 rfl (Nat.le_of_ble_eq_true rfl) dd_LW_law_284 ⟨hc, hs⟩ (fun v u H locs hp hP hD hS => ?_) (fun x C u H locs hp hxf hP hD hS => hp.elim)
  obtain ⟨r1, rfl, hr1, hans, g1, z1, hu, hIu⟩ := hp
  obtain ⟨u1, f1⟩ := u
  have hu : u1 = _ := hu
  subst hu
  have hans : _ → f1 0 = _ := hans
  have hP : va_P D classes (wM cL hm len n cl 0 th ca wa ++ ((o, .inl (cL, 1, .inr (.inl f1))) :: wX cI cL h g1 (mSigns len n ca wa cl a1).2.2.2.2.2 len (mSigns len n ca wa cl a1).2.2.1 (mSigns len n ca wa cl a1).2.2.2.1 (mSigns len n ca wa cl a1).2.2.2.2.1 z1)) H := hP
  have hD : va_D (AL s) (wM cL hm len n cl 0 th ca wa ++ ((o, .inl (cL, 1, .inr (.inl f1))) :: wX cI cL h g1 (mSigns len n ca wa cl a1).2.2.2.2.2 len (mSigns len n ca wa cl a1).2.2.1 (mSigns len n ca wa cl a1).2.2.2.1 (mSigns len n ca wa cl a1).2.2.2.2.1 z1)) := hD
  refine lv_topi (fun v287 e287 => ?_)
  obtain rfl : r1 = v287 := (e287).symm
  refine lv_istore hx hb dd_LW_law_287 hl (by decide) rfl (fun ls hl => ?_)
  have hl : lv_has ls 8 [(5, .int r1), (4, .int (nI i)), (3, .ref o), (2, .ref (hm 0)), (1, .ref (h 0)), (0, .ref b)] := hl
  refine lv_aload_n hx hb dd_LW_law_289 rfl (lv_at hl 3 rfl) ?_
  refine lv_aload_n hx hb dd_LW_law_290 rfl (lv_at hl 5 rfl) ?_
  refine lv_iload hx hb dd_LW_law_291 (lv_at hl 1 rfl) ?_
  refine lv_iconst (v := 1) hx hb dd_LW_law_293 (by decide) ?_
  refine lv_iadd hx hb dd_LW_law_294 ?_
  refine va_sld hx hb hXs hbl hbA hS (sin1 hi hL) dd_LW_law_295 ?_
  refine lv_i2l hx hb dd_LW_law_296 rfl ?_
  refine lv_bipush (v := 32) hx hb dd_LW_law_297 (by decide) ?_
  refine lv_lshl hx hb dd_LW_law_299 rfl ?_
  refine lv_aload_n hx hb dd_LW_law_300 rfl (lv_at hl 5 rfl) ?_
  refine lv_iload hx hb dd_LW_law_301 (lv_at hl 1 rfl) ?_
  refine lv_iconst (v := 2) hx hb dd_LW_law_303 (by decide) ?_
  refine lv_iadd hx hb dd_LW_law_304 ?_
  refine va_sld hx hb hXs hbl hbA hS (sin2 hi hL) dd_LW_law_305 ?_
  refine lv_i2l hx hb dd_LW_law_306 rfl ?_
  refine lv_ldc2 (v := 4294967295) hx hb hown (hT _ tw_434) dd_LW_law_307 ?_
  refine lv_land hx hb dd_LW_law_310 ?_
  refine lv_lor hx hb dd_LW_law_311 ?_
  refine lv_topl (fun b1 eb1 => ?_)
  obtain rfl : a1 = b1 := ea1.trans eb1.symm
  refine MT.callV (c_MO_signs l D cI cL hm len n cl 0 th ca wa a1 hlen hn) vs_LW_68 ⟨hx, hb, hml, hown, hT⟩ ⟨hK, hX, hSK _ _ hS, hP, hD, hS, hA⟩ (⟨rfl, rfl, rfl, rfl, rfl, by decide⟩ : tq_J _ _ ((o, .inl (cL, 1, .inr (.inl f1))) :: wX cI cL h g1 (mSigns len n ca wa cl a1).2.2.2.2.2 len (mSigns len n ca wa cl a1).2.2.1 (mSigns len n ca wa cl a1).2.2.2.1 (mSigns len n ca wa cl a1).2.2.2.2.1 z1) [0, 1, 2] [3, 4, 5, 6, 7, 8, 9, 10, 11, 12]) 0 rfl rfl (by decide) rfl hl.1 rfl (Nat.le_of_ble_eq_true rfl) dd_LW_law_312 ⟨hc, hs⟩ (fun v u H locs hp hP hD hS => ?_) (fun x C u H locs hp hxf hP hD hS => hp.elim)
  obtain ⟨rb, rfl, hrb, rfl⟩ := hp
  have hP : va_P D classes (wM cL hm len (mSigns len n ca wa cl a1).2.2.1 (mSigns len n ca wa cl a1).2.2.2.2.2 0 (mSigns len n ca wa cl a1).1 (mSigns len n ca wa cl a1).2.2.2.1 (mSigns len n ca wa cl a1).2.2.2.2.1 ++ ((o, .inl (cL, 1, .inr (.inl f1))) :: wX cI cL h g1 (mSigns len n ca wa cl a1).2.2.2.2.2 len (mSigns len n ca wa cl a1).2.2.1 (mSigns len n ca wa cl a1).2.2.2.1 (mSigns len n ca wa cl a1).2.2.2.2.1 z1)) H := va_P.swap (a := []) (b := (o, .inl (cL, 1, .inr (.inl f1))) :: wX cI cL h g1 (mSigns len n ca wa cl a1).2.2.2.2.2 len (mSigns len n ca wa cl a1).2.2.1 (mSigns len n ca wa cl a1).2.2.2.1 (mSigns len n ca wa cl a1).2.2.2.2.1 z1) (c := wM cL hm len (mSigns len n ca wa cl a1).2.2.1 (mSigns len n ca wa cl a1).2.2.2.2.2 0 (mSigns len n ca wa cl a1).1 (mSigns len n ca wa cl a1).2.2.2.1 (mSigns len n ca wa cl a1).2.2.2.2.1) hP
  have hD : va_D (AL s) (wM cL hm len (mSigns len n ca wa cl a1).2.2.1 (mSigns len n ca wa cl a1).2.2.2.2.2 0 (mSigns len n ca wa cl a1).1 (mSigns len n ca wa cl a1).2.2.2.1 (mSigns len n ca wa cl a1).2.2.2.2.1 ++ ((o, .inl (cL, 1, .inr (.inl f1))) :: wX cI cL h g1 (mSigns len n ca wa cl a1).2.2.2.2.2 len (mSigns len n ca wa cl a1).2.2.1 (mSigns len n ca wa cl a1).2.2.2.1 (mSigns len n ca wa cl a1).2.2.2.2.1 z1)) := va_D.swap (a := []) (b := (o, .inl (cL, 1, .inr (.inl f1))) :: wX cI cL h g1 (mSigns len n ca wa cl a1).2.2.2.2.2 len (mSigns len n ca wa cl a1).2.2.1 (mSigns len n ca wa cl a1).2.2.2.1 (mSigns len n ca wa cl a1).2.2.2.2.1 z1) (c := wM cL hm len (mSigns len n ca wa cl a1).2.2.1 (mSigns len n ca wa cl a1).2.2.2.2.2 0 (mSigns len n ca wa cl a1).1 (mSigns len n ca wa cl a1).2.2.2.1 (mSigns len n ca wa cl a1).2.2.2.2.1) hD
  refine lv_topi (fun v315 e315 => ?_)
  obtain rfl : rb = v315 := (e315).symm
  refine lv_istore hx hb dd_LW_law_315 hl (by decide) rfl (fun ls hl => ?_)
  have hl : lv_has ls 8 [(6, .int rb), (5, .int r1), (4, .int (nI i)), (3, .ref o), (2, .ref (hm 0)), (1, .ref (h 0)), (0, .ref b)] := hl
  refine lv_aload_n hx hb dd_LW_law_317 rfl (lv_at hl 4 rfl) ?_
  refine RdI.callV (c_MO_thrown l D cI cL hm len (mSigns len n ca wa cl a1).2.2.1 (mSigns len n ca wa cl a1).2.2.2.2.2 0 (mSigns len n ca wa cl a1).1 (mSigns len n ca wa cl a1).2.2.2.1 (mSigns len n ca wa cl a1).2.2.2.2.1) vs_LW_55 ⟨hx, hb, hml, hown, hT⟩ hK (hP.sub (ws' := wM cL hm len (mSigns len n ca wa cl a1).2.2.1 (mSigns len n ca wa cl a1).2.2.2.2.2 0 (mSigns len n ca wa cl a1).1 (mSigns len n ca wa cl a1).2.2.2.1 (mSigns len n ca wa cl a1).2.2.2.2.1) [0, 1, 2] rfl) 0 rfl rfl ⟨rfl, rfl⟩ (by decide) rfl hl.1 rfl (Nat.le_of_ble_eq_true rfl) dd_LW_law_318 ⟨hc, hs⟩ (fun r hr => ?_)
  subst hr
  refine lv_iload hx hb dd_LW_law_321 (lv_at hl 1 rfl) ?_
  refine lv_icmp_eq (tgt := 328) hx hb dd_LW_law_323 (by decide) (fun hc1 => ?_) (fun hc1 => ?_)
  · refine lv_iload hx hb dd_LW_law_328 (lv_at hl 1 rfl) ?_
    refine lv_if_ne (tgt := 345) hx hb dd_LW_law_330 (by decide) (fun h0 => ?_) (fun h0 => ?_)
    · refine lv_goto (tgt := 883) hx hb dd_LW_law_345 (by decide) ?_
      exact kk g1 (mSigns len n ca wa cl a1).2.2.2.2.2 len (mSigns len n ca wa cl a1).2.2.1 (mSigns len n ca wa cl a1).2.2.2.1 (mSigns len n ca wa cl a1).2.2.2.2.1 z1 f1 (mSigns len n ca wa cl a1).1 H locs ls hIu hP hD hS (lv_sub hl [2, 3, 4, 5, 6] rfl)
    · refine lv_aload_n hx hb dd_LW_law_333 rfl (lv_at hl 3 rfl) ?_
      refine lv_iconst (v := 0) hx hb dd_LW_law_334 (by decide) ?_
      refine tq_lald (k := 0) hx hb hK hP 3 rfl (by decide) (by decide) dd_LW_law_335 ?_
      refine lv_iload hx hb dd_LW_law_336 (lv_at hl 0 rfl) ?_
      refine lv_i2l hx hb dd_LW_law_338 rfl ?_
      refine tq_leq (tgt := 345) hx hb dd_LW_law_339 dd_LW_law_340 (by decide) (fun hne => ?_) (fun hne => ?_)
      · refine lv_goto (tgt := 883) hx hb dd_LW_law_345 (by decide) ?_
        exact kk g1 (mSigns len n ca wa cl a1).2.2.2.2.2 len (mSigns len n ca wa cl a1).2.2.1 (mSigns len n ca wa cl a1).2.2.2.1 (mSigns len n ca wa cl a1).2.2.2.2.1 z1 f1 (mSigns len n ca wa cl a1).1 H locs ls hIu hP hD hS (lv_sub hl [2, 3, 4, 5, 6] rfl)
      · exact absurd (by rw [hrb]; exact hans (hr1.symm.trans h0)) hne
  · exact absurd hr1.symm hc1
set_option maxRecDepth 20000 in
theorem arm_3 {p : Program} {l : Launch} {e : Env} {s : State} {m : MethodId} {below : List Frame} {meth : Method} {c : Code} {b L : Nat} {xs : Nat → Int32} {D : va_G} {cI cL : ClassId} {Q : State → Prop} (E : lw_E p l s m c b L xs D cI cL) {h hm : Nat → Nat} {o i : Nat} (hi : i + 5 ≤ L) {g cl : Int32} {len n : Nat} {ca wa : Nat → Int64} {z : ZT} {f : Nat → Int64} {th : Int32} (hI : IV (len, n, ca, wa, cl, g, z))
    {H : Heap} {locs : List Loc} {ls : Array Slot} {cells slots : Nat} (hP : va_P D classes (wA cI cL h hm o g cl len n ca wa z f th) H) (hD : va_D (AL s) (wA cI cL h hm o g cl len n ca wa z f th)) (hS : va_S (AL s) s.heap H locs) (hl : lv_has ls 8 (LOC h hm o b i)) (hc : cells + 2 ≤ 601024) (hs : slots + 12 ≤ 7293034)
    (kk : lw_N p l e s m below meth c b D cI cL h hm o i cells slots Q) : W p l e room_1 s m #[Value.ref b] below meth c H locs cells slots Q (F0 m 348 ls []) := by
  obtain ⟨hx, hb, hml, hown, hT, hK, hX, hXs, hbl, hfl, hL⟩ := E
  have hA : ∀ q, s.heap.size ≤ q → AL s q := fun _ h9 => h9
  have hSK := @lw_SK s
  have hbA : ¬ AL s b := Nat.not_le.mpr hbl
  have hlen : len ≤ 64 := hI.1.1.2
  have hn : n ≤ 512 := hI.1.2.1
  have hg : g = 0 ∨ g = 1 ∧ GT len n ca wa z := hI.2
  have hl : lv_has ls 8 [(4, .int (nI i)), (3, .ref o), (2, .ref (hm 0)), (1, .ref (h 0)), (0, .ref b)] := hl
  skip
  refine lv_aload_n hx hb dd_LW_law_348 rfl (lv_at hl 3 rfl) ?_
  refine lv_aload_n hx hb dd_LW_law_349 rfl (lv_at hl 4 rfl) ?_
  refine lv_iload hx hb dd_LW_law_350 (lv_at hl 0 rfl) ?_
  refine lv_iconst (v := 1) hx hb dd_LW_law_352 (by decide) ?_
  refine lv_iadd hx hb dd_LW_law_353 ?_
  refine va_sld hx hb hXs hbl hbA hS (sin1 hi hL) dd_LW_law_354 ?_
  refine lv_topi (fun a1 ea1 => ?_)
  have C9 := c_LW_drop l D cI cL h g cl len n ca wa z o f a1 hfl hI
  refine MT.callS (C9) ss_LW_69 ⟨hx, hb, hml, hown, hT⟩ ⟨hK, hX, hSK _ _ hS, hP, hD, hS, hA⟩ (⟨rfl, rfl, rfl, rfl, rfl, by decide⟩ : tq_J _ _ (wM cL hm len n cl 0 th ca wa) [3, 4, 5, 6, 7, 8, 9, 10, 11, 12] [0, 1, 2]) (by decide) rfl hl.1 rfl (Nat.le_of_ble_eq_true rfl) dd_LW_law_355 ⟨hc, hs⟩ (fun v u H locs hp hP hD hS => ?_) (fun x C u H locs hp hxf hP hD hS => hp.elim)
  obtain ⟨r1, rfl, hr1, g1, z1, hu, hIu⟩ := hp
  obtain ⟨u1, f1⟩ := u
  have hu : u1 = _ := hu
  subst hu
  have hP : va_P D classes (wM cL hm len n cl 0 th ca wa ++ ((o, .inl (cL, 1, .inr (.inl f1))) :: wX cI cL h g1 cl len (sDrop n ca wa a1).2.1 (sDrop n ca wa a1).2.2.1 (sDrop n ca wa a1).2.2.2 z1)) H := hP
  have hD : va_D (AL s) (wM cL hm len n cl 0 th ca wa ++ ((o, .inl (cL, 1, .inr (.inl f1))) :: wX cI cL h g1 cl len (sDrop n ca wa a1).2.1 (sDrop n ca wa a1).2.2.1 (sDrop n ca wa a1).2.2.2 z1)) := hD
  refine lv_topi (fun v358 e358 => ?_)
  obtain rfl : r1 = v358 := (e358).symm
  refine lv_istore hx hb dd_LW_law_358 hl (by decide) rfl (fun ls hl => ?_)
  have hl : lv_has ls 8 [(5, .int r1), (4, .int (nI i)), (3, .ref o), (2, .ref (hm 0)), (1, .ref (h 0)), (0, .ref b)] := hl
  refine lv_aload_n hx hb dd_LW_law_360 rfl (lv_at hl 3 rfl) ?_
  refine lv_aload_n hx hb dd_LW_law_361 rfl (lv_at hl 5 rfl) ?_
  refine lv_iload hx hb dd_LW_law_362 (lv_at hl 1 rfl) ?_
  refine lv_iconst (v := 1) hx hb dd_LW_law_364 (by decide) ?_
  refine lv_iadd hx hb dd_LW_law_365 ?_
  refine va_sld hx hb hXs hbl hbA hS (sin1 hi hL) dd_LW_law_366 ?_
  refine lv_topi (fun b1 eb1 => ?_)
  obtain rfl : a1 = b1 := ea1.trans eb1.symm
  refine MT.callV (c_MO_drop l D cI cL hm len n cl 0 th ca wa a1 hn) vs_LW_71 ⟨hx, hb, hml, hown, hT⟩ ⟨hK, hX, hSK _ _ hS, hP, hD, hS, hA⟩ (⟨rfl, rfl, rfl, rfl, rfl, by decide⟩ : tq_J _ _ ((o, .inl (cL, 1, .inr (.inl f1))) :: wX cI cL h g1 cl len (sDrop n ca wa a1).2.1 (sDrop n ca wa a1).2.2.1 (sDrop n ca wa a1).2.2.2 z1) [0, 1, 2] [3, 4, 5, 6, 7, 8, 9, 10, 11, 12]) 0 rfl rfl (by decide) rfl hl.1 rfl (Nat.le_of_ble_eq_true rfl) dd_LW_law_367 ⟨hc, hs⟩ (fun v u H locs hp hP hD hS => ?_) (fun x C u H locs hp hxf hP hD hS => hp.elim)
  obtain ⟨rfl, rfl⟩ := hp
  have hP : va_P D classes (wM cL hm len (sDrop n ca wa a1).2.1 cl 0 (sDrop n ca wa a1).1 (sDrop n ca wa a1).2.2.1 (sDrop n ca wa a1).2.2.2 ++ ((o, .inl (cL, 1, .inr (.inl f1))) :: wX cI cL h g1 cl len (sDrop n ca wa a1).2.1 (sDrop n ca wa a1).2.2.1 (sDrop n ca wa a1).2.2.2 z1)) H := va_P.swap (a := []) (b := (o, .inl (cL, 1, .inr (.inl f1))) :: wX cI cL h g1 cl len (sDrop n ca wa a1).2.1 (sDrop n ca wa a1).2.2.1 (sDrop n ca wa a1).2.2.2 z1) (c := wM cL hm len (sDrop n ca wa a1).2.1 cl 0 (sDrop n ca wa a1).1 (sDrop n ca wa a1).2.2.1 (sDrop n ca wa a1).2.2.2) hP
  have hD : va_D (AL s) (wM cL hm len (sDrop n ca wa a1).2.1 cl 0 (sDrop n ca wa a1).1 (sDrop n ca wa a1).2.2.1 (sDrop n ca wa a1).2.2.2 ++ ((o, .inl (cL, 1, .inr (.inl f1))) :: wX cI cL h g1 cl len (sDrop n ca wa a1).2.1 (sDrop n ca wa a1).2.2.1 (sDrop n ca wa a1).2.2.2 z1)) := va_D.swap (a := []) (b := (o, .inl (cL, 1, .inr (.inl f1))) :: wX cI cL h g1 cl len (sDrop n ca wa a1).2.1 (sDrop n ca wa a1).2.2.1 (sDrop n ca wa a1).2.2.2 z1) (c := wM cL hm len (sDrop n ca wa a1).2.1 cl 0 (sDrop n ca wa a1).1 (sDrop n ca wa a1).2.2.1 (sDrop n ca wa a1).2.2.2) hD
  refine lv_aload_n hx hb dd_LW_law_370 rfl (lv_at hl 3 rfl) ?_
  refine RdI.callV (c_MO_thrown l D cI cL hm len (sDrop n ca wa a1).2.1 cl 0 (sDrop n ca wa a1).1 (sDrop n ca wa a1).2.2.1 (sDrop n ca wa a1).2.2.2) vs_LW_55 ⟨hx, hb, hml, hown, hT⟩ hK (hP.sub (ws' := wM cL hm len (sDrop n ca wa a1).2.1 cl 0 (sDrop n ca wa a1).1 (sDrop n ca wa a1).2.2.1 (sDrop n ca wa a1).2.2.2) [0, 1, 2] rfl) 0 rfl rfl ⟨rfl, rfl⟩ (by decide) rfl hl.1 rfl (Nat.le_of_ble_eq_true rfl) dd_LW_law_371 ⟨hc, hs⟩ (fun r hr => ?_)
  subst hr
  refine lv_iload hx hb dd_LW_law_374 (lv_at hl 0 rfl) ?_
  refine lv_icmp_eq (tgt := 381) hx hb dd_LW_law_376 (by decide) (fun hc1 => ?_) (fun hc1 => ?_)
  · refine lv_goto (tgt := 883) hx hb dd_LW_law_381 (by decide) ?_
    exact kk g1 cl len (sDrop n ca wa a1).2.1 (sDrop n ca wa a1).2.2.1 (sDrop n ca wa a1).2.2.2 z1 f1 (sDrop n ca wa a1).1 H locs ls hIu hP hD hS (lv_sub hl [1, 2, 3, 4, 5] rfl)
  · exact absurd hr1.symm hc1
set_option maxRecDepth 20000 in
theorem arm_5 {p : Program} {l : Launch} {e : Env} {s : State} {m : MethodId} {below : List Frame} {meth : Method} {c : Code} {b L : Nat} {xs : Nat → Int32} {D : va_G} {cI cL : ClassId} {Q : State → Prop} (E : lw_E p l s m c b L xs D cI cL) {h hm : Nat → Nat} {o i : Nat} (hi : i + 5 ≤ L) {g cl : Int32} {len n : Nat} {ca wa : Nat → Int64} {z : ZT} {f : Nat → Int64} {th : Int32} (hI : IV (len, n, ca, wa, cl, g, z))
    {H : Heap} {locs : List Loc} {ls : Array Slot} {cells slots : Nat} (hP : va_P D classes (wA cI cL h hm o g cl len n ca wa z f th) H) (hD : va_D (AL s) (wA cI cL h hm o g cl len n ca wa z f th)) (hS : va_S (AL s) s.heap H locs) (hl : lv_has ls 8 (LOC h hm o b i)) (hc : cells + 2 ≤ 601024) (hs : slots + 12 ≤ 7293034)
    (kk : lw_N p l e s m below meth c b D cI cL h hm o i cells slots Q) : W p l e room_1 s m #[Value.ref b] below meth c H locs cells slots Q (F0 m 441 ls []) := by
  obtain ⟨hx, hb, hml, hown, hT, hK, hX, hXs, hbl, hfl, hL⟩ := E
  have hA : ∀ q, s.heap.size ≤ q → AL s q := fun _ h9 => h9
  have hSK := @lw_SK s
  have hbA : ¬ AL s b := Nat.not_le.mpr hbl
  have hlen : len ≤ 64 := hI.1.1.2
  have hn : n ≤ 512 := hI.1.2.1
  have hg : g = 0 ∨ g = 1 ∧ GT len n ca wa z := hI.2
  have hl : lv_has ls 8 [(4, .int (nI i)), (3, .ref o), (2, .ref (hm 0)), (1, .ref (h 0)), (0, .ref b)] := hl
  skip
  refine lv_aload_n hx hb dd_LW_law_441 rfl (lv_at hl 3 rfl) ?_
  refine lv_aload_n hx hb dd_LW_law_442 rfl (lv_at hl 4 rfl) ?_
  refine lv_iload hx hb dd_LW_law_443 (lv_at hl 0 rfl) ?_
  refine lv_iconst (v := 1) hx hb dd_LW_law_445 (by decide) ?_
  refine lv_iadd hx hb dd_LW_law_446 ?_
  refine va_sld hx hb hXs hbl hbA hS (sin1 hi hL) dd_LW_law_447 ?_
  refine lv_i2l hx hb dd_LW_law_448 rfl ?_
  refine lv_bipush (v := 32) hx hb dd_LW_law_449 (by decide) ?_
  refine lv_lshl hx hb dd_LW_law_451 rfl ?_
  refine lv_aload_n hx hb dd_LW_law_452 rfl (lv_at hl 4 rfl) ?_
  refine lv_iload hx hb dd_LW_law_453 (lv_at hl 0 rfl) ?_
  refine lv_iconst (v := 2) hx hb dd_LW_law_455 (by decide) ?_
  refine lv_iadd hx hb dd_LW_law_456 ?_
  refine va_sld hx hb hXs hbl hbA hS (sin2 hi hL) dd_LW_law_457 ?_
  refine lv_i2l hx hb dd_LW_law_458 rfl ?_
  refine lv_ldc2 (v := 4294967295) hx hb hown (hT _ tw_434) dd_LW_law_459 ?_
  refine lv_land hx hb dd_LW_law_462 ?_
  refine lv_lor hx hb dd_LW_law_463 ?_
  refine lv_topl (fun a1 ea1 => ?_)
  refine lv_aload_n hx hb dd_LW_law_464 rfl (lv_at hl 4 rfl) ?_
  refine lv_iload hx hb dd_LW_law_465 (lv_at hl 0 rfl) ?_
  refine lv_iconst (v := 3) hx hb dd_LW_law_467 (by decide) ?_
  refine lv_iadd hx hb dd_LW_law_468 ?_
  refine va_sld hx hb hXs hbl hbA hS (sin3 hi hL) dd_LW_law_469 ?_
  refine lv_i2l hx hb dd_LW_law_470 rfl ?_
  refine lv_bipush (v := 32) hx hb dd_LW_law_471 (by decide) ?_
  refine lv_lshl hx hb dd_LW_law_473 rfl ?_
  refine lv_aload_n hx hb dd_LW_law_474 rfl (lv_at hl 4 rfl) ?_
  refine lv_iload hx hb dd_LW_law_475 (lv_at hl 0 rfl) ?_
  refine lv_iconst (v := 4) hx hb dd_LW_law_477 (by decide) ?_
  refine lv_iadd hx hb dd_LW_law_478 ?_
  refine va_sld hx hb hXs hbl hbA hS (sin4 hi hL) dd_LW_law_479 ?_
  refine lv_i2l hx hb dd_LW_law_480 rfl ?_
  refine lv_ldc2 (v := 4294967295) hx hb hown (hT _ tw_434) dd_LW_law_481 ?_
  refine lv_land hx hb dd_LW_law_484 ?_
  refine lv_lor hx hb dd_LW_law_485 ?_
  refine lv_topl (fun a2 ea2 => ?_)
  refine lv_aload_n hx hb dd_LW_law_486 rfl (lv_at hl 1 rfl) ?_
  have C9 := c_LW_meets l D cI cL h g cl len n ca wa z o f a1 a2 hfl hI
  rw [csh_fun] at C9
  refine MT.callS (C9) ss_LW_76 ⟨hx, hb, hml, hown, hT⟩ ⟨hK, hX, hSK _ _ hS, hP, hD, hS, hA⟩ (⟨rfl, rfl, rfl, rfl, rfl, by decide⟩ : tq_J _ _ (wM cL hm len n cl 0 th ca wa) [3, 4, 5, 6, 7, 8, 9, 10, 11, 12] [0, 1, 2]) (by decide) rfl hl.1 rfl (Nat.le_of_ble_eq_true rfl) dd_LW_law_487 ⟨hc, hs⟩ (fun v u H locs hp hP hD hS => ?_) (fun x C u H locs hp hxf hP hD hS => hp.elim)
  obtain ⟨r1, rfl, hr1, hans, g1, z1, hu, hIu⟩ := hp
  obtain ⟨u1, f1⟩ := u
  have hu : u1 = _ := hu
  subst hu
  have hans : _ → f1 0 = _ := hans
  have hP : va_P D classes (wM cL hm len n cl 0 th ca wa ++ ((o, .inl (cL, 1, .inr (.inl f1))) :: wX cI cL h g1 cl len n ca wa z1)) H := hP
  have hD : va_D (AL s) (wM cL hm len n cl 0 th ca wa ++ ((o, .inl (cL, 1, .inr (.inl f1))) :: wX cI cL h g1 cl len n ca wa z1)) := hD
  refine lv_topi (fun v490 e490 => ?_)
  obtain rfl : r1 = v490 := (e490).symm
  refine lv_istore hx hb dd_LW_law_490 hl (by decide) rfl (fun ls hl => ?_)
  have hl : lv_has ls 8 [(5, .int r1), (4, .int (nI i)), (3, .ref o), (2, .ref (hm 0)), (1, .ref (h 0)), (0, .ref b)] := hl
  refine lv_aload_n hx hb dd_LW_law_492 rfl (lv_at hl 3 rfl) ?_
  refine lv_aload_n hx hb dd_LW_law_493 rfl (lv_at hl 5 rfl) ?_
  refine lv_iload hx hb dd_LW_law_494 (lv_at hl 1 rfl) ?_
  refine lv_iconst (v := 1) hx hb dd_LW_law_496 (by decide) ?_
  refine lv_iadd hx hb dd_LW_law_497 ?_
  refine va_sld hx hb hXs hbl hbA hS (sin1 hi hL) dd_LW_law_498 ?_
  refine lv_i2l hx hb dd_LW_law_499 rfl ?_
  refine lv_bipush (v := 32) hx hb dd_LW_law_500 (by decide) ?_
  refine lv_lshl hx hb dd_LW_law_502 rfl ?_
  refine lv_aload_n hx hb dd_LW_law_503 rfl (lv_at hl 5 rfl) ?_
  refine lv_iload hx hb dd_LW_law_504 (lv_at hl 1 rfl) ?_
  refine lv_iconst (v := 2) hx hb dd_LW_law_506 (by decide) ?_
  refine lv_iadd hx hb dd_LW_law_507 ?_
  refine va_sld hx hb hXs hbl hbA hS (sin2 hi hL) dd_LW_law_508 ?_
  refine lv_i2l hx hb dd_LW_law_509 rfl ?_
  refine lv_ldc2 (v := 4294967295) hx hb hown (hT _ tw_434) dd_LW_law_510 ?_
  refine lv_land hx hb dd_LW_law_513 ?_
  refine lv_lor hx hb dd_LW_law_514 ?_
  refine lv_topl (fun b1 eb1 => ?_)
  obtain rfl : a1 = b1 := ea1.trans eb1.symm
  refine lv_aload_n hx hb dd_LW_law_515 rfl (lv_at hl 5 rfl) ?_
  refine lv_iload hx hb dd_LW_law_516 (lv_at hl 1 rfl) ?_
  refine lv_iconst (v := 3) hx hb dd_LW_law_518 (by decide) ?_
  refine lv_iadd hx hb dd_LW_law_519 ?_
  refine va_sld hx hb hXs hbl hbA hS (sin3 hi hL) dd_LW_law_520 ?_
  refine lv_i2l hx hb dd_LW_law_521 rfl ?_
  refine lv_bipush (v := 32) hx hb dd_LW_law_522 (by decide) ?_
  refine lv_lshl hx hb dd_LW_law_524 rfl ?_
  refine lv_aload_n hx hb dd_LW_law_525 rfl (lv_at hl 5 rfl) ?_
  refine lv_iload hx hb dd_LW_law_526 (lv_at hl 1 rfl) ?_
  refine lv_iconst (v := 4) hx hb dd_LW_law_528 (by decide) ?_
  refine lv_iadd hx hb dd_LW_law_529 ?_
  refine va_sld hx hb hXs hbl hbA hS (sin4 hi hL) dd_LW_law_530 ?_
  refine lv_i2l hx hb dd_LW_law_531 rfl ?_
  refine lv_ldc2 (v := 4294967295) hx hb hown (hT _ tw_434) dd_LW_law_532 ?_
  refine lv_land hx hb dd_LW_law_535 ?_
  refine lv_lor hx hb dd_LW_law_536 ?_
  refine lv_topl (fun b2 eb2 => ?_)
  obtain rfl : a2 = b2 := ea2.trans eb2.symm
  refine MT.callV (c_MO_meets l D cI cL hm len n cl 0 th ca wa a1 a2 hlen hn) vs_LW_78 ⟨hx, hb, hml, hown, hT⟩ ⟨hK, hX, hSK _ _ hS, hP, hD, hS, hA⟩ (⟨rfl, rfl, rfl, rfl, rfl, by decide⟩ : tq_J _ _ ((o, .inl (cL, 1, .inr (.inl f1))) :: wX cI cL h g1 cl len n ca wa z1) [0, 1, 2] [3, 4, 5, 6, 7, 8, 9, 10, 11, 12]) 0 rfl rfl (by decide) rfl hl.1 rfl (Nat.le_of_ble_eq_true rfl) dd_LW_law_537 ⟨hc, hs⟩ (fun v u H locs hp hP hD hS => ?_) (fun x C u H locs hp hxf hP hD hS => hp.elim)
  obtain ⟨rb, rfl, hrb, rfl⟩ := hp
  have hP : va_P D classes (wM cL hm len n cl 0 (if isP len a1 a2 then (0 : Int32) else 1) ca wa ++ ((o, .inl (cL, 1, .inr (.inl f1))) :: wX cI cL h g1 cl len n ca wa z1)) H := va_P.swap (a := []) (b := (o, .inl (cL, 1, .inr (.inl f1))) :: wX cI cL h g1 cl len n ca wa z1) (c := wM cL hm len n cl 0 (if isP len a1 a2 then (0 : Int32) else 1) ca wa) hP
  have hD : va_D (AL s) (wM cL hm len n cl 0 (if isP len a1 a2 then (0 : Int32) else 1) ca wa ++ ((o, .inl (cL, 1, .inr (.inl f1))) :: wX cI cL h g1 cl len n ca wa z1)) := va_D.swap (a := []) (b := (o, .inl (cL, 1, .inr (.inl f1))) :: wX cI cL h g1 cl len n ca wa z1) (c := wM cL hm len n cl 0 (if isP len a1 a2 then (0 : Int32) else 1) ca wa) hD
  refine lv_topi (fun v540 e540 => ?_)
  obtain rfl : rb = v540 := (e540).symm
  refine lv_istore hx hb dd_LW_law_540 hl (by decide) rfl (fun ls hl => ?_)
  have hl : lv_has ls 8 [(6, .int rb), (5, .int r1), (4, .int (nI i)), (3, .ref o), (2, .ref (hm 0)), (1, .ref (h 0)), (0, .ref b)] := hl
  refine lv_aload_n hx hb dd_LW_law_542 rfl (lv_at hl 4 rfl) ?_
  refine RdI.callV (c_MO_thrown l D cI cL hm len n cl 0 (if isP len a1 a2 then (0 : Int32) else 1) ca wa) vs_LW_55 ⟨hx, hb, hml, hown, hT⟩ hK (hP.sub (ws' := wM cL hm len n cl 0 (if isP len a1 a2 then (0 : Int32) else 1) ca wa) [0, 1, 2] rfl) 0 rfl rfl ⟨rfl, rfl⟩ (by decide) rfl hl.1 rfl (Nat.le_of_ble_eq_true rfl) dd_LW_law_543 ⟨hc, hs⟩ (fun r hr => ?_)
  subst hr
  refine lv_iload hx hb dd_LW_law_546 (lv_at hl 1 rfl) ?_
  refine lv_icmp_eq (tgt := 553) hx hb dd_LW_law_548 (by decide) (fun hc1 => ?_) (fun hc1 => ?_)
  · refine lv_iload hx hb dd_LW_law_553 (lv_at hl 1 rfl) ?_
    refine lv_if_ne (tgt := 570) hx hb dd_LW_law_555 (by decide) (fun h0 => ?_) (fun h0 => ?_)
    · refine lv_goto (tgt := 883) hx hb dd_LW_law_570 (by decide) ?_
      exact kk g1 cl len n ca wa z1 f1 (if isP len a1 a2 then (0 : Int32) else 1) H locs ls hIu hP hD hS (lv_sub hl [2, 3, 4, 5, 6] rfl)
    · refine lv_aload_n hx hb dd_LW_law_558 rfl (lv_at hl 3 rfl) ?_
      refine lv_iconst (v := 0) hx hb dd_LW_law_559 (by decide) ?_
      refine tq_lald (k := 0) hx hb hK hP 3 rfl (by decide) (by decide) dd_LW_law_560 ?_
      refine lv_iload hx hb dd_LW_law_561 (lv_at hl 0 rfl) ?_
      refine lv_i2l hx hb dd_LW_law_563 rfl ?_
      refine tq_leq (tgt := 570) hx hb dd_LW_law_564 dd_LW_law_565 (by decide) (fun hne => ?_) (fun hne => ?_)
      · refine lv_goto (tgt := 883) hx hb dd_LW_law_570 (by decide) ?_
        exact kk g1 cl len n ca wa z1 f1 (if isP len a1 a2 then (0 : Int32) else 1) H locs ls hIu hP hD hS (lv_sub hl [2, 3, 4, 5, 6] rfl)
      · exact absurd (by rw [hrb, if_pos (ifP (hr1.symm.trans h0))]; exact hans (hr1.symm.trans h0)) hne
  · exact absurd hr1.symm hc1
set_option maxRecDepth 20000 in
theorem arm_6 {p : Program} {l : Launch} {e : Env} {s : State} {m : MethodId} {below : List Frame} {meth : Method} {c : Code} {b L : Nat} {xs : Nat → Int32} {D : va_G} {cI cL : ClassId} {Q : State → Prop} (E : lw_E p l s m c b L xs D cI cL) {h hm : Nat → Nat} {o i : Nat} (hi : i + 5 ≤ L) {g cl : Int32} {len n : Nat} {ca wa : Nat → Int64} {z : ZT} {f : Nat → Int64} {th : Int32} (hI : IV (len, n, ca, wa, cl, g, z))
    {H : Heap} {locs : List Loc} {ls : Array Slot} {cells slots : Nat} (hP : va_P D classes (wA cI cL h hm o g cl len n ca wa z f th) H) (hD : va_D (AL s) (wA cI cL h hm o g cl len n ca wa z f th)) (hS : va_S (AL s) s.heap H locs) (hl : lv_has ls 8 (LOC h hm o b i)) (hc : cells + 2 ≤ 601024) (hs : slots + 12 ≤ 7293034)
    (kk : lw_N p l e s m below meth c b D cI cL h hm o i cells slots Q) : W p l e room_1 s m #[Value.ref b] below meth c H locs cells slots Q (F0 m 573 ls []) := by
  obtain ⟨hx, hb, hml, hown, hT, hK, hX, hXs, hbl, hfl, hL⟩ := E
  have hA : ∀ q, s.heap.size ≤ q → AL s q := fun _ h9 => h9
  have hSK := @lw_SK s
  have hbA : ¬ AL s b := Nat.not_le.mpr hbl
  have hlen : len ≤ 64 := hI.1.1.2
  have hn : n ≤ 512 := hI.1.2.1
  have hg : g = 0 ∨ g = 1 ∧ GT len n ca wa z := hI.2
  have hl : lv_has ls 8 [(4, .int (nI i)), (3, .ref o), (2, .ref (hm 0)), (1, .ref (h 0)), (0, .ref b)] := hl
  skip
  refine lv_aload_n hx hb dd_LW_law_573 rfl (lv_at hl 3 rfl) ?_
  refine lv_aload_n hx hb dd_LW_law_574 rfl (lv_at hl 4 rfl) ?_
  refine lv_iload hx hb dd_LW_law_575 (lv_at hl 0 rfl) ?_
  refine lv_iconst (v := 1) hx hb dd_LW_law_577 (by decide) ?_
  refine lv_iadd hx hb dd_LW_law_578 ?_
  refine va_sld hx hb hXs hbl hbA hS (sin1 hi hL) dd_LW_law_579 ?_
  refine lv_i2l hx hb dd_LW_law_580 rfl ?_
  refine lv_bipush (v := 32) hx hb dd_LW_law_581 (by decide) ?_
  refine lv_lshl hx hb dd_LW_law_583 rfl ?_
  refine lv_aload_n hx hb dd_LW_law_584 rfl (lv_at hl 4 rfl) ?_
  refine lv_iload hx hb dd_LW_law_585 (lv_at hl 0 rfl) ?_
  refine lv_iconst (v := 2) hx hb dd_LW_law_587 (by decide) ?_
  refine lv_iadd hx hb dd_LW_law_588 ?_
  refine va_sld hx hb hXs hbl hbA hS (sin2 hi hL) dd_LW_law_589 ?_
  refine lv_i2l hx hb dd_LW_law_590 rfl ?_
  refine lv_ldc2 (v := 4294967295) hx hb hown (hT _ tw_434) dd_LW_law_591 ?_
  refine lv_land hx hb dd_LW_law_594 ?_
  refine lv_lor hx hb dd_LW_law_595 ?_
  refine lv_topl (fun a1 ea1 => ?_)
  refine lv_aload_n hx hb dd_LW_law_596 rfl (lv_at hl 4 rfl) ?_
  refine lv_iload hx hb dd_LW_law_597 (lv_at hl 0 rfl) ?_
  refine lv_iconst (v := 3) hx hb dd_LW_law_599 (by decide) ?_
  refine lv_iadd hx hb dd_LW_law_600 ?_
  refine va_sld hx hb hXs hbl hbA hS (sin3 hi hL) dd_LW_law_601 ?_
  refine lv_i2l hx hb dd_LW_law_602 rfl ?_
  refine lv_bipush (v := 32) hx hb dd_LW_law_603 (by decide) ?_
  refine lv_lshl hx hb dd_LW_law_605 rfl ?_
  refine lv_aload_n hx hb dd_LW_law_606 rfl (lv_at hl 4 rfl) ?_
  refine lv_iload hx hb dd_LW_law_607 (lv_at hl 0 rfl) ?_
  refine lv_iconst (v := 4) hx hb dd_LW_law_609 (by decide) ?_
  refine lv_iadd hx hb dd_LW_law_610 ?_
  refine va_sld hx hb hXs hbl hbA hS (sin4 hi hL) dd_LW_law_611 ?_
  refine lv_i2l hx hb dd_LW_law_612 rfl ?_
  refine lv_ldc2 (v := 4294967295) hx hb hown (hT _ tw_434) dd_LW_law_613 ?_
  refine lv_land hx hb dd_LW_law_616 ?_
  refine lv_lor hx hb dd_LW_law_617 ?_
  refine lv_topl (fun a2 ea2 => ?_)
  refine lv_aload_n hx hb dd_LW_law_618 rfl (lv_at hl 1 rfl) ?_
  have C9 := c_LW_free l D cI cL h g cl len n ca wa z o f a1 a2 hfl hI
  rw [free_eq hI.1] at C9
  refine MT.callS (C9) ss_LW_79 ⟨hx, hb, hml, hown, hT⟩ ⟨hK, hX, hSK _ _ hS, hP, hD, hS, hA⟩ (⟨rfl, rfl, rfl, rfl, rfl, by decide⟩ : tq_J _ _ (wM cL hm len n cl 0 th ca wa) [3, 4, 5, 6, 7, 8, 9, 10, 11, 12] [0, 1, 2]) (by decide) rfl hl.1 rfl (Nat.le_of_ble_eq_true rfl) dd_LW_law_619 ⟨hc, hs⟩ (fun v u H locs hp hP hD hS => ?_) (fun x C u H locs hp hxf hP hD hS => hp.elim)
  obtain ⟨r1, rfl, hr1, hans, g1, z1, hu, hIu⟩ := hp
  obtain ⟨u1, f1⟩ := u
  have hu : u1 = _ := hu
  subst hu
  have hans : _ → f1 0 = _ := hans
  have hP : va_P D classes (wM cL hm len n cl 0 th ca wa ++ ((o, .inl (cL, 1, .inr (.inl f1))) :: wX cI cL h g1 cl len n ca wa z1)) H := hP
  have hD : va_D (AL s) (wM cL hm len n cl 0 th ca wa ++ ((o, .inl (cL, 1, .inr (.inl f1))) :: wX cI cL h g1 cl len n ca wa z1)) := hD
  refine lv_topi (fun v622 e622 => ?_)
  obtain rfl : r1 = v622 := (e622).symm
  refine lv_istore hx hb dd_LW_law_622 hl (by decide) rfl (fun ls hl => ?_)
  have hl : lv_has ls 8 [(5, .int r1), (4, .int (nI i)), (3, .ref o), (2, .ref (hm 0)), (1, .ref (h 0)), (0, .ref b)] := hl
  refine lv_aload_n hx hb dd_LW_law_624 rfl (lv_at hl 3 rfl) ?_
  refine lv_aload_n hx hb dd_LW_law_625 rfl (lv_at hl 5 rfl) ?_
  refine lv_iload hx hb dd_LW_law_626 (lv_at hl 1 rfl) ?_
  refine lv_iconst (v := 1) hx hb dd_LW_law_628 (by decide) ?_
  refine lv_iadd hx hb dd_LW_law_629 ?_
  refine va_sld hx hb hXs hbl hbA hS (sin1 hi hL) dd_LW_law_630 ?_
  refine lv_i2l hx hb dd_LW_law_631 rfl ?_
  refine lv_bipush (v := 32) hx hb dd_LW_law_632 (by decide) ?_
  refine lv_lshl hx hb dd_LW_law_634 rfl ?_
  refine lv_aload_n hx hb dd_LW_law_635 rfl (lv_at hl 5 rfl) ?_
  refine lv_iload hx hb dd_LW_law_636 (lv_at hl 1 rfl) ?_
  refine lv_iconst (v := 2) hx hb dd_LW_law_638 (by decide) ?_
  refine lv_iadd hx hb dd_LW_law_639 ?_
  refine va_sld hx hb hXs hbl hbA hS (sin2 hi hL) dd_LW_law_640 ?_
  refine lv_i2l hx hb dd_LW_law_641 rfl ?_
  refine lv_ldc2 (v := 4294967295) hx hb hown (hT _ tw_434) dd_LW_law_642 ?_
  refine lv_land hx hb dd_LW_law_645 ?_
  refine lv_lor hx hb dd_LW_law_646 ?_
  refine lv_topl (fun b1 eb1 => ?_)
  obtain rfl : a1 = b1 := ea1.trans eb1.symm
  refine lv_aload_n hx hb dd_LW_law_647 rfl (lv_at hl 5 rfl) ?_
  refine lv_iload hx hb dd_LW_law_648 (lv_at hl 1 rfl) ?_
  refine lv_iconst (v := 3) hx hb dd_LW_law_650 (by decide) ?_
  refine lv_iadd hx hb dd_LW_law_651 ?_
  refine va_sld hx hb hXs hbl hbA hS (sin3 hi hL) dd_LW_law_652 ?_
  refine lv_i2l hx hb dd_LW_law_653 rfl ?_
  refine lv_bipush (v := 32) hx hb dd_LW_law_654 (by decide) ?_
  refine lv_lshl hx hb dd_LW_law_656 rfl ?_
  refine lv_aload_n hx hb dd_LW_law_657 rfl (lv_at hl 5 rfl) ?_
  refine lv_iload hx hb dd_LW_law_658 (lv_at hl 1 rfl) ?_
  refine lv_iconst (v := 4) hx hb dd_LW_law_660 (by decide) ?_
  refine lv_iadd hx hb dd_LW_law_661 ?_
  refine va_sld hx hb hXs hbl hbA hS (sin4 hi hL) dd_LW_law_662 ?_
  refine lv_i2l hx hb dd_LW_law_663 rfl ?_
  refine lv_ldc2 (v := 4294967295) hx hb hown (hT _ tw_434) dd_LW_law_664 ?_
  refine lv_land hx hb dd_LW_law_667 ?_
  refine lv_lor hx hb dd_LW_law_668 ?_
  refine lv_topl (fun b2 eb2 => ?_)
  obtain rfl : a2 = b2 := ea2.trans eb2.symm
  refine MT.callV (c_MO_free l D cI cL hm len n cl 0 th ca wa a1 a2 hlen hn) vs_LW_81 ⟨hx, hb, hml, hown, hT⟩ ⟨hK, hX, hSK _ _ hS, hP, hD, hS, hA⟩ (⟨rfl, rfl, rfl, rfl, rfl, by decide⟩ : tq_J _ _ ((o, .inl (cL, 1, .inr (.inl f1))) :: wX cI cL h g1 cl len n ca wa z1) [0, 1, 2] [3, 4, 5, 6, 7, 8, 9, 10, 11, 12]) 0 rfl rfl (by decide) rfl hl.1 rfl (Nat.le_of_ble_eq_true rfl) dd_LW_law_669 ⟨hc, hs⟩ (fun v u H locs hp hP hD hS => ?_) (fun x C u H locs hp hxf hP hD hS => hp.elim)
  obtain ⟨rb, rfl, hrb, rfl⟩ := hp
  have hP : va_P D classes (wM cL hm len n cl 0 (if isP len a1 a2 then (0 : Int32) else 1) ca wa ++ ((o, .inl (cL, 1, .inr (.inl f1))) :: wX cI cL h g1 cl len n ca wa z1)) H := va_P.swap (a := []) (b := (o, .inl (cL, 1, .inr (.inl f1))) :: wX cI cL h g1 cl len n ca wa z1) (c := wM cL hm len n cl 0 (if isP len a1 a2 then (0 : Int32) else 1) ca wa) hP
  have hD : va_D (AL s) (wM cL hm len n cl 0 (if isP len a1 a2 then (0 : Int32) else 1) ca wa ++ ((o, .inl (cL, 1, .inr (.inl f1))) :: wX cI cL h g1 cl len n ca wa z1)) := va_D.swap (a := []) (b := (o, .inl (cL, 1, .inr (.inl f1))) :: wX cI cL h g1 cl len n ca wa z1) (c := wM cL hm len n cl 0 (if isP len a1 a2 then (0 : Int32) else 1) ca wa) hD
  refine lv_topl (fun v672 e672 => ?_)
  obtain rfl : rb = v672 := (e672).symm
  refine lv_lstore hx hb dd_LW_law_672 hl (by decide) rfl (fun ls hl => ?_)
  have hl : lv_has ls 8 [(6, .long rb), (5, .int r1), (4, .int (nI i)), (3, .ref o), (2, .ref (hm 0)), (1, .ref (h 0)), (0, .ref b)] := hl
  refine lv_aload_n hx hb dd_LW_law_674 rfl (lv_at hl 4 rfl) ?_
  refine RdI.callV (c_MO_thrown l D cI cL hm len n cl 0 (if isP len a1 a2 then (0 : Int32) else 1) ca wa) vs_LW_55 ⟨hx, hb, hml, hown, hT⟩ hK (hP.sub (ws' := wM cL hm len n cl 0 (if isP len a1 a2 then (0 : Int32) else 1) ca wa) [0, 1, 2] rfl) 0 rfl rfl ⟨rfl, rfl⟩ (by decide) rfl hl.1 rfl (Nat.le_of_ble_eq_true rfl) dd_LW_law_675 ⟨hc, hs⟩ (fun r hr => ?_)
  subst hr
  refine lv_iload hx hb dd_LW_law_678 (lv_at hl 1 rfl) ?_
  refine lv_icmp_eq (tgt := 685) hx hb dd_LW_law_680 (by decide) (fun hc1 => ?_) (fun hc1 => ?_)
  · refine lv_iload hx hb dd_LW_law_685 (lv_at hl 1 rfl) ?_
    refine lv_if_ne (tgt := 701) hx hb dd_LW_law_687 (by decide) (fun h0 => ?_) (fun h0 => ?_)
    · refine lv_goto (tgt := 883) hx hb dd_LW_law_701 (by decide) ?_
      exact kk g1 cl len n ca wa z1 f1 (if isP len a1 a2 then (0 : Int32) else 1) H locs ls hIu hP hD hS (lv_sub hl [2, 3, 4, 5, 6] rfl)
    · refine lv_aload_n hx hb dd_LW_law_690 rfl (lv_at hl 3 rfl) ?_
      refine lv_iconst (v := 0) hx hb dd_LW_law_691 (by decide) ?_
      refine tq_lald (k := 0) hx hb hK hP 3 rfl (by decide) (by decide) dd_LW_law_692 ?_
      refine lv_lload hx hb dd_LW_law_693 (lv_at hl 0 rfl) ?_
      refine tq_leq (tgt := 701) hx hb dd_LW_law_695 dd_LW_law_696 (by decide) (fun hne => ?_) (fun hne => ?_)
      · refine lv_goto (tgt := 883) hx hb dd_LW_law_701 (by decide) ?_
        exact kk g1 cl len n ca wa z1 f1 (if isP len a1 a2 then (0 : Int32) else 1) H locs ls hIu hP hD hS (lv_sub hl [2, 3, 4, 5, 6] rfl)
      · exact absurd (by rw [hrb, if_pos (ifP (hr1.symm.trans h0))]; exact hans (hr1.symm.trans h0)) hne
  · exact absurd hr1.symm hc1
set_option maxRecDepth 20000 in
theorem arm_7 {p : Program} {l : Launch} {e : Env} {s : State} {m : MethodId} {below : List Frame} {meth : Method} {c : Code} {b L : Nat} {xs : Nat → Int32} {D : va_G} {cI cL : ClassId} {Q : State → Prop} (E : lw_E p l s m c b L xs D cI cL) {h hm : Nat → Nat} {o i : Nat} (hi : i + 5 ≤ L) {g cl : Int32} {len n : Nat} {ca wa : Nat → Int64} {z : ZT} {f : Nat → Int64} {th : Int32} (hI : IV (len, n, ca, wa, cl, g, z))
    {H : Heap} {locs : List Loc} {ls : Array Slot} {cells slots : Nat} (hP : va_P D classes (wA cI cL h hm o g cl len n ca wa z f th) H) (hD : va_D (AL s) (wA cI cL h hm o g cl len n ca wa z f th)) (hS : va_S (AL s) s.heap H locs) (hl : lv_has ls 8 (LOC h hm o b i)) (hc : cells + 2 ≤ 601024) (hs : slots + 12 ≤ 7293034)
    (kk : lw_N p l e s m below meth c b D cI cL h hm o i cells slots Q) : W p l e room_1 s m #[Value.ref b] below meth c H locs cells slots Q (F0 m 704 ls []) := by
  obtain ⟨hx, hb, hml, hown, hT, hK, hX, hXs, hbl, hfl, hL⟩ := E
  have hA : ∀ q, s.heap.size ≤ q → AL s q := fun _ h9 => h9
  have hSK := @lw_SK s
  have hbA : ¬ AL s b := Nat.not_le.mpr hbl
  have hlen : len ≤ 64 := hI.1.1.2
  have hn : n ≤ 512 := hI.1.2.1
  have hg : g = 0 ∨ g = 1 ∧ GT len n ca wa z := hI.2
  have hl : lv_has ls 8 [(4, .int (nI i)), (3, .ref o), (2, .ref (hm 0)), (1, .ref (h 0)), (0, .ref b)] := hl
  skip
  refine lv_aload_n hx hb dd_LW_law_704 rfl (lv_at hl 3 rfl) ?_
  refine lv_aload_n hx hb dd_LW_law_705 rfl (lv_at hl 4 rfl) ?_
  refine lv_iload hx hb dd_LW_law_706 (lv_at hl 0 rfl) ?_
  refine lv_iconst (v := 1) hx hb dd_LW_law_708 (by decide) ?_
  refine lv_iadd hx hb dd_LW_law_709 ?_
  refine va_sld hx hb hXs hbl hbA hS (sin1 hi hL) dd_LW_law_710 ?_
  refine lv_i2l hx hb dd_LW_law_711 rfl ?_
  refine lv_bipush (v := 32) hx hb dd_LW_law_712 (by decide) ?_
  refine lv_lshl hx hb dd_LW_law_714 rfl ?_
  refine lv_aload_n hx hb dd_LW_law_715 rfl (lv_at hl 4 rfl) ?_
  refine lv_iload hx hb dd_LW_law_716 (lv_at hl 0 rfl) ?_
  refine lv_iconst (v := 2) hx hb dd_LW_law_718 (by decide) ?_
  refine lv_iadd hx hb dd_LW_law_719 ?_
  refine va_sld hx hb hXs hbl hbA hS (sin2 hi hL) dd_LW_law_720 ?_
  refine lv_i2l hx hb dd_LW_law_721 rfl ?_
  refine lv_ldc2 (v := 4294967295) hx hb hown (hT _ tw_434) dd_LW_law_722 ?_
  refine lv_land hx hb dd_LW_law_725 ?_
  refine lv_lor hx hb dd_LW_law_726 ?_
  refine lv_topl (fun a1 ea1 => ?_)
  refine lv_aload_n hx hb dd_LW_law_727 rfl (lv_at hl 1 rfl) ?_
  have C9 := c_LW_next l D cI cL h g cl len n ca wa z o f a1 hfl hI
  refine MT.callS (C9) ss_LW_82 ⟨hx, hb, hml, hown, hT⟩ ⟨hK, hX, hSK _ _ hS, hP, hD, hS, hA⟩ (⟨rfl, rfl, rfl, rfl, rfl, by decide⟩ : tq_J _ _ (wM cL hm len n cl 0 th ca wa) [3, 4, 5, 6, 7, 8, 9, 10, 11, 12] [0, 1, 2]) (by decide) rfl hl.1 rfl (Nat.le_of_ble_eq_true rfl) dd_LW_law_728 ⟨hc, hs⟩ (fun v u H locs hp hP hD hS => ?_) (fun x C u H locs hp hxf hP hD hS => hp.elim)
  obtain ⟨r1, rfl, hr1, hans, g1, z1, hu, hIu⟩ := hp
  obtain ⟨u1, f1⟩ := u
  have hu : u1 = _ := hu
  subst hu
  have hans : _ → f1 0 = _ := hans
  have hP : va_P D classes (wM cL hm len n cl 0 th ca wa ++ ((o, .inl (cL, 1, .inr (.inl f1))) :: wX cI cL h g1 cl len n ca wa z1)) H := hP
  have hD : va_D (AL s) (wM cL hm len n cl 0 th ca wa ++ ((o, .inl (cL, 1, .inr (.inl f1))) :: wX cI cL h g1 cl len n ca wa z1)) := hD
  refine lv_topi (fun v731 e731 => ?_)
  obtain rfl : r1 = v731 := (e731).symm
  refine lv_istore hx hb dd_LW_law_731 hl (by decide) rfl (fun ls hl => ?_)
  have hl : lv_has ls 8 [(5, .int r1), (4, .int (nI i)), (3, .ref o), (2, .ref (hm 0)), (1, .ref (h 0)), (0, .ref b)] := hl
  refine lv_aload_n hx hb dd_LW_law_733 rfl (lv_at hl 3 rfl) ?_
  refine lv_aload_n hx hb dd_LW_law_734 rfl (lv_at hl 5 rfl) ?_
  refine lv_iload hx hb dd_LW_law_735 (lv_at hl 1 rfl) ?_
  refine lv_iconst (v := 1) hx hb dd_LW_law_737 (by decide) ?_
  refine lv_iadd hx hb dd_LW_law_738 ?_
  refine va_sld hx hb hXs hbl hbA hS (sin1 hi hL) dd_LW_law_739 ?_
  refine lv_i2l hx hb dd_LW_law_740 rfl ?_
  refine lv_bipush (v := 32) hx hb dd_LW_law_741 (by decide) ?_
  refine lv_lshl hx hb dd_LW_law_743 rfl ?_
  refine lv_aload_n hx hb dd_LW_law_744 rfl (lv_at hl 5 rfl) ?_
  refine lv_iload hx hb dd_LW_law_745 (lv_at hl 1 rfl) ?_
  refine lv_iconst (v := 2) hx hb dd_LW_law_747 (by decide) ?_
  refine lv_iadd hx hb dd_LW_law_748 ?_
  refine va_sld hx hb hXs hbl hbA hS (sin2 hi hL) dd_LW_law_749 ?_
  refine lv_i2l hx hb dd_LW_law_750 rfl ?_
  refine lv_ldc2 (v := 4294967295) hx hb hown (hT _ tw_434) dd_LW_law_751 ?_
  refine lv_land hx hb dd_LW_law_754 ?_
  refine lv_lor hx hb dd_LW_law_755 ?_
  refine lv_topl (fun b1 eb1 => ?_)
  obtain rfl : a1 = b1 := ea1.trans eb1.symm
  refine MT.callV (c_MO_next l D cI cL hm len n cl 0 th ca wa a1 hlen hn) vs_LW_84 ⟨hx, hb, hml, hown, hT⟩ ⟨hK, hX, hSK _ _ hS, hP, hD, hS, hA⟩ (⟨rfl, rfl, rfl, rfl, rfl, by decide⟩ : tq_J _ _ ((o, .inl (cL, 1, .inr (.inl f1))) :: wX cI cL h g1 cl len n ca wa z1) [0, 1, 2] [3, 4, 5, 6, 7, 8, 9, 10, 11, 12]) 0 rfl rfl (by decide) rfl hl.1 rfl (Nat.le_of_ble_eq_true rfl) dd_LW_law_756 ⟨hc, hs⟩ (fun v u H locs hp hP hD hS => ?_) (fun x C u H locs hp hxf hP hD hS => hp.elim)
  obtain ⟨rb, rfl, hrb, rfl⟩ := hp
  have hP : va_P D classes (wM cL hm len n cl 0 (mNext len n ca wa a1).1 ca wa ++ ((o, .inl (cL, 1, .inr (.inl f1))) :: wX cI cL h g1 cl len n ca wa z1)) H := va_P.swap (a := []) (b := (o, .inl (cL, 1, .inr (.inl f1))) :: wX cI cL h g1 cl len n ca wa z1) (c := wM cL hm len n cl 0 (mNext len n ca wa a1).1 ca wa) hP
  have hD : va_D (AL s) (wM cL hm len n cl 0 (mNext len n ca wa a1).1 ca wa ++ ((o, .inl (cL, 1, .inr (.inl f1))) :: wX cI cL h g1 cl len n ca wa z1)) := va_D.swap (a := []) (b := (o, .inl (cL, 1, .inr (.inl f1))) :: wX cI cL h g1 cl len n ca wa z1) (c := wM cL hm len n cl 0 (mNext len n ca wa a1).1 ca wa) hD
  refine lv_topl (fun v759 e759 => ?_)
  obtain rfl : rb = v759 := (e759).symm
  refine lv_lstore hx hb dd_LW_law_759 hl (by decide) rfl (fun ls hl => ?_)
  have hl : lv_has ls 8 [(6, .long rb), (5, .int r1), (4, .int (nI i)), (3, .ref o), (2, .ref (hm 0)), (1, .ref (h 0)), (0, .ref b)] := hl
  refine lv_aload_n hx hb dd_LW_law_761 rfl (lv_at hl 4 rfl) ?_
  refine RdI.callV (c_MO_thrown l D cI cL hm len n cl 0 (mNext len n ca wa a1).1 ca wa) vs_LW_55 ⟨hx, hb, hml, hown, hT⟩ hK (hP.sub (ws' := wM cL hm len n cl 0 (mNext len n ca wa a1).1 ca wa) [0, 1, 2] rfl) 0 rfl rfl ⟨rfl, rfl⟩ (by decide) rfl hl.1 rfl (Nat.le_of_ble_eq_true rfl) dd_LW_law_762 ⟨hc, hs⟩ (fun r hr => ?_)
  subst hr
  refine lv_iload hx hb dd_LW_law_765 (lv_at hl 1 rfl) ?_
  refine lv_icmp_eq (tgt := 772) hx hb dd_LW_law_767 (by decide) (fun hc1 => ?_) (fun hc1 => ?_)
  · refine lv_iload hx hb dd_LW_law_772 (lv_at hl 1 rfl) ?_
    refine lv_if_ne (tgt := 788) hx hb dd_LW_law_774 (by decide) (fun h0 => ?_) (fun h0 => ?_)
    · refine lv_goto (tgt := 883) hx hb dd_LW_law_788 (by decide) ?_
      exact kk g1 cl len n ca wa z1 f1 (mNext len n ca wa a1).1 H locs ls hIu hP hD hS (lv_sub hl [2, 3, 4, 5, 6] rfl)
    · refine lv_aload_n hx hb dd_LW_law_777 rfl (lv_at hl 3 rfl) ?_
      refine lv_iconst (v := 0) hx hb dd_LW_law_778 (by decide) ?_
      refine tq_lald (k := 0) hx hb hK hP 3 rfl (by decide) (by decide) dd_LW_law_779 ?_
      refine lv_lload hx hb dd_LW_law_780 (lv_at hl 0 rfl) ?_
      refine tq_leq (tgt := 788) hx hb dd_LW_law_782 dd_LW_law_783 (by decide) (fun hne => ?_) (fun hne => ?_)
      · refine lv_goto (tgt := 883) hx hb dd_LW_law_788 (by decide) ?_
        exact kk g1 cl len n ca wa z1 f1 (mNext len n ca wa a1).1 H locs ls hIu hP hD hS (lv_sub hl [2, 3, 4, 5, 6] rfl)
      · exact absurd (by rw [hrb]; exact hans (hr1.symm.trans h0)) hne
  · exact absurd hr1.symm hc1
set_option maxRecDepth 20000 in
theorem arm_8 {p : Program} {l : Launch} {e : Env} {s : State} {m : MethodId} {below : List Frame} {meth : Method} {c : Code} {b L : Nat} {xs : Nat → Int32} {D : va_G} {cI cL : ClassId} {Q : State → Prop} (E : lw_E p l s m c b L xs D cI cL) {h hm : Nat → Nat} {o i : Nat} (hi : i + 5 ≤ L) {g cl : Int32} {len n : Nat} {ca wa : Nat → Int64} {z : ZT} {f : Nat → Int64} {th : Int32} (hI : IV (len, n, ca, wa, cl, g, z))
    {H : Heap} {locs : List Loc} {ls : Array Slot} {cells slots : Nat} (hP : va_P D classes (wA cI cL h hm o g cl len n ca wa z f th) H) (hD : va_D (AL s) (wA cI cL h hm o g cl len n ca wa z f th)) (hS : va_S (AL s) s.heap H locs) (hl : lv_has ls 8 (LOC h hm o b i)) (hc : cells + 2 ≤ 601024) (hs : slots + 12 ≤ 7293034)
    (kk : lw_N p l e s m below meth c b D cI cL h hm o i cells slots Q) : W p l e room_1 s m #[Value.ref b] below meth c H locs cells slots Q (F0 m 791 ls []) := by
  obtain ⟨hx, hb, hml, hown, hT, hK, hX, hXs, hbl, hfl, hL⟩ := E
  have hA : ∀ q, s.heap.size ≤ q → AL s q := fun _ h9 => h9
  have hSK := @lw_SK s
  have hbA : ¬ AL s b := Nat.not_le.mpr hbl
  have hlen : len ≤ 64 := hI.1.1.2
  have hn : n ≤ 512 := hI.1.2.1
  have hg : g = 0 ∨ g = 1 ∧ GT len n ca wa z := hI.2
  have hl : lv_has ls 8 [(4, .int (nI i)), (3, .ref o), (2, .ref (hm 0)), (1, .ref (h 0)), (0, .ref b)] := hl
  skip
  refine lv_aload_n hx hb dd_LW_law_791 rfl (lv_at hl 3 rfl) ?_
  refine lv_aload_n hx hb dd_LW_law_792 rfl (lv_at hl 4 rfl) ?_
  refine lv_iload hx hb dd_LW_law_793 (lv_at hl 0 rfl) ?_
  refine lv_iconst (v := 1) hx hb dd_LW_law_795 (by decide) ?_
  refine lv_iadd hx hb dd_LW_law_796 ?_
  refine va_sld hx hb hXs hbl hbA hS (sin1 hi hL) dd_LW_law_797 ?_
  refine lv_topi (fun a1 ea1 => ?_)
  refine lv_aload_n hx hb dd_LW_law_798 rfl (lv_at hl 4 rfl) ?_
  refine lv_iload hx hb dd_LW_law_799 (lv_at hl 0 rfl) ?_
  refine lv_iconst (v := 2) hx hb dd_LW_law_801 (by decide) ?_
  refine lv_iadd hx hb dd_LW_law_802 ?_
  refine va_sld hx hb hXs hbl hbA hS (sin2 hi hL) dd_LW_law_803 ?_
  refine lv_topi (fun a2 ea2 => ?_)
  refine lv_aload_n hx hb dd_LW_law_804 rfl (lv_at hl 1 rfl) ?_
  have C9 := c_LW_told l D cI cL h g cl len n ca wa z o f a1 a2 hfl hI
  refine MT.callS (C9) ss_LW_85 ⟨hx, hb, hml, hown, hT⟩ ⟨hK, hX, hSK _ _ hS, hP, hD, hS, hA⟩ (⟨rfl, rfl, rfl, rfl, rfl, by decide⟩ : tq_J _ _ (wM cL hm len n cl 0 th ca wa) [3, 4, 5, 6, 7, 8, 9, 10, 11, 12] [0, 1, 2]) (by decide) rfl hl.1 rfl (Nat.le_of_ble_eq_true rfl) dd_LW_law_805 ⟨hc, hs⟩ (fun v u H locs hp hP hD hS => ?_) (fun x C u H locs hp hxf hP hD hS => hp.elim)
  obtain ⟨r1, rfl, hr1, hans, g1, z1, hu, hIu⟩ := hp
  obtain ⟨u1, f1⟩ := u
  have hu : u1 = _ := hu
  subst hu
  have hans : _ → f1 0 = _ := hans
  have hP : va_P D classes (wM cL hm len n cl 0 th ca wa ++ ((o, .inl (cL, 1, .inr (.inl f1))) :: wX cI cL h g1 cl len n ca wa z1)) H := hP
  have hD : va_D (AL s) (wM cL hm len n cl 0 th ca wa ++ ((o, .inl (cL, 1, .inr (.inl f1))) :: wX cI cL h g1 cl len n ca wa z1)) := hD
  refine lv_topi (fun v808 e808 => ?_)
  obtain rfl : r1 = v808 := (e808).symm
  refine lv_istore hx hb dd_LW_law_808 hl (by decide) rfl (fun ls hl => ?_)
  have hl : lv_has ls 8 [(5, .int r1), (4, .int (nI i)), (3, .ref o), (2, .ref (hm 0)), (1, .ref (h 0)), (0, .ref b)] := hl
  refine lv_aload_n hx hb dd_LW_law_810 rfl (lv_at hl 3 rfl) ?_
  refine lv_aload_n hx hb dd_LW_law_811 rfl (lv_at hl 5 rfl) ?_
  refine lv_iload hx hb dd_LW_law_812 (lv_at hl 1 rfl) ?_
  refine lv_iconst (v := 1) hx hb dd_LW_law_814 (by decide) ?_
  refine lv_iadd hx hb dd_LW_law_815 ?_
  refine va_sld hx hb hXs hbl hbA hS (sin1 hi hL) dd_LW_law_816 ?_
  refine lv_topi (fun b1 eb1 => ?_)
  obtain rfl : a1 = b1 := ea1.trans eb1.symm
  refine lv_aload_n hx hb dd_LW_law_817 rfl (lv_at hl 5 rfl) ?_
  refine lv_iload hx hb dd_LW_law_818 (lv_at hl 1 rfl) ?_
  refine lv_iconst (v := 2) hx hb dd_LW_law_820 (by decide) ?_
  refine lv_iadd hx hb dd_LW_law_821 ?_
  refine va_sld hx hb hXs hbl hbA hS (sin2 hi hL) dd_LW_law_822 ?_
  refine lv_topi (fun b2 eb2 => ?_)
  obtain rfl : a2 = b2 := ea2.trans eb2.symm
  refine MT.callV (c_MO_told l D cI cL hm len n cl 0 th ca wa a1 a2 hlen hn) vs_LW_88 ⟨hx, hb, hml, hown, hT⟩ ⟨hK, hX, hSK _ _ hS, hP, hD, hS, hA⟩ (⟨rfl, rfl, rfl, rfl, rfl, by decide⟩ : tq_J _ _ ((o, .inl (cL, 1, .inr (.inl f1))) :: wX cI cL h g1 cl len n ca wa z1) [0, 1, 2] [3, 4, 5, 6, 7, 8, 9, 10, 11, 12]) 0 rfl rfl (by decide) rfl hl.1 rfl (Nat.le_of_ble_eq_true rfl) dd_LW_law_823 ⟨hc, hs⟩ (fun v u H locs hp hP hD hS => ?_) (fun x C u H locs hp hxf hP hD hS => hp.elim)
  obtain ⟨rb, rfl, hrb, rfl⟩ := hp
  have hP : va_P D classes (wM cL hm len n cl 0 (sTold len n ca wa a1 a2).1 ca wa ++ ((o, .inl (cL, 1, .inr (.inl f1))) :: wX cI cL h g1 cl len n ca wa z1)) H := va_P.swap (a := []) (b := (o, .inl (cL, 1, .inr (.inl f1))) :: wX cI cL h g1 cl len n ca wa z1) (c := wM cL hm len n cl 0 (sTold len n ca wa a1 a2).1 ca wa) hP
  have hD : va_D (AL s) (wM cL hm len n cl 0 (sTold len n ca wa a1 a2).1 ca wa ++ ((o, .inl (cL, 1, .inr (.inl f1))) :: wX cI cL h g1 cl len n ca wa z1)) := va_D.swap (a := []) (b := (o, .inl (cL, 1, .inr (.inl f1))) :: wX cI cL h g1 cl len n ca wa z1) (c := wM cL hm len n cl 0 (sTold len n ca wa a1 a2).1 ca wa) hD
  refine lv_topl (fun v826 e826 => ?_)
  obtain rfl : rb = v826 := (e826).symm
  refine lv_lstore hx hb dd_LW_law_826 hl (by decide) rfl (fun ls hl => ?_)
  have hl : lv_has ls 8 [(6, .long rb), (5, .int r1), (4, .int (nI i)), (3, .ref o), (2, .ref (hm 0)), (1, .ref (h 0)), (0, .ref b)] := hl
  refine lv_aload_n hx hb dd_LW_law_828 rfl (lv_at hl 4 rfl) ?_
  refine RdI.callV (c_MO_thrown l D cI cL hm len n cl 0 (sTold len n ca wa a1 a2).1 ca wa) vs_LW_55 ⟨hx, hb, hml, hown, hT⟩ hK (hP.sub (ws' := wM cL hm len n cl 0 (sTold len n ca wa a1 a2).1 ca wa) [0, 1, 2] rfl) 0 rfl rfl ⟨rfl, rfl⟩ (by decide) rfl hl.1 rfl (Nat.le_of_ble_eq_true rfl) dd_LW_law_829 ⟨hc, hs⟩ (fun r hr => ?_)
  subst hr
  refine lv_iload hx hb dd_LW_law_832 (lv_at hl 1 rfl) ?_
  refine lv_icmp_eq (tgt := 839) hx hb dd_LW_law_834 (by decide) (fun hc1 => ?_) (fun hc1 => ?_)
  · refine lv_iload hx hb dd_LW_law_839 (lv_at hl 1 rfl) ?_
    refine lv_if_ne (tgt := 855) hx hb dd_LW_law_841 (by decide) (fun h0 => ?_) (fun h0 => ?_)
    · refine lv_goto (tgt := 883) hx hb dd_LW_law_855 (by decide) ?_
      exact kk g1 cl len n ca wa z1 f1 (sTold len n ca wa a1 a2).1 H locs ls hIu hP hD hS (lv_sub hl [2, 3, 4, 5, 6] rfl)
    · refine lv_aload_n hx hb dd_LW_law_844 rfl (lv_at hl 3 rfl) ?_
      refine lv_iconst (v := 0) hx hb dd_LW_law_845 (by decide) ?_
      refine tq_lald (k := 0) hx hb hK hP 3 rfl (by decide) (by decide) dd_LW_law_846 ?_
      refine lv_lload hx hb dd_LW_law_847 (lv_at hl 0 rfl) ?_
      refine tq_leq (tgt := 855) hx hb dd_LW_law_849 dd_LW_law_850 (by decide) (fun hne => ?_) (fun hne => ?_)
      · refine lv_goto (tgt := 883) hx hb dd_LW_law_855 (by decide) ?_
        exact kk g1 cl len n ca wa z1 f1 (sTold len n ca wa a1 a2).1 H locs ls hIu hP hD hS (lv_sub hl [2, 3, 4, 5, 6] rfl)
      · exact absurd (by rw [hrb]; exact hans (hr1.symm.trans h0)) hne
  · exact absurd hr1.symm hc1
set_option maxRecDepth 20000 in
theorem arm_4 {p : Program} {l : Launch} {e : Env} {s : State} {m : MethodId} {below : List Frame} {meth : Method} {c : Code} {b L : Nat} {xs : Nat → Int32} {D : va_G} {cI cL : ClassId} {Q : State → Prop} (E : lw_E p l s m c b L xs D cI cL) {h hm : Nat → Nat} {o i : Nat} (hi : i + 5 ≤ L) {g cl : Int32} {len n : Nat} {ca wa : Nat → Int64} {z : ZT} {f : Nat → Int64} {th : Int32} (hI : IV (len, n, ca, wa, cl, g, z))
    {H : Heap} {locs : List Loc} {ls : Array Slot} {cells slots : Nat} (hP : va_P D classes (wA cI cL h hm o g cl len n ca wa z f th) H) (hD : va_D (AL s) (wA cI cL h hm o g cl len n ca wa z f th)) (hS : va_S (AL s) s.heap H locs) (hl : lv_has ls 8 (LOC h hm o b i)) (hc : cells + 2 ≤ 601024) (hs : slots + 12 ≤ 7293034)
    (kk : lw_N p l e s m below meth c b D cI cL h hm o i cells slots Q) : W p l e room_1 s m #[Value.ref b] below meth c H locs cells slots Q (F0 m 384 ls []) := by
  obtain ⟨hx, hb, hml, hown, hT, hK, hX, hXs, hbl, hfl, hL⟩ := E
  have hA : ∀ q, s.heap.size ≤ q → AL s q := fun _ h9 => h9
  have hSK := @lw_SK s
  have hbA : ¬ AL s b := Nat.not_le.mpr hbl
  have hlen : len ≤ 64 := hI.1.1.2
  have hn : n ≤ 512 := hI.1.2.1
  have hg : g = 0 ∨ g = 1 ∧ GT len n ca wa z := hI.2
  have hl : lv_has ls 8 [(4, .int (nI i)), (3, .ref o), (2, .ref (hm 0)), (1, .ref (h 0)), (0, .ref b)] := hl
  refine lv_aload_n hx hb dd_LW_law_384 rfl (lv_at hl 3 rfl) ?_
  refine lv_aload_n hx hb dd_LW_law_385 rfl (lv_at hl 4 rfl) ?_
  refine lv_iload hx hb dd_LW_law_386 (lv_at hl 0 rfl) ?_
  refine lv_iconst (v := 1) hx hb dd_LW_law_388 (by decide) ?_
  refine lv_iadd hx hb dd_LW_law_389 ?_
  refine va_sld hx hb hXs hbl hbA hS (sin1 hi hL) dd_LW_law_390 ?_
  refine lv_i2l hx hb dd_LW_law_391 rfl ?_
  refine lv_bipush (v := 32) hx hb dd_LW_law_392 (by decide) ?_
  refine lv_lshl hx hb dd_LW_law_394 rfl ?_
  refine lv_aload_n hx hb dd_LW_law_395 rfl (lv_at hl 4 rfl) ?_
  refine lv_iload hx hb dd_LW_law_396 (lv_at hl 0 rfl) ?_
  refine lv_iconst (v := 2) hx hb dd_LW_law_398 (by decide) ?_
  refine lv_iadd hx hb dd_LW_law_399 ?_
  refine va_sld hx hb hXs hbl hbA hS (sin2 hi hL) dd_LW_law_400 ?_
  refine lv_i2l hx hb dd_LW_law_401 rfl ?_
  refine lv_ldc2 (v := 4294967295) hx hb hown (hT _ tw_434) dd_LW_law_402 ?_
  refine lv_land hx hb dd_LW_law_405 ?_
  refine lv_lor hx hb dd_LW_law_406 ?_
  refine lv_topl (fun a1 ea1 => ?_)
  refine MT.callV (c_PT_decode l D cI cL h g cl len n ca wa z a1 hlen hn hg) vs_LW_72 ⟨hx, hb, hml, hown, hT⟩ ⟨hK, hX, hSK _ _ hS, hP, hD, hS, hA⟩ (⟨rfl, rfl, rfl, rfl, rfl, by decide⟩ : tq_J _ _ (wM cL hm len n cl 0 th ca wa ++ [(o, .inl (cL, 1, .inr (.inl f)))]) [4, 5, 6, 7, 8, 9, 10, 11, 12] [0, 1, 2, 3]) 0 rfl rfl (by decide) rfl hl.1 rfl (Nat.le_of_ble_eq_true rfl) dd_LW_law_407 ⟨Nat.le_trans (Nat.le_add_right _ 2) hc, Nat.le_trans (Nat.le_add_right _ 12) hs⟩ (fun v u H locs hp hP hD hS => ?_) (fun x C u H locs hp hxf hP hD hS => hp.elim)
  obtain ⟨r1, rfl, hr1, y, hy, rfl⟩ := hp
  have hP : va_P D classes (wM cL hm len n cl 0 th ca wa ++ ((o, .inl (cL, 1, .inr (.inl f))) :: wX cI cL h 1 cl len n ca wa y)) H := hP
  have hD : va_D (AL s) (wM cL hm len n cl 0 th ca wa ++ ((o, .inl (cL, 1, .inr (.inl f))) :: wX cI cL h 1 cl len n ca wa y)) := hD
  refine lv_aload_n hx hb dd_LW_law_410 rfl (lv_at hl 2 rfl) ?_
  refine lv_aload_n hx hb dd_LW_law_411 rfl (lv_at hl 4 rfl) ?_
  refine lv_iload hx hb dd_LW_law_412 (lv_at hl 0 rfl) ?_
  refine lv_iconst (v := 1) hx hb dd_LW_law_414 (by decide) ?_
  refine lv_iadd hx hb dd_LW_law_415 ?_
  refine va_sld hx hb hXs hbl hbA hS (sin1 hi hL) dd_LW_law_416 ?_
  refine lv_i2l hx hb dd_LW_law_417 rfl ?_
  refine lv_bipush (v := 32) hx hb dd_LW_law_418 (by decide) ?_
  refine lv_lshl hx hb dd_LW_law_420 rfl ?_
  refine lv_aload_n hx hb dd_LW_law_421 rfl (lv_at hl 4 rfl) ?_
  refine lv_iload hx hb dd_LW_law_422 (lv_at hl 0 rfl) ?_
  refine lv_iconst (v := 2) hx hb dd_LW_law_424 (by decide) ?_
  refine lv_iadd hx hb dd_LW_law_425 ?_
  refine va_sld hx hb hXs hbl hbA hS (sin2 hi hL) dd_LW_law_426 ?_
  refine lv_i2l hx hb dd_LW_law_427 rfl ?_
  refine lv_ldc2 (v := 4294967295) hx hb hown (hT _ tw_434) dd_LW_law_428 ?_
  refine lv_land hx hb dd_LW_law_431 ?_
  refine lv_lor hx hb dd_LW_law_432 ?_
  refine lv_topl (fun b1 eb1 => ?_)
  obtain rfl : a1 = b1 := ea1.trans eb1.symm
  refine MT.callV (c_MO_decode l D cI cL hm len n cl 0 th ca wa a1 hn (hI.1.uniq a1)) vs_LW_75 ⟨hx, hb, hml, hown, hT⟩ ⟨hK, hX, hSK _ _ hS, hP, hD, hS, hA⟩ (⟨rfl, rfl, rfl, rfl, rfl, by decide⟩ : tq_J _ _ ((o, .inl (cL, 1, .inr (.inl f))) :: wX cI cL h 1 cl len n ca wa y) [0, 1, 2] [3, 4, 5, 6, 7, 8, 9, 10, 11, 12]) 0 rfl rfl (by decide) rfl hl.1 rfl (Nat.le_of_ble_eq_true rfl) dd_LW_law_433 ⟨Nat.le_trans (Nat.le_add_right _ 2) hc, Nat.le_trans (Nat.le_add_right _ 12) hs⟩ (fun v u H locs hp hP hD hS => ?_) (fun x C u H locs hp hxf hP hD hS => hp.elim)
  obtain ⟨rb, rfl, hrb, rfl⟩ := hp
  have hP : va_P D classes (wM cL hm len n cl 0 0 ca wa ++ ((o, .inl (cL, 1, .inr (.inl f))) :: wX cI cL h 1 cl len n ca wa y)) H := va_P.swap (a := []) (b := (o, .inl (cL, 1, .inr (.inl f))) :: wX cI cL h 1 cl len n ca wa y) (c := wM cL hm len n cl 0 0 ca wa) hP
  have hD : va_D (AL s) (wM cL hm len n cl 0 0 ca wa ++ ((o, .inl (cL, 1, .inr (.inl f))) :: wX cI cL h 1 cl len n ca wa y)) := va_D.swap (a := []) (b := (o, .inl (cL, 1, .inr (.inl f))) :: wX cI cL h 1 cl len n ca wa y) (c := wM cL hm len n cl 0 0 ca wa) hD
  refine lv_icmp_eq (tgt := 883) hx hb dd_LW_law_436 (by decide) (fun hc1 => ?_) (fun hc1 => ?_)
  · refine W.widen (k := cells + 2) (n := slots + 12) (Nat.le_add_right _ 2) (Nat.le_add_right _ 12) ?_
    exact kk 1 cl len n ca wa y f 0 H locs ls (iv_grown hI hy) hP hD hS (lv_sub hl [0, 1, 2, 3, 4] rfl)
  · exact absurd ((decode_eq hI.1 hr1).trans hrb.symm) hc1
set_option maxRecDepth 20000 in
theorem arm_9 {p : Program} {l : Launch} {e : Env} {s : State} {m : MethodId} {below : List Frame} {meth : Method} {c : Code} {b L : Nat} {xs : Nat → Int32} {D : va_G} {cI cL : ClassId} {Q : State → Prop} (E : lw_E p l s m c b L xs D cI cL) {h hm : Nat → Nat} {o i : Nat} (hi : i + 5 ≤ L) {g cl : Int32} {len n : Nat} {ca wa : Nat → Int64} {z : ZT} {f : Nat → Int64} {th : Int32} (hI : IV (len, n, ca, wa, cl, g, z))
    {H : Heap} {locs : List Loc} {ls : Array Slot} {cells slots : Nat} (hP : va_P D classes (wA cI cL h hm o g cl len n ca wa z f th) H) (hD : va_D (AL s) (wA cI cL h hm o g cl len n ca wa z f th)) (hS : va_S (AL s) s.heap H locs) (hl : lv_has ls 8 (LOC h hm o b i)) (hc : cells + 2 ≤ 601024) (hs : slots + 12 ≤ 7293034)
    (kk : lw_N p l e s m below meth c b D cI cL h hm o i cells slots Q) : W p l e room_1 s m #[Value.ref b] below meth c H locs cells slots Q (F0 m 858 ls []) := by
  obtain ⟨hx, hb, hml, hown, hT, hK, hX, hXs, hbl, hfl, hL⟩ := E
  have hA : ∀ q, s.heap.size ≤ q → AL s q := fun _ h9 => h9
  have hSK := @lw_SK s
  have hbA : ¬ AL s b := Nat.not_le.mpr hbl
  have hlen : len ≤ 64 := hI.1.1.2
  have hn : n ≤ 512 := hI.1.2.1
  have hg : g = 0 ∨ g = 1 ∧ GT len n ca wa z := hI.2
  have hl : lv_has ls 8 [(4, .int (nI i)), (3, .ref o), (2, .ref (hm 0)), (1, .ref (h 0)), (0, .ref b)] := hl
  refine lv_aload_n hx hb dd_LW_law_858 rfl (lv_at hl 3 rfl) ?_
  refine lv_aload_n hx hb dd_LW_law_859 rfl (lv_at hl 4 rfl) ?_
  refine lv_iload hx hb dd_LW_law_860 (lv_at hl 0 rfl) ?_
  refine lv_iconst (v := 1) hx hb dd_LW_law_862 (by decide) ?_
  refine lv_iadd hx hb dd_LW_law_863 ?_
  refine va_sld hx hb hXs hbl hbA hS (sin1 hi hL) dd_LW_law_864 ?_
  refine lv_topi (fun a1 ea1 => ?_)
  refine RdI.callV (c_PT_count l D cI cL h g cl len n ca wa z a1) vs_LW_89 ⟨hx, hb, hml, hown, hT⟩ hK (hP.sub (ws' := wX cI cL h g cl len n ca wa z) [4, 5, 6, 7, 8, 9, 10, 11, 12] rfl) 0 rfl rfl ⟨rfl, rfl⟩ (by decide) rfl hl.1 rfl (Nat.le_of_ble_eq_true rfl) dd_LW_law_865 ⟨Nat.le_trans (Nat.le_add_right _ 2) hc, Nat.le_trans (Nat.le_add_right _ 12) hs⟩ (fun r hr => ?_)
  subst hr
  refine lv_aload_n hx hb dd_LW_law_868 rfl (lv_at hl 2 rfl) ?_
  refine lv_aload_n hx hb dd_LW_law_869 rfl (lv_at hl 4 rfl) ?_
  refine lv_iload hx hb dd_LW_law_870 (lv_at hl 0 rfl) ?_
  refine lv_iconst (v := 1) hx hb dd_LW_law_872 (by decide) ?_
  refine lv_iadd hx hb dd_LW_law_873 ?_
  refine va_sld hx hb hXs hbl hbA hS (sin1 hi hL) dd_LW_law_874 ?_
  refine lv_topi (fun b1 eb1 => ?_)
  obtain rfl : a1 = b1 := ea1.trans eb1.symm
  refine MT.callV (c_MO_count l D cI cL hm len n cl 0 th ca wa a1) vs_LW_93 ⟨hx, hb, hml, hown, hT⟩ ⟨hK, hX, hSK _ _ hS, hP, hD, hS, hA⟩ (⟨rfl, rfl, rfl, rfl, rfl, by decide⟩ : tq_J _ _ ((o, .inl (cL, 1, .inr (.inl f))) :: wX cI cL h g cl len n ca wa z) [0, 1, 2] [3, 4, 5, 6, 7, 8, 9, 10, 11, 12]) 0 rfl rfl (by decide) rfl hl.1 rfl (Nat.le_of_ble_eq_true rfl) dd_LW_law_875 ⟨Nat.le_trans (Nat.le_add_right _ 2) hc, Nat.le_trans (Nat.le_add_right _ 12) hs⟩ (fun v u H locs hp hP hD hS => ?_) (fun x C u H locs hp hxf hP hD hS => hp.elim)
  obtain ⟨rb, rfl, hrb, rfl⟩ := hp
  have hP : va_P D classes (wM cL hm len n cl 0 0 ca wa ++ ((o, .inl (cL, 1, .inr (.inl f))) :: wX cI cL h g cl len n ca wa z)) H := va_P.swap (a := []) (b := (o, .inl (cL, 1, .inr (.inl f))) :: wX cI cL h g cl len n ca wa z) (c := wM cL hm len n cl 0 0 ca wa) hP
  have hD : va_D (AL s) (wM cL hm len n cl 0 0 ca wa ++ ((o, .inl (cL, 1, .inr (.inl f))) :: wX cI cL h g cl len n ca wa z)) := va_D.swap (a := []) (b := (o, .inl (cL, 1, .inr (.inl f))) :: wX cI cL h g cl len n ca wa z) (c := wM cL hm len n cl 0 0 ca wa) hD
  refine lv_icmp_eq (tgt := 883) hx hb dd_LW_law_878 (by decide) (fun hc1 => ?_) (fun hc1 => ?_)
  · refine W.widen (k := cells + 2) (n := slots + 12) (Nat.le_add_right _ 2) (Nat.le_add_right _ 12) ?_
    exact kk g cl len n ca wa z f 0 H locs ls hI hP hD hS (lv_sub hl [0, 1, 2, 3, 4] rfl)
  · exact absurd hrb.symm hc1
end
section
/-! THE CLAIM OUT OF ONE WALK OF THE LAW'S BODY. Your part is whole_start (and what it stands on); all else here is the same for every law, but numbers. -/
def R_law : String := "PatternTreeLaw"
def lw_P (b : Addr) (xs : List Int32) (args : Array Value) (s : State) : Prop := args = #[.ref b] ∧ s.IntsAt b xs ∧ xs.length ≤ 2560 ∧ (Jvm.Cond.and given_1 narrow_1).before args s = true
def lw_Q (_ : Array Value) (s : State) (o : Outcome) (t : State) : Prop := o = .returned (some (.int 1)) ∧ Framed s o t [] 601024 7293034
def lw_Z (below : List Frame) (a : Array Value) (s : State) : State → Prop := fun t => ∃ o, t.status = .running ∧ Ended t below o ∧ lw_Q a s o t
/-- the law's own end, with 1 on the stack, nothing written that was there before, its room as the claim has it -/
theorem lw_ret {p : Program} {l : Launch} {e : Env} {s : State} {m : MethodId} {below : List Frame} {meth : Method} {c : Code} {b : Nat} (hx : p.tables.exec = Jvm.exec) (hb : c.code = code) (hr : meth.sig.returnType = ret) (hlocks : meth.locks = false) {pc : Nat} {H : Heap} {ls : Array Slot} (hdg : decode code pc = .ok (.ireturn, 1)) : W p l e room_1 s m #[Value.ref b] below meth c H [] 601024 7293034 (lw_Z below #[Value.ref b] s) (F0 m pc ls [.int 1]) := by
  intro T hT X
  obtain ⟨fs, hret, hrun, hended, hW, hframe⟩ := X.leave (v := some (.int 1)) (hlocks := hlocks) (fun h => by rw [hr] at h; cases h)
  have hmeth' : T.vm.method? m = some meth := X.method'
  refine ⟨T.setFrames fs, ?_, .returned (some (.int 1)), hrun, hended, rfl, ⟨_, rfl⟩, hW, hframe⟩
  jvm_step X.here [X.here.top, hx, hb, hdg, hmeth', hr, ret, narrow_b1]
  (try refine ⟨rfl, ?_⟩); (try refine ⟨rfl, ?_⟩)
  first | (intro acts; rw [hret _ acts rfl rfl rfl]) | rw [hret _ _ rfl rfl rfl]
  exact Steps.refl _
/-- what holds at the law's entry: the machine, the code, the tables' words (any of lw_tbl by 'hts w (by decide +kernel)'), the script of L ints xs at the cell b, what the Statement gives of the start (any of its parts by flat_of_before) -/
def lw_At (p : Program) (s : State) (m : MethodId) (meth : Method) (c : Code) (b L : Nat) (xs : Nat → Int32) : Prop :=
  p.tables.exec = Jvm.exec ∧ c.code = code ∧ meth.sig.returnType = ret ∧ c.maxLocals = 8 ∧ s.vm.findClass R_law = some m.cls ∧ (∀ w ∈ lw_tbl, w.before #[Value.ref b] s = true) ∧ va_X b L xs s s.heap ∧ b < s.heap.size ∧ meth.locks = false ∧ (Jvm.Cond.and given_1 narrow_1).before #[Value.ref b] s = true
theorem lw_lt {L i : Nat} (hL : L ≤ 2560) (hi : i ≤ 2570) : nI L - 5 < nI i ↔ L < i + 5 := by
  rw [Int32.lt_iff_toInt_lt, Int32.toInt_sub]
  have e1 : (nI L).toInt = (L : Int) := Int32.toInt_ofNat_of_lt (by omega)
  have e2 : (nI i).toInt = (i : Int) := Int32.toInt_ofNat_of_lt (by omega)
  have e3 : (5 : Int32).toInt = 5 := rfl
  rw [e1, e2, e3]
  unfold Int.bmod
  dsimp only
  split <;> omega
theorem tq_no_of {args : Array Value} {s : State} {A B : String} (h : (Cond.not (.castable A B)).before args s = true) : tq_no s A B := by
  simp only [Cond.before, Cond.holds, Cond.value] at h
  cases hc : s.vm.findClass A with
  | none => simp [hc] at h
  | some c =>
    cases ht : s.vm.findClass B with
    | none => simp [hc, ht] at h
    | some t => exact ⟨c, t, hc, ht, by simpa [hc, ht] using h⟩
theorem lw_w {w : Cond} (i : Nat) (h : tables_1[i]? = some w) : w ∈ lw_tbl := List.mem_append_right _ (List.mem_of_getElem? h)
theorem lw_XK {s : State} {b : Nat} (hts : ∀ w ∈ lw_tbl, w.before #[Value.ref b] s = true) (hgv : (Jvm.Cond.and given_1 narrow_1).before #[Value.ref b] s = true) : tq_XK s := by
  have hs := flat_of_before _ hgv
  refine ⟨?_, ?_, tq_no_of (hs _ (by decide +kernel)), tq_no_of (hs _ (by decide +kernel)), va_any rfl (hts _ (lw_w 22 (by decide +kernel)))⟩
  · exact List.forall_mem_cons.mpr ⟨va_any rfl (hts _ (lw_w 139 (by decide +kernel))), List.forall_mem_cons.mpr ⟨va_any rfl (hts _ (lw_w 141 (by decide +kernel))), List.forall_mem_cons.mpr ⟨va_any rfl (hts _ (lw_w 143 (by decide +kernel))), List.forall_mem_cons.mpr ⟨va_any rfl (hts _ (lw_w 138 (by decide +kernel))), List.forall_mem_cons.mpr ⟨va_any rfl (hts _ (lw_w 218 (by decide +kernel))), List.forall_mem_cons.mpr ⟨va_any rfl (hts _ (lw_w 261 (by decide +kernel))), List.forall_mem_cons.mpr ⟨va_any rfl (hts _ (lw_w 158 (by decide +kernel))), fun _ h => absurd h List.not_mem_nil⟩⟩⟩⟩⟩⟩⟩
  · refine List.forall_mem_cons.mpr ⟨⟨?_, ?_⟩, List.forall_mem_cons.mpr ⟨⟨?_, ?_⟩, fun _ h => absurd h List.not_mem_nil⟩⟩
    · exact (hts (.laysStatic "java/lang/Throwable" "UNASSIGNED_STACK" "[Ljava/lang/StackTraceElement;") (lw_w 163 (by decide +kernel)) :)
    · exact (hs (.isRef (.static "java/lang/Throwable" "UNASSIGNED_STACK" "[Ljava/lang/StackTraceElement;")) (by decide +kernel) :)
    · exact (hts (.laysStatic "java/lang/Throwable" "SUPPRESSED_SENTINEL" "Ljava/util/List;") (lw_w 165 (by decide +kernel)) :)
    · exact (hs (.isRef (.static "java/lang/Throwable" "SUPPRESSED_SENTINEL" "Ljava/util/List;")) (by decide +kernel) :)
theorem lw_K {s : State} {b : Nat} (hT : ∀ w ∈ TT, w.before #[Value.ref b] s = true) : ∃ (D : va_G) (cI cL : ClassId), va_K D classes (tys cI cL) s := by
  obtain ⟨c0, i0, h0⟩ := u_known (T := F_PT) (N := 3) hT in_PT (hT _ tw_13)
  obtain ⟨c1, i1, h1⟩ := u_known (T := F_TR) (N := 11) hT in_TR (hT _ tw_21)
  obtain ⟨c2, i2, h2⟩ := u_known (T := F_MO) (N := 7) hT in_MO (hT _ tw_325)
  obtain ⟨cI, kI, pI, a1, a2, a3⟩ := Cond.arrayClass_spec (hT _ tw_66)
  obtain ⟨cL, kL, pL, b1, b2, b3⟩ := Cond.arrayClass_spec (hT _ tw_65)
  refine ⟨(fun k => match k with | 0 => c0 | 1 => c1 | _ => c2, fun k => match k with | 0 => i0 | 1 => i1 | _ => i2), cI, cL, fun c q hq => ?_, fun k q hk => ?_⟩
  · match c, hq with
    | 0, hq => cases hq; exact h0
    | 1, hq => cases hq; exact h1
    | 2, hq => cases hq; exact h2
    | c + 3, hq => cases hq
  · match k, hk with
    | 0, hk => cases hk; exact ⟨fun n z => ⟨fun k h => (by cases h), kI, a2, pI, a3⟩, a1⟩
    | 1, hk => cases hk; exact ⟨fun n z => ⟨fun k h => (by cases h), kL, b2, pL, b3⟩, b1⟩
    | k + 2, hk => cases hk
set_option maxRecDepth 20000 in
theorem lw_loop {p : Program} {l : Launch} {e : Env} {s : State} {m : MethodId} {below : List Frame} {meth : Method} {c : Code} {b L : Nat} {xs : Nat → Int32} {D : va_G} {cI cL : ClassId} (E : lw_E p l s m c b L xs D cI cL) (hr : meth.sig.returnType = ret) (hlocks : meth.locks = false) {h hm : Nat → Nat} {o : Nat} :
    ∀ (r i : Nat) (g cl : Int32) (len n : Nat) (ca wa : Nat → Int64) (z : ZT) (f : Nat → Int64) (th : Int32) (H : Heap) (locs : List Loc) (ls : Array Slot) (cells slots : Nat), L ≤ i + 4 + 5 * r → i ≤ 2570 → cells + 2 * r ≤ 601024 → slots + 12 * r ≤ 7293034 → IV (len, n, ca, wa, cl, g, z) → va_P D classes (wA cI cL h hm o g cl len n ca wa z f th) H → va_D (AL s) (wA cI cL h hm o g cl len n ca wa z f th) → va_S (AL s) s.heap H locs → lv_has ls 8 (LOC h hm o b i) →
      W p l e room_1 s m #[Value.ref b] below meth c H locs cells slots (lw_Z below #[Value.ref b] s) (F0 m 23 ls []) := by
  obtain ⟨hx, hb, hml, hown, hT, hK, hX, hXs, hbl, hfl, hL⟩ := id E
  have hA : ∀ q, s.heap.size ≤ q → AL s q := fun _ h9 => h9
  have hbA : ¬ AL s b := Nat.not_le.mpr hbl
  intro r
  induction r with
  | zero =>
    intro i g cl len n ca wa z f th H locs ls cells slots hr9 hi9 hc hs hI hP hD hS hl
    have hl : lv_has ls 8 [(4, .int (nI i)), (3, .ref o), (2, .ref (hm 0)), (1, .ref (h 0)), (0, .ref b)] := hl
    refine lv_iload hx hb dd_LW_law_23 (lv_at hl 0 rfl) ?_
    refine lv_aload_n hx hb dd_LW_law_25 rfl (lv_at hl 4 rfl) ?_
    refine va_slen hx hb hXs hbl hbA hS dd_LW_law_26 ?_
    refine lv_iconst (v := 5) hx hb dd_LW_law_27 (by decide) ?_
    refine lv_isub hx hb dd_LW_law_28 ?_
    refine lv_icmp_gt (tgt := 889) hx hb dd_LW_law_29 (by decide) (fun hc9 => ?_) (fun hc9 => ?_)
    · refine lv_iconst (v := 1) hx hb dd_LW_law_889 (by decide) ?_
      refine W.widen (k := 601024) (n := 7293034) (by omega) (by omega) ?_
      refine va_forget (fun q hq => hS.2.2 q hq) ?_
      exact lw_ret hx hb hr hlocks dd_LW_law_890
    · exact absurd ((lw_lt hL hi9).mpr (by omega)) hc9
  | succ r ih =>
    intro i g cl len n ca wa z f th H locs ls cells slots hr9 hi9 hc hs hI hP hD hS hl
    have hl : lv_has ls 8 [(4, .int (nI i)), (3, .ref o), (2, .ref (hm 0)), (1, .ref (h 0)), (0, .ref b)] := hl
    refine lv_iload hx hb dd_LW_law_23 (lv_at hl 0 rfl) ?_
    refine lv_aload_n hx hb dd_LW_law_25 rfl (lv_at hl 4 rfl) ?_
    refine va_slen hx hb hXs hbl hbA hS dd_LW_law_26 ?_
    refine lv_iconst (v := 5) hx hb dd_LW_law_27 (by decide) ?_
    refine lv_isub hx hb dd_LW_law_28 ?_
    refine lv_icmp_gt (tgt := 889) hx hb dd_LW_law_29 (by decide) (fun hc9 => ?_) (fun hc9 => ?_)
    · refine lv_iconst (v := 1) hx hb dd_LW_law_889 (by decide) ?_
      refine W.widen (k := 601024) (n := 7293034) (by omega) (by omega) ?_
      refine va_forget (fun q hq => hS.2.2 q hq) ?_
      exact lw_ret hx hb hr hlocks dd_LW_law_890
    · have hi : i + 5 ≤ L := Nat.not_lt.mp fun h9 => hc9 ((lw_lt hL hi9).mpr h9)
      have kk : lw_N p l e s m below meth c b D cI cL h hm o i cells slots (lw_Z below #[Value.ref b] s) := by
        intro g cl len n ca wa z f th H locs ls hI hP hD hS hl
        have hl : lv_has ls 8 [(4, .int (nI i)), (3, .ref o), (2, .ref (hm 0)), (1, .ref (h 0)), (0, .ref b)] := hl
        refine lv_iinc (k := 0) hx hb dd_LW_law_883 hl rfl (show nI i + Int32.ofInt 5 = nI (i + 5) from nI_add i 5) (by decide) rfl (fun ls hl => ?_)
        have hl : lv_has ls 8 [(4, .int (nI (i + 5))), (3, .ref o), (2, .ref (hm 0)), (1, .ref (h 0)), (0, .ref b)] := hl
        refine lv_goto (tgt := 23) hx hb dd_LW_law_886 (by decide) ?_
        exact ih (i + 5) g cl len n ca wa z f th H locs ls _ _ (by omega) (by omega) (by omega) (by omega) hI hP hD hS (lv_sub hl [0, 1, 2, 3, 4] rfl)
      refine lv_aload_n hx hb dd_LW_law_32 rfl (lv_at hl 4 rfl) ?_
      refine lv_iload hx hb dd_LW_law_33 (lv_at hl 0 rfl) ?_
      refine va_sld hx hb hXs hbl hbA hS (vp_in_nI (by omega) (by omega)) dd_LW_law_35 ?_
      refine lv_bipush (v := 15) hx hb dd_LW_law_36 (by decide) ?_
      refine lv_iand hx hb dd_LW_law_38 ?_
      refine lv_topi (fun v ev => ?_)
      by_cases h0 : v = 0
      · subst h0
        refine lv_tableIn (tgt := 92) (off := 53) hx hb dd_LW_law_39 (by decide) (by decide) rfl (by decide) ?_
        exact arm_0 E hi hI hP hD hS hl (by omega) (by omega) kk
      by_cases h1 : v = 1
      · subst h1
        refine lv_tableIn (tgt := 128) (off := 89) hx hb dd_LW_law_39 (by decide) (by decide) rfl (by decide) ?_
        exact arm_1 E hi hI hP hD hS hl (by omega) (by omega) kk
      by_cases h2 : v = 2
      · subst h2
        refine lv_tableIn (tgt := 260) (off := 221) hx hb dd_LW_law_39 (by decide) (by decide) rfl (by decide) ?_
        exact arm_2 E hi hI hP hD hS hl (by omega) (by omega) kk
      by_cases h3 : v = 3
      · subst h3
        refine lv_tableIn (tgt := 348) (off := 309) hx hb dd_LW_law_39 (by decide) (by decide) rfl (by decide) ?_
        exact arm_3 E hi hI hP hD hS hl (by omega) (by omega) kk
      by_cases h4 : v = 4
      · subst h4
        refine lv_tableIn (tgt := 384) (off := 345) hx hb dd_LW_law_39 (by decide) (by decide) rfl (by decide) ?_
        exact arm_4 E hi hI hP hD hS hl (by omega) (by omega) kk
      by_cases h5 : v = 5
      · subst h5
        refine lv_tableIn (tgt := 441) (off := 402) hx hb dd_LW_law_39 (by decide) (by decide) rfl (by decide) ?_
        exact arm_5 E hi hI hP hD hS hl (by omega) (by omega) kk
      by_cases h6 : v = 6
      · subst h6
        refine lv_tableIn (tgt := 573) (off := 534) hx hb dd_LW_law_39 (by decide) (by decide) rfl (by decide) ?_
        exact arm_6 E hi hI hP hD hS hl (by omega) (by omega) kk
      by_cases h7 : v = 7
      · subst h7
        refine lv_tableIn (tgt := 704) (off := 665) hx hb dd_LW_law_39 (by decide) (by decide) rfl (by decide) ?_
        exact arm_7 E hi hI hP hD hS hl (by omega) (by omega) kk
      by_cases h8 : v = 8
      · subst h8
        refine lv_tableIn (tgt := 791) (off := 752) hx hb dd_LW_law_39 (by decide) (by decide) rfl (by decide) ?_
        exact arm_8 E hi hI hP hD hS hl (by omega) (by omega) kk
      by_cases h9 : v = 9
      · subst h9
        refine lv_tableIn (tgt := 858) (off := 819) hx hb dd_LW_law_39 (by decide) (by decide) rfl (by decide) ?_
        exact arm_9 E hi hI hP hD hS hl (by omega) (by omega) kk
      have t0 : v.toInt ≠ 0 := fun hq9 => h0 (Int32.toInt_inj.mp hq9)
      have t1 : v.toInt ≠ 1 := fun hq9 => h1 (Int32.toInt_inj.mp hq9)
      have t2 : v.toInt ≠ 2 := fun hq9 => h2 (Int32.toInt_inj.mp hq9)
      have t3 : v.toInt ≠ 3 := fun hq9 => h3 (Int32.toInt_inj.mp hq9)
      have t4 : v.toInt ≠ 4 := fun hq9 => h4 (Int32.toInt_inj.mp hq9)
      have t5 : v.toInt ≠ 5 := fun hq9 => h5 (Int32.toInt_inj.mp hq9)
      have t6 : v.toInt ≠ 6 := fun hq9 => h6 (Int32.toInt_inj.mp hq9)
      have t7 : v.toInt ≠ 7 := fun hq9 => h7 (Int32.toInt_inj.mp hq9)
      have t8 : v.toInt ≠ 8 := fun hq9 => h8 (Int32.toInt_inj.mp hq9)
      have t9 : v.toInt ≠ 9 := fun hq9 => h9 (Int32.toInt_inj.mp hq9)
      refine lv_tableOut (tgt := 883) hx hb dd_LW_law_39 (by omega) (by decide) ?_
      refine W.widen (k := cells + 2) (n := slots + 12) (Nat.le_add_right _ 2) (Nat.le_add_right _ 12) ?_
      exact kk g cl len n ca wa z f th H locs ls hI hP hD hS hl
set_option maxRecDepth 20000 in
theorem whole_start {p : Program} {e : Env} {s : State} {m : MethodId} {below : List Frame} {meth : Method} {c : Code} (l : Launch) (hfl : l.flags = pinnedFlags ++ [noTraceFlag]) {b L : Nat} {xs : Nat → Int32} (hL : L ≤ 2560) (C0 : lw_At p s m meth c b L xs) : W p l e room_1 s m #[Value.ref b] below meth c s.heap [] 0 0 (lw_Z below #[Value.ref b] s) (entryFrame m ([Value.ref b] : List Value).toArray 8) := by
  obtain ⟨hx, hb, hr, hml, hown, hts, hXs, hbl, hlocks, hgv⟩ := C0
  have hT := tt_hts hts
  have hX := lw_XK hts hgv
  obtain ⟨D, cI, cL, hK⟩ := lw_K hT
  have hown : s.vm.findClass "PatternTreeLaw" = some m.cls := hown
  have E : lw_E p l s m c b L xs D cI cL := ⟨hx, hb, hml, hown, hT, hK, hX, hXs, hbl, hfl, hL⟩
  have hA : ∀ q, s.heap.size ≤ q → AL s q := fun _ h9 => h9
  have hSK := @lw_SK s
  have hP : va_P D classes [] s.heap := fun k q hk => by cases hk
  have hD : va_D (AL s) [] := ⟨fun i j x y hi => (by cases hi), fun k q hk => (by cases hk)⟩
  have hS : va_S (AL s) s.heap s.heap [] := va_S.rf
  rw [lg_entry_eq]
  refine (?_ : ∀ ls : Array Slot, lv_has ls 8 (lv_args 0 [Value.ref b]) → W p l e room_1 s m #[Value.ref b] below meth c s.heap [] 0 0 (lw_Z below #[Value.ref b] s) (F0 m 0 ls [])) _ (lv_entry (n := 8) [Value.ref b] (Nat.le_of_ble_eq_true rfl))
  intro ls hl
  have hl : lv_has ls 8 [(0, .ref b)] := hl
  refine va_new (ci := 0) (fs := [.null, .int 0, .int 0]) hx hb hT in_PT t_PT t_PT_ok hown (hT _ tw_12) (hT _ tw_13) (hT _ tw_1) hK hP hD hS hA rfl (by decide) (Nat.le_of_ble_eq_true rfl) (Nat.le_of_ble_eq_true rfl) dd_LW_law_0 (fun q H hP hD hS => ?_)
  have hP : va_P D classes ([(q, .inr (0, [.null, .int 0, .int 0]))] : va_W) H := hP
  have hD : va_D (AL s) ([(q, .inr (0, [.null, .int 0, .int 0]))] : va_W) := hD
  refine lv_dup hx hb dd_LW_law_3 rfl ?_
  refine MT.callI (own := "PatternTreeLaw") (c_PT_init l D cI cL q) rfl rfl (by decide) (by decide) (Or.inl (hT _ tw_14)) tw_15 tw_1 tw_16 ⟨hx, hb, hml, hown, hT⟩ ⟨hK, hX, hSK _ _ hS, hP, hD, hS, hA⟩ (tq_J.same _) (by decide) hl.1 (Nat.le_of_ble_eq_true rfl) dd_LW_law_4 ⟨by decide, by decide⟩ (fun v h H1 locs1 hp hP1 hD1 hS1 => ?_) (fun x C u H locs hp hxf hP hD hS => hp.elim)
  obtain ⟨rfl, rfl⟩ := hp
  have hP : va_P D classes (wX0 cI cL h) H1 := hP1
  have hD : va_D (AL s) (wX0 cI cL h) := hD1
  have hS := hS1
  refine lv_astore_n hx hb dd_LW_law_7 rfl hl (by decide) rfl (fun ls hl => ?_)
  have hl : lv_has ls 8 [(1, .ref (h 0)), (0, .ref b)] := hl
  refine va_new (ci := 2) (fs := [.null, .null, .int 0, .int 0, .int 0, .int 0, .int 0]) hx hb hT in_MO t_MO t_MO_ok hown (hT _ tw_324) (hT _ tw_325) (hT _ tw_3) hK hP hD hS hA rfl (by decide) (Nat.le_of_ble_eq_true rfl) (Nat.le_of_ble_eq_true rfl) dd_LW_law_8 (fun q H hP hD hS => ?_)
  have hP : va_P D classes (wX0 cI cL h ++ [(q, .inr (2, [.null, .null, .int 0, .int 0, .int 0, .int 0, .int 0]))]) H := hP
  have hD : va_D (AL s) (wX0 cI cL h ++ [(q, .inr (2, [.null, .null, .int 0, .int 0, .int 0, .int 0, .int 0]))]) := hD
  refine lv_dup hx hb dd_LW_law_11 rfl ?_
  refine MT.callI (own := "PatternTreeLaw") (c_MO_init l D cI cL q) rfl rfl (by decide) (by decide) (Or.inl (hT _ tw_326)) tw_327 tw_3 tw_328 ⟨hx, hb, hml, hown, hT⟩ ⟨hK, hX, hSK _ _ hS, hP, hD, hS, hA⟩ (⟨rfl, rfl, rfl, rfl, rfl, by decide⟩ : tq_J _ _ (wX0 cI cL h) [9] [0, 1, 2, 3, 4, 5, 6, 7, 8]) (by decide) hl.1 (Nat.le_of_ble_eq_true rfl) dd_LW_law_12 ⟨by decide, by decide⟩ (fun v hm H1 locs1 hp hP1 hD1 hS1 => ?_) (fun x C u H locs hp hxf hP hD hS => hp.elim)
  obtain ⟨rfl, rfl⟩ := hp
  have hP : va_P D classes (wX0 cI cL h ++ wM0 cL hm) H1 := hP1
  have hD : va_D (AL s) (wX0 cI cL h ++ wM0 cL hm) := hD1
  have hS := hS1
  refine lv_astore_n hx hb dd_LW_law_15 rfl hl (by decide) rfl (fun ls hl => ?_)
  have hl : lv_has ls 8 [(2, .ref (hm 0)), (1, .ref (h 0)), (0, .ref b)] := hl
  refine lv_iconst (v := 1) hx hb dd_LW_law_16 (by decide) ?_
  refine tq_newL (N' := 1) hx hb (hT _ tw_65) hK hP hD hS hA (by decide) (by decide) (by decide) (Nat.le_of_ble_eq_true rfl) (Nat.le_of_ble_eq_true rfl) dd_LW_law_17 (fun o H hP hD hS => ?_)
  refine lv_astore_n hx hb dd_LW_law_19 rfl hl (by decide) rfl (fun ls hl => ?_)
  have hl : lv_has ls 8 [(3, .ref o), (2, .ref (hm 0)), (1, .ref (h 0)), (0, .ref b)] := hl
  refine lv_iconst (v := 0) hx hb dd_LW_law_20 (by decide) ?_
  refine lv_topi (fun v21 e21 => ?_)
  obtain rfl : v21 = nI 0 := e21
  refine lv_istore hx hb dd_LW_law_21 hl (by decide) rfl (fun ls hl => ?_)
  have hl : lv_has ls 8 [(4, .int (nI 0)), (3, .ref o), (2, .ref (hm 0)), (1, .ref (h 0)), (0, .ref b)] := hl
  exact lw_loop E hr hlocks 513 0 0 (-1) 32 0 (fun _ => 0) (fun _ => 0) z0 (fun _ => 0) 0 H _ ls _ _ (by omega) (by omega) (Nat.le_of_ble_eq_true rfl) (Nat.le_of_ble_eq_true rfl) ⟨clear_J ⟨by decide, by decide⟩, Or.inl rfl⟩
    (hP.sub (ws' := wA cI cL h hm o 0 (-1) 32 0 (fun _ => 0) (fun _ => 0) z0 (fun _ => 0) 0) [9, 10, 11, 12, 0, 1, 2, 3, 4, 5, 6, 7, 8] rfl) (hD.sub (ws' := wA cI cL h hm o 0 (-1) 32 0 (fun _ => 0) (fun _ => 0) z0 (fun _ => 0) 0) [9, 10, 11, 12, 0, 1, 2, 3, 4, 5, 6, 7, 8] rfl rfl) hS hl
set_option maxHeartbeats 4000000 in
theorem lw_walk (l : Launch) (hfl : l.flags = pinnedFlags ++ [noTraceFlag]) (b : Addr) (xs : List Int32) : MetFree l x (headSpec (Jvm.Cond.code x code maxLocals ret :: tables_1) room_1) (lw_P b xs) (fun _ _ _ _ _ => True) lw_Q := by
  refine MetFree.of_bodyS (code := code) (maxLocals := maxLocals) (ret := ret) (by decide) ?_ ?_
  · intro args s m h hn
    obtain ⟨meth, c, h1, h2, h3, h4, h5, h6, -, -⟩ := Cond.code_spec hn (atoms_spec (ws := Jvm.Cond.code x code maxLocals ret :: tables_1) h _ List.mem_cons_self)
    exact ⟨meth, c, h1, h2, h3, h4, h5, h6⟩
  · intro p e s m args below meth c s₁ B hml0 hP _
    obtain ⟨rfl, hx, hbd, hgv⟩ := hP
    obtain ⟨scr, harrAt, hlist, hof, hsmall⟩ := hx
    obtain ⟨hcb, hkn, -, -⟩ := State.arrayAt?_spec harrAt
    have hown : s.vm.findClass R_law = some m.cls := findClass_of_methodNamed B.named
    have hts0 : ∀ c ∈ (Jvm.Cond.code x code maxLocals ret :: tables_1), c.before #[Value.ref b] s = true := atoms_spec (ws := Jvm.Cond.code x code maxLocals ret :: tables_1) B.pre
    have hts : ∀ w ∈ lw_tbl, w.before #[Value.ref b] s = true := k2_hts_sels lw_privs (fun w hw => hts0 w (List.mem_cons_of_mem _ hw)) lw_privs_ok
    have hml : c.maxLocals = 8 := B.maxLocals_eq (hts0 _ List.mem_cons_self)
    have X₀ : Stand p l e room_1 s m #[Value.ref b] below meth c s₁ [] 0 0 := Stand.of_body B
    have hh0 : s₁.heap = s.heap := by rw [B.state]; rfl
    have hsz : scr.slots.size = xs.length := by rw [← Array.length_toList, hlist, List.length_map]
    have hval : ∀ j : Nat, j < xs.length → scr.slots[j]? = some (.int (xs.getD j 0)) := fun j hj => by
      rw [← Array.getElem?_toList, hlist]
      simp [hj]
    have hbl : b < s.heap.size := (Array.getElem?_eq_some_iff.mp hcb).1
    have hX : va_X b xs.length (fun j => xs.getD j 0) s s.heap := ⟨scr, hcb, hof, hkn, hsz, hval⟩
    have K : W p l e room_1 s m #[Value.ref b] below meth c s₁.heap [] 0 0 (lw_Z below #[Value.ref b] s) (entryFrame m ([Value.ref b] : List Value).toArray 8) := by
      rw [hh0]
      exact whole_start l hfl hbd ⟨B.exec, B.bytes, B.returns, hml, hown, hts, hX, hbl, B.notSynchronized, hgv⟩
    obtain ⟨t, a1, o, b1, b2, b3⟩ := K s₁ rfl X₀
    exact ⟨t, o, a1, b1, b2, b3⟩
theorem lw_pre_spec {args : Array Value} {s : State} (h : (Jvm.Cond.and given_1 narrow_1).before args s = true) (hr : rest_1_c.before args s = true) : ∃ (b : Addr) (xs : List Int32), lw_P b xs args s := by
  have hs := flat_of_before _ h
  have hq := flat_of_before _ hr
  have hc : (Cond.count 1).before args s = true := hs _ (by decide +kernel)
  have harr : (Cond.arrayOf (.arg 0) .int).before args s = true := hs _ (by decide +kernel)
  have hle : (Cond.le (.length (.arg 0)) (.int 2560)).before args s = true := hs _ (by decide +kernel)
  have hlen : (Cond.isInt (.length (.arg 0))).before args s = true := hq _ (by decide +kernel)
  have hall : (Cond.all (.arg 0) (.isInt (.elem (.arg 0) (.index 0)))).before args s = true := hq _ (by decide +kernel)
  obtain ⟨b, xs, hb, hx⟩ := State.ints_of_pre rfl harr hlen hall
  have hsm : xs.length < 2 ^ 31 := hx.choose_spec.2.2.2
  have hev : (Term.length (.arg 0)).eval args s none [] s = some (.int xs.length.toInt32) := hx.length_eval hb
  have hv := Cond.le_ints hev (show (Term.int 2560).eval args s none [] s = some (.int 2560) from rfl)
  have hd : xs.length.toInt32 ≤ 2560 := by
    simpa [Cond.before, Cond.holds, hv] using hle
  have hN : xs.length ≤ 2560 := (Int32.ofNat_le_ofNat hsm (by decide)).mp (show Int32.ofNat xs.length ≤ Int32.ofNat 2560 from hd)
  exact ⟨b, xs, Cond.one_arg hc (show args[0]? = some (.ref b) from hb), hx, hN, h⟩
theorem lw_comes (l : Launch) (hfl : l.flags = pinnedFlags ++ [noTraceFlag]) : Comes l x (Jvm.Cond.code x code maxLocals ret :: tables_1) room_1 (fun tb e args s => Calls_1 tb e args s ∧ rest_1 tb e args s ∧ Pre_1 tb e args s)
    (fun _ _ args s o t => lw_Q args s o t) := by
  intro p e ha hc hk s m args below hf hfit hheap happ hpre
  obtain ⟨b, xs, hP⟩ := lw_pre_spec hpre.2.2 hpre.2.1
  obtain ⟨k, o, h1, h2, h3, hQ⟩ := lw_walk l hfl b xs p e ha hc hk s m args below hf ((Spec.applies_iff_loose hf).mp happ).1 hP trivial
  exact ⟨k, o, h1, h2, h3, hQ⟩
theorem lw_frame {s t : State} {o : Outcome} {args : Array Value} (h : Framed s o t [] 601024 7293034) :
    Framed s o t (fieldLocs frame_1_writes args s ++ arrayLocs frame_1_arrays args s ++ staticLocs frame_1_statics s) 601024 7293034 := h
theorem lw_limb (L : Cond) (hL : ∀ (args : Array Value) (s t : State), L.after args s (.returned (some (.int 1))) t = true) :
    ArmFor flags0 classFile x code maxLocals ret World_1 tables_1 room_1 Calls_1 rest_1 Pre_1
      (fun tb e a s o t => postC L tb e a s o t ∧ Framed s o t (fieldLocs frame_1_writes a s ++ arrayLocs frame_1_arrays a s ++ staticLocs frame_1_statics s) 601024 7293034) := by
  intro l hfl _ _ p e ha hc hk s m args below hf hfit hheap happ hpre
  obtain ⟨k, o, h1, h2, h3, rfl, hF⟩ := lw_comes l hfl p e ha hc hk s m args below hf hfit hheap happ hpre
  exact ⟨k, _, h1, h2, h3, hL args s _, lw_frame hF⟩
theorem i_vc : Claimed_1_1 ∧ Claimed_1_2 := ⟨lw_limb limb_1_1 (fun args s t => by simp [limb_1_1, Cond.after, Cond.holds, Cond.value]), lw_limb limb_1_2 (fun args s t => Cond.after_iff.mpr (by
  first | (rw [show limb_1_2 = Cond.eq .result (.int 1) from rfl, Cond.eq_ints (x := 1) (y := 1) rfl rfl]; simp; done) | (simp [limb_1_2, Cond.value, Term.eval]; done)))⟩
end
