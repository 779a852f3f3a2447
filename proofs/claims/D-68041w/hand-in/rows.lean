section
/-! 01: the tables' words (PART A of the kit's skeleton), the good ones as one list GW, names, membership rows (by program) -/
/-- a private method of a class that the tables say can be made, by its rows of tables_1 -/
def lw_okq (q : MethodName × Nat) : Prop := (q.1.cls ≠ "java/lang/invoke/MethodHandle" ∧ q.1.cls ≠ "java/lang/invoke/VarHandle") ∧ Cond.instantiable q.1.cls q.2 ∈ tables_1 ∧ Cond.privateMethod q.1 ∈ tables_1 ∧ Cond.instanceMethod q.1 ∈ tables_1
theorem lw_p0 : lw_okq (⟨"OrderLine", "unlink", "(LOrderLine$Stamp;)V"⟩, 5) := ⟨⟨by decide +kernel, by decide +kernel⟩, List.mem_of_getElem? (i := 10) (by decide +kernel), List.mem_of_getElem? (i := 68) (by decide +kernel), List.mem_of_getElem? (i := 69) (by decide +kernel)⟩
theorem lw_p1 : lw_okq (⟨"OrderLine", "giveNumber", "(I)V"⟩, 5) := ⟨⟨by decide +kernel, by decide +kernel⟩, List.mem_of_getElem? (i := 10) (by decide +kernel), List.mem_of_getElem? (i := 72) (by decide +kernel), List.mem_of_getElem? (i := 73) (by decide +kernel)⟩
theorem lw_p2 : lw_okq (⟨"OrderLine", "of", "(I)LOrderLine$Stamp;"⟩, 5) := ⟨⟨by decide +kernel, by decide +kernel⟩, List.mem_of_getElem? (i := 10) (by decide +kernel), List.mem_of_getElem? (i := 96) (by decide +kernel), List.mem_of_getElem? (i := 97) (by decide +kernel)⟩
theorem lw_p3 : lw_okq (⟨"java/lang/Throwable", "fillInStackTrace", "(I)Ljava/lang/Throwable;"⟩, 6) := ⟨⟨by decide +kernel, by decide +kernel⟩, List.mem_of_getElem? (i := 136) (by decide +kernel), List.mem_of_getElem? (i := 134) (by decide +kernel), List.mem_of_getElem? (i := 135) (by decide +kernel)⟩
theorem lw_p4 : lw_okq (⟨"OrderLine", "takeNumber", "()I"⟩, 5) := ⟨⟨by decide +kernel, by decide +kernel⟩, List.mem_of_getElem? (i := 10) (by decide +kernel), List.mem_of_getElem? (i := 161) (by decide +kernel), List.mem_of_getElem? (i := 162) (by decide +kernel)⟩
theorem lw_p5 : lw_okq (⟨"OrderLine", "link", "(LOrderLine$Stamp;LOrderLine$Stamp;)V"⟩, 5) := ⟨⟨by decide +kernel, by decide +kernel⟩, List.mem_of_getElem? (i := 10) (by decide +kernel), List.mem_of_getElem? (i := 165) (by decide +kernel), List.mem_of_getElem? (i := 166) (by decide +kernel)⟩
theorem lw_p6 : lw_okq (⟨"OrderLine", "labelBehind", "(LOrderLine$Stamp;)J"⟩, 5) := ⟨⟨by decide +kernel, by decide +kernel⟩, List.mem_of_getElem? (i := 10) (by decide +kernel), List.mem_of_getElem? (i := 169) (by decide +kernel), List.mem_of_getElem? (i := 170) (by decide +kernel)⟩
theorem lw_p7 : lw_okq (⟨"OrderLine", "thin", "(LOrderLine$Stamp;)V"⟩, 5) := ⟨⟨by decide +kernel, by decide +kernel⟩, List.mem_of_getElem? (i := 10) (by decide +kernel), List.mem_of_getElem? (i := 175) (by decide +kernel), List.mem_of_getElem? (i := 176) (by decide +kernel)⟩
theorem lw_p8 : lw_okq (⟨"OrderLineModel", "lacks", "(III)Z"⟩, 4) := ⟨⟨by decide +kernel, by decide +kernel⟩, List.mem_of_getElem? (i := 231) (by decide +kernel), List.mem_of_getElem? (i := 258) (by decide +kernel), List.mem_of_getElem? (i := 259) (by decide +kernel)⟩
theorem lw_p9 : lw_okq (⟨"OrderLineModel", "find", "(I)I"⟩, 4) := ⟨⟨by decide +kernel, by decide +kernel⟩, List.mem_of_getElem? (i := 231) (by decide +kernel), List.mem_of_getElem? (i := 262) (by decide +kernel), List.mem_of_getElem? (i := 263) (by decide +kernel)⟩
theorem lw_p10 : lw_okq (⟨"OrderLineModel", "free", "()I"⟩, 4) := ⟨⟨by decide +kernel, by decide +kernel⟩, List.mem_of_getElem? (i := 231) (by decide +kernel), List.mem_of_getElem? (i := 266) (by decide +kernel), List.mem_of_getElem? (i := 267) (by decide +kernel)⟩
theorem lw_p11 : lw_okq (⟨"OrderLineModel", "put", "(II)V"⟩, 4) := ⟨⟨by decide +kernel, by decide +kernel⟩, List.mem_of_getElem? (i := 231) (by decide +kernel), List.mem_of_getElem? (i := 270) (by decide +kernel), List.mem_of_getElem? (i := 271) (by decide +kernel)⟩
theorem lw_p12 : lw_okq (⟨"OrderLineModel", "drop", "(I)V"⟩, 4) := ⟨⟨by decide +kernel, by decide +kernel⟩, List.mem_of_getElem? (i := 231) (by decide +kernel), List.mem_of_getElem? (i := 282) (by decide +kernel), List.mem_of_getElem? (i := 283) (by decide +kernel)⟩
def lw_privs_1 : List (MethodName × Nat) := [(⟨"OrderLine", "unlink", "(LOrderLine$Stamp;)V"⟩, 5), (⟨"OrderLine", "giveNumber", "(I)V"⟩, 5), (⟨"OrderLine", "of", "(I)LOrderLine$Stamp;"⟩, 5), (⟨"java/lang/Throwable", "fillInStackTrace", "(I)Ljava/lang/Throwable;"⟩, 6), (⟨"OrderLine", "takeNumber", "()I"⟩, 5), (⟨"OrderLine", "link", "(LOrderLine$Stamp;LOrderLine$Stamp;)V"⟩, 5), (⟨"OrderLine", "labelBehind", "(LOrderLine$Stamp;)J"⟩, 5), (⟨"OrderLine", "thin", "(LOrderLine$Stamp;)V"⟩, 5), (⟨"OrderLineModel", "lacks", "(III)Z"⟩, 4), (⟨"OrderLineModel", "find", "(I)I"⟩, 4), (⟨"OrderLineModel", "free", "()I"⟩, 4), (⟨"OrderLineModel", "put", "(II)V"⟩, 4), (⟨"OrderLineModel", "drop", "(I)V"⟩, 4)]
theorem lw_r1 : ∀ q ∈ lw_privs_1, lw_okq q := List.forall_mem_cons.mpr ⟨lw_p0, List.forall_mem_cons.mpr ⟨lw_p1, List.forall_mem_cons.mpr ⟨lw_p2, List.forall_mem_cons.mpr ⟨lw_p3, List.forall_mem_cons.mpr ⟨lw_p4, List.forall_mem_cons.mpr ⟨lw_p5, List.forall_mem_cons.mpr ⟨lw_p6, List.forall_mem_cons.mpr ⟨lw_p7, List.forall_mem_cons.mpr ⟨lw_p8, List.forall_mem_cons.mpr ⟨lw_p9, List.forall_mem_cons.mpr ⟨lw_p10, List.forall_mem_cons.mpr ⟨lw_p11, List.forall_mem_cons.mpr ⟨lw_p12, fun _ h => absurd h List.not_mem_nil⟩⟩⟩⟩⟩⟩⟩⟩⟩⟩⟩⟩⟩
def lw_privs : List (MethodName × Nat) := lw_privs_1
def lw_tbl : List Cond := k2_sels lw_privs ++ tables_1
theorem lw_privs_ok : ∀ q ∈ lw_privs, lw_okq q := lw_r1
/-- all words that a caller may hand on -/
def GW : List Cond := lw_tbl.filter goodWord
theorem GW_good {w : Cond} (h : w ∈ GW) : (w.onTables && w.keeps) = true ∨ ∃ ty, w = .arrayClass ty := good_of_word (List.mem_filter.mp h).2
theorem GW_tbl {w : Cond} (h : w ∈ GW) : w ∈ lw_tbl := (List.mem_filter.mp h).1
abbrev b_o_init : ByteArray := prog_1_method_1_code
def y_o_init : MethodName := ⟨"OrderLine", "<init>", "()V"⟩
abbrev b_o_of : ByteArray := prog_1_method_2_code
def y_o_of : MethodName := ⟨"OrderLine", "of", "(I)LOrderLine$Stamp;"⟩
abbrev b_o_has : ByteArray := prog_1_method_3_code
def y_o_has : MethodName := ⟨"OrderLine", "has", "(I)Z"⟩
abbrev b_o_takeNumber : ByteArray := prog_1_method_4_code
def y_o_takeNumber : MethodName := ⟨"OrderLine", "takeNumber", "()I"⟩
abbrev b_o_giveNumber : ByteArray := prog_1_method_5_code
def y_o_giveNumber : MethodName := ⟨"OrderLine", "giveNumber", "(I)V"⟩
abbrev b_o_labelBehind : ByteArray := prog_1_method_6_code
def y_o_labelBehind : MethodName := ⟨"OrderLine", "labelBehind", "(LOrderLine$Stamp;)J"⟩
abbrev b_o_thin : ByteArray := prog_1_method_7_code
def y_o_thin : MethodName := ⟨"OrderLine", "thin", "(LOrderLine$Stamp;)V"⟩
abbrev b_o_link : ByteArray := prog_1_method_8_code
def y_o_link : MethodName := ⟨"OrderLine", "link", "(LOrderLine$Stamp;LOrderLine$Stamp;)V"⟩
abbrev b_o_unlink : ByteArray := prog_1_method_9_code
def y_o_unlink : MethodName := ⟨"OrderLine", "unlink", "(LOrderLine$Stamp;)V"⟩
abbrev b_o_behind : ByteArray := prog_1_method_10_code
def y_o_behind : MethodName := ⟨"OrderLine", "behind", "(I)I"⟩
abbrev b_o_several : ByteArray := prog_1_method_11_code
def y_o_several : MethodName := ⟨"OrderLine", "several", "(II)I"⟩
abbrev b_o_remove : ByteArray := prog_1_method_12_code
def y_o_remove : MethodName := ⟨"OrderLine", "remove", "(I)Z"⟩
abbrev b_o_clear : ByteArray := prog_1_method_13_code
def y_o_clear : MethodName := ⟨"OrderLine", "clear", "(II)I"⟩
abbrev b_o_carry : ByteArray := prog_1_method_14_code
def y_o_carry : MethodName := ⟨"OrderLine", "carry", "(III)I"⟩
abbrev b_o_compare : ByteArray := prog_1_method_15_code
def y_o_compare : MethodName := ⟨"OrderLine", "compare", "(II)I"⟩
abbrev b_o_next : ByteArray := prog_1_method_16_code
def y_o_next : MethodName := ⟨"OrderLine", "next", "(IZ)I"⟩
abbrev b_o_place : ByteArray := prog_1_method_17_code
def y_o_place : MethodName := ⟨"OrderLine", "place", "(I)I"⟩
abbrev b_o_at : ByteArray := prog_1_method_18_code
def y_o_at : MethodName := ⟨"OrderLine", "at", "(I)I"⟩
abbrev b_o_greatest : ByteArray := prog_1_method_19_code
def y_o_greatest : MethodName := ⟨"OrderLine", "greatest", "(II)I"⟩
abbrev b_o_wipe : ByteArray := prog_1_method_20_code
def y_o_wipe : MethodName := ⟨"OrderLine", "wipe", "()V"⟩
abbrev b_o_look : ByteArray := prog_1_method_21_code
def y_o_look : MethodName := ⟨"OrderLine", "look", "(I)I"⟩
abbrev b_m_init : ByteArray := prog_4_method_1_code
def y_m_init : MethodName := ⟨"OrderLineModel", "<init>", "()V"⟩
abbrev b_m_thrown : ByteArray := prog_4_method_2_code
def y_m_thrown : MethodName := ⟨"OrderLineModel", "thrown", "()I"⟩
abbrev b_m_find : ByteArray := prog_4_method_3_code
def y_m_find : MethodName := ⟨"OrderLineModel", "find", "(I)I"⟩
abbrev b_m_free : ByteArray := prog_4_method_4_code
def y_m_free : MethodName := ⟨"OrderLineModel", "free", "()I"⟩
abbrev b_m_put : ByteArray := prog_4_method_5_code
def y_m_put : MethodName := ⟨"OrderLineModel", "put", "(II)V"⟩
abbrev b_m_drop : ByteArray := prog_4_method_6_code
def y_m_drop : MethodName := ⟨"OrderLineModel", "drop", "(I)V"⟩
abbrev b_m_lacks : ByteArray := prog_4_method_7_code
def y_m_lacks : MethodName := ⟨"OrderLineModel", "lacks", "(III)Z"⟩
abbrev b_m_behind : ByteArray := prog_4_method_8_code
def y_m_behind : MethodName := ⟨"OrderLineModel", "behind", "(I)I"⟩
abbrev b_m_several : ByteArray := prog_4_method_9_code
def y_m_several : MethodName := ⟨"OrderLineModel", "several", "(II)I"⟩
abbrev b_m_remove : ByteArray := prog_4_method_10_code
def y_m_remove : MethodName := ⟨"OrderLineModel", "remove", "(I)Z"⟩
abbrev b_m_clear : ByteArray := prog_4_method_11_code
def y_m_clear : MethodName := ⟨"OrderLineModel", "clear", "(II)I"⟩
abbrev b_m_carry : ByteArray := prog_4_method_12_code
def y_m_carry : MethodName := ⟨"OrderLineModel", "carry", "(III)I"⟩
abbrev b_m_compare : ByteArray := prog_4_method_13_code
def y_m_compare : MethodName := ⟨"OrderLineModel", "compare", "(II)I"⟩
abbrev b_m_next : ByteArray := prog_4_method_14_code
def y_m_next : MethodName := ⟨"OrderLineModel", "next", "(IZ)I"⟩
abbrev b_m_has : ByteArray := prog_4_method_15_code
def y_m_has : MethodName := ⟨"OrderLineModel", "has", "(I)Z"⟩
abbrev b_m_place : ByteArray := prog_4_method_16_code
def y_m_place : MethodName := ⟨"OrderLineModel", "place", "(I)I"⟩
abbrev b_m_at : ByteArray := prog_4_method_17_code
def y_m_at : MethodName := ⟨"OrderLineModel", "at", "(I)I"⟩
abbrev b_m_greatest : ByteArray := prog_4_method_18_code
def y_m_greatest : MethodName := ⟨"OrderLineModel", "greatest", "(II)I"⟩
abbrev b_m_wipe : ByteArray := prog_4_method_19_code
def y_m_wipe : MethodName := ⟨"OrderLineModel", "wipe", "()V"⟩
abbrev b_m_look : ByteArray := prog_4_method_20_code
def y_m_look : MethodName := ⟨"OrderLineModel", "look", "(I)I"⟩
abbrev b_t_init : ByteArray := prog_2_method_1_code
def y_t_init : MethodName := ⟨"OrderLine$Stamp", "<init>", "(I)V"⟩
abbrev b_w_behind : ByteArray := method_3_code
def y_w_behind : MethodName := ⟨"OrderLineLaw", "behind", "(LOrderLine;I[J)I"⟩
abbrev b_w_several : ByteArray := method_4_code
def y_w_several : MethodName := ⟨"OrderLineLaw", "several", "(LOrderLine;II[J)I"⟩
abbrev b_w_clear : ByteArray := method_5_code
def y_w_clear : MethodName := ⟨"OrderLineLaw", "clear", "(LOrderLine;II[J)I"⟩
abbrev b_w_carry : ByteArray := method_6_code
def y_w_carry : MethodName := ⟨"OrderLineLaw", "carry", "(LOrderLine;III[J)I"⟩
abbrev b_w_compare : ByteArray := method_7_code
def y_w_compare : MethodName := ⟨"OrderLineLaw", "compare", "(LOrderLine;II[J)I"⟩
abbrev b_w_next : ByteArray := method_8_code
def y_w_next : MethodName := ⟨"OrderLineLaw", "next", "(LOrderLine;IZ[J)I"⟩
abbrev b_w_place : ByteArray := method_9_code
def y_w_place : MethodName := ⟨"OrderLineLaw", "place", "(LOrderLine;I[J)I"⟩
abbrev b_w_greatest : ByteArray := method_10_code
def y_w_greatest : MethodName := ⟨"OrderLineLaw", "greatest", "(LOrderLine;II[J)I"⟩
theorem in_w : Cond.initialized "OrderLineLaw" ∈ GW := by decide +kernel
theorem in_o : Cond.initialized "OrderLine" ∈ GW := by decide +kernel
theorem in_t : Cond.initialized "OrderLine$Stamp" ∈ GW := by decide +kernel
theorem in_m : Cond.initialized "OrderLineModel" ∈ GW := by decide +kernel
theorem in_mt : Cond.initialized "java/lang/Math" ∈ GW := by decide +kernel
theorem cl_w_8 : Cond.classLink "OrderLineLaw" 8 "OrderLine" ∈ GW := by decide +kernel
theorem it_o : Cond.instantiable "OrderLine" 5 ∈ GW := by decide +kernel
theorem ml_w_39 : Cond.methodLink "OrderLineLaw" 39 y_o_init ∈ GW := by decide +kernel
theorem im_o_init : Cond.instanceMethod y_o_init ∈ GW := by decide +kernel
theorem k_o_init : Cond.code y_o_init b_o_init 2 none ∈ GW := by decide +kernel
theorem ml_o_1 : Cond.methodLink "OrderLine" 1 objectInit ∈ GW := by decide +kernel
theorem im_object : Cond.instanceMethod objectInit ∈ GW := by decide +kernel
theorem k_object : Cond.code objectInit ⟨#[0xb1]⟩ 1 none ∈ GW := by decide +kernel
theorem cl_o_9 : Cond.classLink "OrderLine" 9 "OrderLine$Stamp" ∈ GW := by decide +kernel
theorem ao_t : Cond.arrayOver (.object "OrderLine$Stamp") ∈ lw_tbl := by decide +kernel
theorem it_t : Cond.instantiable "OrderLine$Stamp" 5 ∈ GW := by decide +kernel
theorem ml_o_23 : Cond.methodLink "OrderLine" 23 y_t_init ∈ GW := by decide +kernel
theorem im_t_init : Cond.instanceMethod y_t_init ∈ GW := by decide +kernel
theorem k_t_init : Cond.code y_t_init b_t_init 2 none ∈ GW := by decide +kernel
theorem ml_t_1 : Cond.methodLink "OrderLine$Stamp" 1 objectInit ∈ GW := by decide +kernel
theorem fl_t_7 : Cond.fieldLink "OrderLine$Stamp" 7 "OrderLine$Stamp" "number" "I" ∈ GW := by decide +kernel
theorem nl_o_78 : Cond.fieldLinkNest "OrderLine" 78 "OrderLine$Stamp" "number" "I" "OrderLine" ∈ lw_tbl := by decide +kernel
theorem nl_o_49 : Cond.fieldLinkNest "OrderLine" 49 "OrderLine$Stamp" "label" "J" "OrderLine" ∈ lw_tbl := by decide +kernel
theorem nl_o_53 : Cond.fieldLinkNest "OrderLine" 53 "OrderLine$Stamp" "before" "LOrderLine$Stamp;" "OrderLine" ∈ lw_tbl := by decide +kernel
theorem nl_o_44 : Cond.fieldLinkNest "OrderLine" 44 "OrderLine$Stamp" "next" "LOrderLine$Stamp;" "OrderLine" ∈ lw_tbl := by decide +kernel
theorem nl_o_26 : Cond.fieldLinkNest "OrderLine" 26 "OrderLine$Stamp" "there" "Z" "OrderLine" ∈ lw_tbl := by decide +kernel
theorem ac_int : Cond.arrayClass .int ∈ GW := by decide +kernel
theorem fl_o_11 : Cond.fieldLink "OrderLine" 11 "OrderLine" "stamps" "[LOrderLine$Stamp;" ∈ GW := by decide +kernel
theorem fl_o_15 : Cond.fieldLink "OrderLine" 15 "OrderLine" "free" "[I" ∈ GW := by decide +kernel
theorem fl_o_34 : Cond.fieldLink "OrderLine" 34 "OrderLine" "frees" "I" ∈ GW := by decide +kernel
theorem fl_o_30 : Cond.fieldLink "OrderLine" 30 "OrderLine" "last" "LOrderLine$Stamp;" ∈ GW := by decide +kernel
theorem fl_o_19 : Cond.fieldLink "OrderLine" 19 "OrderLine" "many" "I" ∈ GW := by decide +kernel
theorem ml_w_76 : Cond.methodLink "OrderLineLaw" 76 y_o_has ∈ GW := by decide +kernel
theorem im_o_has : Cond.instanceMethod y_o_has ∈ GW := by decide +kernel
theorem se_o_has : Cond.selects "OrderLine" y_o_has y_o_has ∈ GW := by decide +kernel
theorem k_o_has : Cond.code y_o_has b_o_has 2 (some .boolean) ∈ GW := by decide +kernel
theorem ml_w_57 : Cond.methodLink "OrderLineLaw" 57 y_o_remove ∈ GW := by decide +kernel
theorem im_o_remove : Cond.instanceMethod y_o_remove ∈ GW := by decide +kernel
theorem se_o_remove : Cond.selects "OrderLine" y_o_remove y_o_remove ∈ GW := by decide +kernel
theorem k_o_remove : Cond.code y_o_remove b_o_remove 2 (some .boolean) ∈ GW := by decide +kernel
theorem ml_o_37 : Cond.methodLink "OrderLine" 37 y_o_has ∈ GW := by decide +kernel
theorem ml_o_81 : Cond.methodLink "OrderLine" 81 y_o_unlink ∈ GW := by decide +kernel
theorem im_o_unlink : Cond.instanceMethod y_o_unlink ∈ GW := by decide +kernel
theorem k_o_unlink : Cond.code y_o_unlink b_o_unlink 2 none ∈ GW := by decide +kernel
theorem ml_o_84 : Cond.methodLink "OrderLine" 84 y_o_giveNumber ∈ GW := by decide +kernel
theorem im_o_giveNumber : Cond.instanceMethod y_o_giveNumber ∈ GW := by decide +kernel
theorem k_o_giveNumber : Cond.code y_o_giveNumber b_o_giveNumber 3 none ∈ GW := by decide +kernel
theorem ml_w_83 : Cond.methodLink "OrderLineLaw" 83 y_o_at ∈ GW := by decide +kernel
theorem im_o_at : Cond.instanceMethod y_o_at ∈ GW := by decide +kernel
theorem se_o_at : Cond.selects "OrderLine" y_o_at y_o_at ∈ GW := by decide +kernel
theorem k_o_at : Cond.code y_o_at b_o_at 4 (some .int) ∈ GW := by decide +kernel
theorem ml_w_90 : Cond.methodLink "OrderLineLaw" 90 y_o_wipe ∈ GW := by decide +kernel
theorem im_o_wipe : Cond.instanceMethod y_o_wipe ∈ GW := by decide +kernel
theorem se_o_wipe : Cond.selects "OrderLine" y_o_wipe y_o_wipe ∈ GW := by decide +kernel
theorem k_o_wipe : Cond.code y_o_wipe b_o_wipe 2 none ∈ GW := by decide +kernel
theorem ml_w_94 : Cond.methodLink "OrderLineLaw" 94 y_o_look ∈ GW := by decide +kernel
theorem im_o_look : Cond.instanceMethod y_o_look ∈ GW := by decide +kernel
theorem se_o_look : Cond.selects "OrderLine" y_o_look y_o_look ∈ GW := by decide +kernel
theorem k_o_look : Cond.code y_o_look b_o_look 2 (some .int) ∈ GW := by decide +kernel
theorem ml_w_43 : Cond.methodLink "OrderLineLaw" 43 y_w_behind ∈ GW := by decide +kernel
theorem sm_w_behind : Cond.static y_w_behind ∈ GW := by decide +kernel
theorem k_w_behind : Cond.codeWith y_w_behind b_w_behind 4 (some .int) [(0, 9, 12, 13)] ∈ GW := by decide +kernel
theorem cl_w_13 : Cond.classLink "OrderLineLaw" 13 "java/lang/IllegalArgumentException" ∈ GW := by decide +kernel
theorem ml_w_7 : Cond.methodLink "OrderLineLaw" 7 y_o_behind ∈ GW := by decide +kernel
theorem im_o_behind : Cond.instanceMethod y_o_behind ∈ GW := by decide +kernel
theorem se_o_behind : Cond.selects "OrderLine" y_o_behind y_o_behind ∈ GW := by decide +kernel
theorem k_o_behind : Cond.code y_o_behind b_o_behind 4 (some .int) ∈ GW := by decide +kernel
theorem ml_o_66 : Cond.methodLink "OrderLine" 66 y_o_of ∈ GW := by decide +kernel
theorem im_o_of : Cond.instanceMethod y_o_of ∈ GW := by decide +kernel
theorem k_o_of : Cond.code y_o_of b_o_of 2 (some (.object "OrderLine$Stamp")) ∈ GW := by decide +kernel
theorem cl_o_41 : Cond.classLink "OrderLine" 41 "java/lang/IllegalArgumentException" ∈ GW := by decide +kernel
theorem it_iae : Cond.instantiable "java/lang/IllegalArgumentException" 6 ∈ GW := by decide +kernel
theorem ml_o_43 : Cond.methodLink "OrderLine" 43 ⟨"java/lang/IllegalArgumentException", "<init>", "()V"⟩ ∈ GW := by decide +kernel
theorem ml_o_70 : Cond.methodLink "OrderLine" 70 y_o_takeNumber ∈ GW := by decide +kernel
theorem im_o_takeNumber : Cond.instanceMethod y_o_takeNumber ∈ GW := by decide +kernel
theorem k_o_takeNumber : Cond.code y_o_takeNumber b_o_takeNumber 5 (some .int) ∈ GW := by decide +kernel
theorem ml_o_74 : Cond.methodLink "OrderLine" 74 y_o_link ∈ GW := by decide +kernel
theorem im_o_link : Cond.instanceMethod y_o_link ∈ GW := by decide +kernel
theorem k_o_link : Cond.code y_o_link b_o_link 5 none ∈ GW := by decide +kernel
theorem ml_o_56 : Cond.methodLink "OrderLine" 56 y_o_labelBehind ∈ GW := by decide +kernel
theorem im_o_labelBehind : Cond.instanceMethod y_o_labelBehind ∈ GW := by decide +kernel
theorem k_o_labelBehind : Cond.code y_o_labelBehind b_o_labelBehind 2 (some .long) ∈ GW := by decide +kernel
theorem kl_o_47 : Cond.constantLong "OrderLine" 47 1099511627776 ∈ GW := by decide +kernel
theorem kl_o_60 : Cond.constantLong "OrderLine" 60 2 ∈ GW := by decide +kernel
theorem ml_o_62 : Cond.methodLink "OrderLine" 62 y_o_thin ∈ GW := by decide +kernel
theorem im_o_thin : Cond.instanceMethod y_o_thin ∈ GW := by decide +kernel
theorem k_o_thin : Cond.code y_o_thin b_o_thin 16 none ∈ GW := by decide +kernel
theorem ml_w_53 : Cond.methodLink "OrderLineLaw" 53 y_w_several ∈ GW := by decide +kernel
theorem sm_w_several : Cond.static y_w_several ∈ GW := by decide +kernel
theorem k_w_several : Cond.codeWith y_w_several b_w_several 5 (some .int) [(0, 10, 13, 13)] ∈ GW := by decide +kernel
theorem ml_w_15 : Cond.methodLink "OrderLineLaw" 15 y_o_several ∈ GW := by decide +kernel
theorem im_o_several : Cond.instanceMethod y_o_several ∈ GW := by decide +kernel
theorem se_o_several : Cond.selects "OrderLine" y_o_several y_o_several ∈ GW := by decide +kernel
theorem k_o_several : Cond.code y_o_several b_o_several 8 (some .int) ∈ GW := by decide +kernel
theorem ml_w_62 : Cond.methodLink "OrderLineLaw" 62 y_w_clear ∈ GW := by decide +kernel
theorem sm_w_clear : Cond.static y_w_clear ∈ GW := by decide +kernel
theorem k_w_clear : Cond.codeWith y_w_clear b_w_clear 5 (some .int) [(0, 10, 13, 13)] ∈ GW := by decide +kernel
theorem ml_w_19 : Cond.methodLink "OrderLineLaw" 19 y_o_clear ∈ GW := by decide +kernel
theorem im_o_clear : Cond.instanceMethod y_o_clear ∈ GW := by decide +kernel
theorem se_o_clear : Cond.selects "OrderLine" y_o_clear y_o_clear ∈ GW := by decide +kernel
theorem k_o_clear : Cond.code y_o_clear b_o_clear 7 (some .int) ∈ GW := by decide +kernel
theorem ml_w_65 : Cond.methodLink "OrderLineLaw" 65 y_w_carry ∈ GW := by decide +kernel
theorem sm_w_carry : Cond.static y_w_carry ∈ GW := by decide +kernel
theorem k_w_carry : Cond.codeWith y_w_carry b_w_carry 6 (some .int) [(0, 12, 15, 13)] ∈ GW := by decide +kernel
theorem ml_w_22 : Cond.methodLink "OrderLineLaw" 22 y_o_carry ∈ GW := by decide +kernel
theorem im_o_carry : Cond.instanceMethod y_o_carry ∈ GW := by decide +kernel
theorem se_o_carry : Cond.selects "OrderLine" y_o_carry y_o_carry ∈ GW := by decide +kernel
theorem k_o_carry : Cond.code y_o_carry b_o_carry 11 (some .int) ∈ GW := by decide +kernel
theorem ml_w_69 : Cond.methodLink "OrderLineLaw" 69 y_w_compare ∈ GW := by decide +kernel
theorem sm_w_compare : Cond.static y_w_compare ∈ GW := by decide +kernel
theorem k_w_compare : Cond.codeWith y_w_compare b_w_compare 5 (some .int) [(0, 10, 13, 13)] ∈ GW := by decide +kernel
theorem ml_w_26 : Cond.methodLink "OrderLineLaw" 26 y_o_compare ∈ GW := by decide +kernel
theorem im_o_compare : Cond.instanceMethod y_o_compare ∈ GW := by decide +kernel
theorem se_o_compare : Cond.selects "OrderLine" y_o_compare y_o_compare ∈ GW := by decide +kernel
theorem k_o_compare : Cond.code y_o_compare b_o_compare 5 (some .int) ∈ GW := by decide +kernel
theorem ml_w_72 : Cond.methodLink "OrderLineLaw" 72 y_w_next ∈ GW := by decide +kernel
theorem sm_w_next : Cond.static y_w_next ∈ GW := by decide +kernel
theorem k_w_next : Cond.codeWith y_w_next b_w_next 5 (some .int) [(0, 10, 13, 13)] ∈ GW := by decide +kernel
theorem ml_w_29 : Cond.methodLink "OrderLineLaw" 29 y_o_next ∈ GW := by decide +kernel
theorem im_o_next : Cond.instanceMethod y_o_next ∈ GW := by decide +kernel
theorem se_o_next : Cond.selects "OrderLine" y_o_next y_o_next ∈ GW := by decide +kernel
theorem k_o_next : Cond.code y_o_next b_o_next 5 (some .int) ∈ GW := by decide +kernel
theorem ml_w_80 : Cond.methodLink "OrderLineLaw" 80 y_w_place ∈ GW := by decide +kernel
theorem sm_w_place : Cond.static y_w_place ∈ GW := by decide +kernel
theorem k_w_place : Cond.codeWith y_w_place b_w_place 4 (some .int) [(0, 9, 12, 13)] ∈ GW := by decide +kernel
theorem ml_w_33 : Cond.methodLink "OrderLineLaw" 33 y_o_place ∈ GW := by decide +kernel
theorem im_o_place : Cond.instanceMethod y_o_place ∈ GW := by decide +kernel
theorem se_o_place : Cond.selects "OrderLine" y_o_place y_o_place ∈ GW := by decide +kernel
theorem k_o_place : Cond.code y_o_place b_o_place 4 (some .int) ∈ GW := by decide +kernel
theorem ml_w_87 : Cond.methodLink "OrderLineLaw" 87 y_w_greatest ∈ GW := by decide +kernel
theorem sm_w_greatest : Cond.static y_w_greatest ∈ GW := by decide +kernel
theorem k_w_greatest : Cond.codeWith y_w_greatest b_w_greatest 5 (some .int) [(0, 10, 13, 13)] ∈ GW := by decide +kernel
theorem ml_w_36 : Cond.methodLink "OrderLineLaw" 36 y_o_greatest ∈ GW := by decide +kernel
theorem im_o_greatest : Cond.instanceMethod y_o_greatest ∈ GW := by decide +kernel
theorem se_o_greatest : Cond.selects "OrderLine" y_o_greatest y_o_greatest ∈ GW := by decide +kernel
theorem k_o_greatest : Cond.code y_o_greatest b_o_greatest 7 (some .int) ∈ GW := by decide +kernel
theorem ml_o_87 : Cond.methodLink "OrderLine" 87 ⟨"java/lang/Math", "max", "(II)I"⟩ ∈ GW := by decide +kernel
theorem k_max : Cond.code Lib.Math.max.name Lib.Math.max.code 2 (some .int) ∈ GW := by decide +kernel
theorem sm_max : Cond.static Lib.Math.max.name ∈ GW := by decide +kernel
theorem ml_o_max : Cond.methodLink "OrderLine" 87 Lib.Math.max.name ∈ GW := by decide +kernel
theorem cl_w_40 : Cond.classLink "OrderLineLaw" 40 "OrderLineModel" ∈ GW := by decide +kernel
theorem it_m : Cond.instantiable "OrderLineModel" 4 ∈ GW := by decide +kernel
theorem ml_w_42 : Cond.methodLink "OrderLineLaw" 42 y_m_init ∈ GW := by decide +kernel
theorem im_m_init : Cond.instanceMethod y_m_init ∈ GW := by decide +kernel
theorem k_m_init : Cond.code y_m_init b_m_init 1 none ∈ GW := by decide +kernel
theorem ml_m_1 : Cond.methodLink "OrderLineModel" 1 objectInit ∈ GW := by decide +kernel
theorem fl_m_20 : Cond.fieldLink "OrderLineModel" 20 "OrderLineModel" "thrown" "I" ∈ GW := by decide +kernel
theorem fl_m_7 : Cond.fieldLink "OrderLineModel" 7 "OrderLineModel" "line" "[I" ∈ GW := by decide +kernel
theorem fl_m_13 : Cond.fieldLink "OrderLineModel" 13 "OrderLineModel" "many" "I" ∈ GW := by decide +kernel
theorem fl_m_17 : Cond.fieldLink "OrderLineModel" 17 "OrderLineModel" "aside" "[I" ∈ GW := by decide +kernel
theorem ml_w_49 : Cond.methodLink "OrderLineLaw" 49 y_m_thrown ∈ GW := by decide +kernel
theorem im_m_thrown : Cond.instanceMethod y_m_thrown ∈ GW := by decide +kernel
theorem se_m_thrown : Cond.selects "OrderLineModel" y_m_thrown y_m_thrown ∈ GW := by decide +kernel
theorem k_m_thrown : Cond.code y_m_thrown b_m_thrown 1 (some .int) ∈ GW := by decide +kernel
theorem ml_w_48 : Cond.methodLink "OrderLineLaw" 48 y_m_behind ∈ GW := by decide +kernel
theorem im_m_behind : Cond.instanceMethod y_m_behind ∈ GW := by decide +kernel
theorem se_m_behind : Cond.selects "OrderLineModel" y_m_behind y_m_behind ∈ GW := by decide +kernel
theorem k_m_behind : Cond.code y_m_behind b_m_behind 3 (some .int) ∈ GW := by decide +kernel
theorem ml_m_27 : Cond.methodLink "OrderLineModel" 27 y_m_lacks ∈ GW := by decide +kernel
theorem im_m_lacks : Cond.instanceMethod y_m_lacks ∈ GW := by decide +kernel
theorem k_m_lacks : Cond.code y_m_lacks b_m_lacks 4 (some .boolean) ∈ GW := by decide +kernel
theorem ml_m_23 : Cond.methodLink "OrderLineModel" 23 y_m_find ∈ GW := by decide +kernel
theorem im_m_find : Cond.instanceMethod y_m_find ∈ GW := by decide +kernel
theorem k_m_find : Cond.code y_m_find b_m_find 3 (some .int) ∈ GW := by decide +kernel
theorem ml_m_31 : Cond.methodLink "OrderLineModel" 31 y_m_free ∈ GW := by decide +kernel
theorem im_m_free : Cond.instanceMethod y_m_free ∈ GW := by decide +kernel
theorem k_m_free : Cond.code y_m_free b_m_free 2 (some .int) ∈ GW := by decide +kernel
theorem ml_m_35 : Cond.methodLink "OrderLineModel" 35 y_m_put ∈ GW := by decide +kernel
theorem im_m_put : Cond.instanceMethod y_m_put ∈ GW := by decide +kernel
theorem k_m_put : Cond.code y_m_put b_m_put 4 none ∈ GW := by decide +kernel
theorem ml_w_56 : Cond.methodLink "OrderLineLaw" 56 y_m_several ∈ GW := by decide +kernel
theorem im_m_several : Cond.instanceMethod y_m_several ∈ GW := by decide +kernel
theorem se_m_several : Cond.selects "OrderLineModel" y_m_several y_m_several ∈ GW := by decide +kernel
theorem k_m_several : Cond.code y_m_several b_m_several 6 (some .int) ∈ GW := by decide +kernel
theorem ml_w_61 : Cond.methodLink "OrderLineLaw" 61 y_m_remove ∈ GW := by decide +kernel
theorem im_m_remove : Cond.instanceMethod y_m_remove ∈ GW := by decide +kernel
theorem se_m_remove : Cond.selects "OrderLineModel" y_m_remove y_m_remove ∈ GW := by decide +kernel
theorem k_m_remove : Cond.code y_m_remove b_m_remove 3 (some .boolean) ∈ GW := by decide +kernel
theorem ml_m_39 : Cond.methodLink "OrderLineModel" 39 y_m_drop ∈ GW := by decide +kernel
theorem im_m_drop : Cond.instanceMethod y_m_drop ∈ GW := by decide +kernel
theorem k_m_drop : Cond.code y_m_drop b_m_drop 3 none ∈ GW := by decide +kernel
theorem ml_w_64 : Cond.methodLink "OrderLineLaw" 64 y_m_clear ∈ GW := by decide +kernel
theorem im_m_clear : Cond.instanceMethod y_m_clear ∈ GW := by decide +kernel
theorem se_m_clear : Cond.selects "OrderLineModel" y_m_clear y_m_clear ∈ GW := by decide +kernel
theorem k_m_clear : Cond.code y_m_clear b_m_clear 4 (some .int) ∈ GW := by decide +kernel
theorem ml_w_68 : Cond.methodLink "OrderLineLaw" 68 y_m_carry ∈ GW := by decide +kernel
theorem im_m_carry : Cond.instanceMethod y_m_carry ∈ GW := by decide +kernel
theorem se_m_carry : Cond.selects "OrderLineModel" y_m_carry y_m_carry ∈ GW := by decide +kernel
theorem k_m_carry : Cond.code y_m_carry b_m_carry 9 (some .int) ∈ GW := by decide +kernel
theorem ml_w_71 : Cond.methodLink "OrderLineLaw" 71 y_m_compare ∈ GW := by decide +kernel
theorem im_m_compare : Cond.instanceMethod y_m_compare ∈ GW := by decide +kernel
theorem se_m_compare : Cond.selects "OrderLineModel" y_m_compare y_m_compare ∈ GW := by decide +kernel
theorem k_m_compare : Cond.code y_m_compare b_m_compare 5 (some .int) ∈ GW := by decide +kernel
theorem ml_w_75 : Cond.methodLink "OrderLineLaw" 75 y_m_next ∈ GW := by decide +kernel
theorem im_m_next : Cond.instanceMethod y_m_next ∈ GW := by decide +kernel
theorem se_m_next : Cond.selects "OrderLineModel" y_m_next y_m_next ∈ GW := by decide +kernel
theorem k_m_next : Cond.code y_m_next b_m_next 4 (some .int) ∈ GW := by decide +kernel
theorem ml_w_79 : Cond.methodLink "OrderLineLaw" 79 y_m_has ∈ GW := by decide +kernel
theorem im_m_has : Cond.instanceMethod y_m_has ∈ GW := by decide +kernel
theorem se_m_has : Cond.selects "OrderLineModel" y_m_has y_m_has ∈ GW := by decide +kernel
theorem k_m_has : Cond.code y_m_has b_m_has 2 (some .boolean) ∈ GW := by decide +kernel
theorem ml_w_82 : Cond.methodLink "OrderLineLaw" 82 y_m_place ∈ GW := by decide +kernel
theorem im_m_place : Cond.instanceMethod y_m_place ∈ GW := by decide +kernel
theorem se_m_place : Cond.selects "OrderLineModel" y_m_place y_m_place ∈ GW := by decide +kernel
theorem k_m_place : Cond.code y_m_place b_m_place 2 (some .int) ∈ GW := by decide +kernel
theorem ml_w_86 : Cond.methodLink "OrderLineLaw" 86 y_m_at ∈ GW := by decide +kernel
theorem im_m_at : Cond.instanceMethod y_m_at ∈ GW := by decide +kernel
theorem se_m_at : Cond.selects "OrderLineModel" y_m_at y_m_at ∈ GW := by decide +kernel
theorem k_m_at : Cond.code y_m_at b_m_at 2 (some .int) ∈ GW := by decide +kernel
theorem ml_w_89 : Cond.methodLink "OrderLineLaw" 89 y_m_greatest ∈ GW := by decide +kernel
theorem im_m_greatest : Cond.instanceMethod y_m_greatest ∈ GW := by decide +kernel
theorem se_m_greatest : Cond.selects "OrderLineModel" y_m_greatest y_m_greatest ∈ GW := by decide +kernel
theorem k_m_greatest : Cond.code y_m_greatest b_m_greatest 5 (some .int) ∈ GW := by decide +kernel
theorem ml_w_93 : Cond.methodLink "OrderLineLaw" 93 y_m_wipe ∈ GW := by decide +kernel
theorem im_m_wipe : Cond.instanceMethod y_m_wipe ∈ GW := by decide +kernel
theorem se_m_wipe : Cond.selects "OrderLineModel" y_m_wipe y_m_wipe ∈ GW := by decide +kernel
theorem k_m_wipe : Cond.code y_m_wipe b_m_wipe 1 none ∈ GW := by decide +kernel
theorem ml_w_97 : Cond.methodLink "OrderLineLaw" 97 y_m_look ∈ GW := by decide +kernel
theorem im_m_look : Cond.instanceMethod y_m_look ∈ GW := by decide +kernel
theorem se_m_look : Cond.selects "OrderLineModel" y_m_look y_m_look ∈ GW := by decide +kernel
theorem k_m_look : Cond.code y_m_look b_m_look 2 (some .int) ∈ GW := by decide +kernel
theorem ac_long : Cond.arrayClass .long ∈ GW := by decide +kernel
theorem se_o_of : Cond.selects "OrderLine" y_o_of y_o_of ∈ GW := by decide +kernel
theorem se_o_takeNumber : Cond.selects "OrderLine" y_o_takeNumber y_o_takeNumber ∈ GW := by decide +kernel
theorem se_o_giveNumber : Cond.selects "OrderLine" y_o_giveNumber y_o_giveNumber ∈ GW := by decide +kernel
theorem se_o_labelBehind : Cond.selects "OrderLine" y_o_labelBehind y_o_labelBehind ∈ GW := by decide +kernel
theorem se_o_thin : Cond.selects "OrderLine" y_o_thin y_o_thin ∈ GW := by decide +kernel
theorem se_o_link : Cond.selects "OrderLine" y_o_link y_o_link ∈ GW := by decide +kernel
theorem se_o_unlink : Cond.selects "OrderLine" y_o_unlink y_o_unlink ∈ GW := by decide +kernel
theorem se_m_find : Cond.selects "OrderLineModel" y_m_find y_m_find ∈ GW := by decide +kernel
theorem se_m_free : Cond.selects "OrderLineModel" y_m_free y_m_free ∈ GW := by decide +kernel
theorem se_m_put : Cond.selects "OrderLineModel" y_m_put y_m_put ∈ GW := by decide +kernel
theorem se_m_drop : Cond.selects "OrderLineModel" y_m_drop y_m_drop ∈ GW := by decide +kernel
theorem se_m_lacks : Cond.selects "OrderLineModel" y_m_lacks y_m_lacks ∈ GW := by decide +kernel
end
section
/-! decode rows (by program): OrderLine and its Stamp -/
theorem d_o_init_0 : decode b_o_init 0 = .ok (.aload_n 0, 1) := by decide +kernel
theorem d_o_init_1 : decode b_o_init 1 = .ok (.invokespecial 1, 3) := by decide +kernel
theorem d_o_init_4 : decode b_o_init 4 = .ok (.aload_n 0, 1) := by decide +kernel
theorem d_o_init_5 : decode b_o_init 5 = .ok (.sipush 1000, 3) := by decide +kernel
theorem d_o_init_8 : decode b_o_init 8 = .ok (.anewarray 9, 3) := by decide +kernel
theorem d_o_init_11 : decode b_o_init 11 = .ok (.putfield 11, 3) := by decide +kernel
theorem d_o_init_14 : decode b_o_init 14 = .ok (.aload_n 0, 1) := by decide +kernel
theorem d_o_init_15 : decode b_o_init 15 = .ok (.sipush 1000, 3) := by decide +kernel
theorem d_o_init_18 : decode b_o_init 18 = .ok (.newarray .int, 2) := by decide +kernel
theorem d_o_init_20 : decode b_o_init 20 = .ok (.putfield 15, 3) := by decide +kernel
theorem d_o_init_23 : decode b_o_init 23 = .ok (.aload_n 0, 1) := by decide +kernel
theorem d_o_init_24 : decode b_o_init 24 = .ok (.iconst 1, 1) := by decide +kernel
theorem d_o_init_25 : decode b_o_init 25 = .ok (.putfield 19, 3) := by decide +kernel
theorem d_o_init_28 : decode b_o_init 28 = .ok (.iconst 0, 1) := by decide +kernel
theorem d_o_init_29 : decode b_o_init 29 = .ok (.istore_n 1, 1) := by decide +kernel
theorem d_o_init_30 : decode b_o_init 30 = .ok (.iload_n 1, 1) := by decide +kernel
theorem d_o_init_31 : decode b_o_init 31 = .ok (.sipush 1000, 3) := by decide +kernel
theorem d_o_init_34 : decode b_o_init 34 = .ok (.if_icmp .ge 23, 3) := by decide +kernel
theorem d_o_init_37 : decode b_o_init 37 = .ok (.aload_n 0, 1) := by decide +kernel
theorem d_o_init_38 : decode b_o_init 38 = .ok (.getfield 11, 3) := by decide +kernel
theorem d_o_init_41 : decode b_o_init 41 = .ok (.iload_n 1, 1) := by decide +kernel
theorem d_o_init_42 : decode b_o_init 42 = .ok (.new 9, 3) := by decide +kernel
theorem d_o_init_45 : decode b_o_init 45 = .ok (.dup, 1) := by decide +kernel
theorem d_o_init_46 : decode b_o_init 46 = .ok (.iload_n 1, 1) := by decide +kernel
theorem d_o_init_47 : decode b_o_init 47 = .ok (.invokespecial 23, 3) := by decide +kernel
theorem d_o_init_50 : decode b_o_init 50 = .ok (.aastore, 1) := by decide +kernel
theorem d_o_init_51 : decode b_o_init 51 = .ok (.iinc 1 1, 3) := by decide +kernel
theorem d_o_init_54 : decode b_o_init 54 = .ok (.goto (-24), 3) := by decide +kernel
theorem d_o_init_57 : decode b_o_init 57 = .ok (.aload_n 0, 1) := by decide +kernel
theorem d_o_init_58 : decode b_o_init 58 = .ok (.getfield 11, 3) := by decide +kernel
theorem d_o_init_61 : decode b_o_init 61 = .ok (.iconst 0, 1) := by decide +kernel
theorem d_o_init_62 : decode b_o_init 62 = .ok (.aaload, 1) := by decide +kernel
theorem d_o_init_63 : decode b_o_init 63 = .ok (.iconst 1, 1) := by decide +kernel
theorem d_o_init_64 : decode b_o_init 64 = .ok (.putfield 26, 3) := by decide +kernel
theorem d_o_init_67 : decode b_o_init 67 = .ok (.aload_n 0, 1) := by decide +kernel
theorem d_o_init_68 : decode b_o_init 68 = .ok (.aload_n 0, 1) := by decide +kernel
theorem d_o_init_69 : decode b_o_init 69 = .ok (.getfield 11, 3) := by decide +kernel
theorem d_o_init_72 : decode b_o_init 72 = .ok (.iconst 0, 1) := by decide +kernel
theorem d_o_init_73 : decode b_o_init 73 = .ok (.aaload, 1) := by decide +kernel
theorem d_o_init_74 : decode b_o_init 74 = .ok (.putfield 30, 3) := by decide +kernel
theorem d_o_init_77 : decode b_o_init 77 = .ok (.iconst 1, 1) := by decide +kernel
theorem d_o_init_78 : decode b_o_init 78 = .ok (.istore_n 1, 1) := by decide +kernel
theorem d_o_init_79 : decode b_o_init 79 = .ok (.iload_n 1, 1) := by decide +kernel
theorem d_o_init_80 : decode b_o_init 80 = .ok (.sipush 1000, 3) := by decide +kernel
theorem d_o_init_83 : decode b_o_init 83 = .ok (.if_icmp .ge 18, 3) := by decide +kernel
theorem d_o_init_86 : decode b_o_init 86 = .ok (.aload_n 0, 1) := by decide +kernel
theorem d_o_init_87 : decode b_o_init 87 = .ok (.getfield 15, 3) := by decide +kernel
theorem d_o_init_90 : decode b_o_init 90 = .ok (.iload_n 1, 1) := by decide +kernel
theorem d_o_init_91 : decode b_o_init 91 = .ok (.iconst 1, 1) := by decide +kernel
theorem d_o_init_92 : decode b_o_init 92 = .ok (.isub, 1) := by decide +kernel
theorem d_o_init_93 : decode b_o_init 93 = .ok (.iload_n 1, 1) := by decide +kernel
theorem d_o_init_94 : decode b_o_init 94 = .ok (.iastore, 1) := by decide +kernel
theorem d_o_init_95 : decode b_o_init 95 = .ok (.iinc 1 1, 3) := by decide +kernel
theorem d_o_init_98 : decode b_o_init 98 = .ok (.goto (-19), 3) := by decide +kernel
theorem d_o_init_101 : decode b_o_init 101 = .ok (.aload_n 0, 1) := by decide +kernel
theorem d_o_init_102 : decode b_o_init 102 = .ok (.sipush 999, 3) := by decide +kernel
theorem d_o_init_105 : decode b_o_init 105 = .ok (.putfield 34, 3) := by decide +kernel
theorem d_o_init_108 : decode b_o_init 108 = .ok (.return_, 1) := by decide +kernel
theorem d_o_of_0 : decode b_o_of 0 = .ok (.aload_n 0, 1) := by decide +kernel
theorem d_o_of_1 : decode b_o_of 1 = .ok (.iload_n 1, 1) := by decide +kernel
theorem d_o_of_2 : decode b_o_of 2 = .ok (.invokevirtual 37, 3) := by decide +kernel
theorem d_o_of_5 : decode b_o_of 5 = .ok (.ifCond .ne 11, 3) := by decide +kernel
theorem d_o_of_8 : decode b_o_of 8 = .ok (.new 41, 3) := by decide +kernel
theorem d_o_of_11 : decode b_o_of 11 = .ok (.dup, 1) := by decide +kernel
theorem d_o_of_12 : decode b_o_of 12 = .ok (.invokespecial 43, 3) := by decide +kernel
theorem d_o_of_15 : decode b_o_of 15 = .ok (.athrow, 1) := by decide +kernel
theorem d_o_of_16 : decode b_o_of 16 = .ok (.aload_n 0, 1) := by decide +kernel
theorem d_o_of_17 : decode b_o_of 17 = .ok (.getfield 11, 3) := by decide +kernel
theorem d_o_of_20 : decode b_o_of 20 = .ok (.iload_n 1, 1) := by decide +kernel
theorem d_o_of_21 : decode b_o_of 21 = .ok (.aaload, 1) := by decide +kernel
theorem d_o_of_22 : decode b_o_of 22 = .ok (.areturn, 1) := by decide +kernel
theorem d_o_has_0 : decode b_o_has 0 = .ok (.iload_n 1, 1) := by decide +kernel
theorem d_o_has_1 : decode b_o_has 1 = .ok (.ifCond .lt 26, 3) := by decide +kernel
theorem d_o_has_4 : decode b_o_has 4 = .ok (.iload_n 1, 1) := by decide +kernel
theorem d_o_has_5 : decode b_o_has 5 = .ok (.sipush 1000, 3) := by decide +kernel
theorem d_o_has_8 : decode b_o_has 8 = .ok (.if_icmp .ge 19, 3) := by decide +kernel
theorem d_o_has_11 : decode b_o_has 11 = .ok (.aload_n 0, 1) := by decide +kernel
theorem d_o_has_12 : decode b_o_has 12 = .ok (.getfield 11, 3) := by decide +kernel
theorem d_o_has_15 : decode b_o_has 15 = .ok (.iload_n 1, 1) := by decide +kernel
theorem d_o_has_16 : decode b_o_has 16 = .ok (.aaload, 1) := by decide +kernel
theorem d_o_has_17 : decode b_o_has 17 = .ok (.getfield 26, 3) := by decide +kernel
theorem d_o_has_20 : decode b_o_has 20 = .ok (.ifCond .eq 7, 3) := by decide +kernel
theorem d_o_has_23 : decode b_o_has 23 = .ok (.iconst 1, 1) := by decide +kernel
theorem d_o_has_24 : decode b_o_has 24 = .ok (.goto 4, 3) := by decide +kernel
theorem d_o_has_27 : decode b_o_has 27 = .ok (.iconst 0, 1) := by decide +kernel
theorem d_o_has_28 : decode b_o_has 28 = .ok (.ireturn, 1) := by decide +kernel
theorem d_o_takeNumber_0 : decode b_o_takeNumber 0 = .ok (.aload_n 0, 1) := by decide +kernel
theorem d_o_takeNumber_1 : decode b_o_takeNumber 1 = .ok (.getfield 15, 3) := by decide +kernel
theorem d_o_takeNumber_4 : decode b_o_takeNumber 4 = .ok (.iconst 0, 1) := by decide +kernel
theorem d_o_takeNumber_5 : decode b_o_takeNumber 5 = .ok (.iaload, 1) := by decide +kernel
theorem d_o_takeNumber_6 : decode b_o_takeNumber 6 = .ok (.istore_n 1, 1) := by decide +kernel
theorem d_o_takeNumber_7 : decode b_o_takeNumber 7 = .ok (.aload_n 0, 1) := by decide +kernel
theorem d_o_takeNumber_8 : decode b_o_takeNumber 8 = .ok (.dup, 1) := by decide +kernel
theorem d_o_takeNumber_9 : decode b_o_takeNumber 9 = .ok (.getfield 34, 3) := by decide +kernel
theorem d_o_takeNumber_12 : decode b_o_takeNumber 12 = .ok (.iconst 1, 1) := by decide +kernel
theorem d_o_takeNumber_13 : decode b_o_takeNumber 13 = .ok (.isub, 1) := by decide +kernel
theorem d_o_takeNumber_14 : decode b_o_takeNumber 14 = .ok (.putfield 34, 3) := by decide +kernel
theorem d_o_takeNumber_17 : decode b_o_takeNumber 17 = .ok (.aload_n 0, 1) := by decide +kernel
theorem d_o_takeNumber_18 : decode b_o_takeNumber 18 = .ok (.getfield 15, 3) := by decide +kernel
theorem d_o_takeNumber_21 : decode b_o_takeNumber 21 = .ok (.aload_n 0, 1) := by decide +kernel
theorem d_o_takeNumber_22 : decode b_o_takeNumber 22 = .ok (.getfield 34, 3) := by decide +kernel
theorem d_o_takeNumber_25 : decode b_o_takeNumber 25 = .ok (.iaload, 1) := by decide +kernel
theorem d_o_takeNumber_26 : decode b_o_takeNumber 26 = .ok (.istore_n 2, 1) := by decide +kernel
theorem d_o_takeNumber_27 : decode b_o_takeNumber 27 = .ok (.iconst 0, 1) := by decide +kernel
theorem d_o_takeNumber_28 : decode b_o_takeNumber 28 = .ok (.istore_n 3, 1) := by decide +kernel
theorem d_o_takeNumber_29 : decode b_o_takeNumber 29 = .ok (.iconst 2, 1) := by decide +kernel
theorem d_o_takeNumber_30 : decode b_o_takeNumber 30 = .ok (.iload_n 3, 1) := by decide +kernel
theorem d_o_takeNumber_31 : decode b_o_takeNumber 31 = .ok (.imul, 1) := by decide +kernel
theorem d_o_takeNumber_32 : decode b_o_takeNumber 32 = .ok (.iconst 1, 1) := by decide +kernel
theorem d_o_takeNumber_33 : decode b_o_takeNumber 33 = .ok (.iadd, 1) := by decide +kernel
theorem d_o_takeNumber_34 : decode b_o_takeNumber 34 = .ok (.aload_n 0, 1) := by decide +kernel
theorem d_o_takeNumber_35 : decode b_o_takeNumber 35 = .ok (.getfield 34, 3) := by decide +kernel
theorem d_o_takeNumber_38 : decode b_o_takeNumber 38 = .ok (.if_icmp .ge 83, 3) := by decide +kernel
theorem d_o_takeNumber_41 : decode b_o_takeNumber 41 = .ok (.iconst 2, 1) := by decide +kernel
theorem d_o_takeNumber_42 : decode b_o_takeNumber 42 = .ok (.iload_n 3, 1) := by decide +kernel
theorem d_o_takeNumber_43 : decode b_o_takeNumber 43 = .ok (.imul, 1) := by decide +kernel
theorem d_o_takeNumber_44 : decode b_o_takeNumber 44 = .ok (.iconst 1, 1) := by decide +kernel
theorem d_o_takeNumber_45 : decode b_o_takeNumber 45 = .ok (.iadd, 1) := by decide +kernel
theorem d_o_takeNumber_46 : decode b_o_takeNumber 46 = .ok (.istore 4, 2) := by decide +kernel
theorem d_o_takeNumber_48 : decode b_o_takeNumber 48 = .ok (.iload 4, 2) := by decide +kernel
theorem d_o_takeNumber_50 : decode b_o_takeNumber 50 = .ok (.iload 4, 2) := by decide +kernel
theorem d_o_takeNumber_52 : decode b_o_takeNumber 52 = .ok (.iconst 1, 1) := by decide +kernel
theorem d_o_takeNumber_53 : decode b_o_takeNumber 53 = .ok (.iadd, 1) := by decide +kernel
theorem d_o_takeNumber_54 : decode b_o_takeNumber 54 = .ok (.aload_n 0, 1) := by decide +kernel
theorem d_o_takeNumber_55 : decode b_o_takeNumber 55 = .ok (.getfield 34, 3) := by decide +kernel
theorem d_o_takeNumber_58 : decode b_o_takeNumber 58 = .ok (.if_icmp .ge 26, 3) := by decide +kernel
theorem d_o_takeNumber_61 : decode b_o_takeNumber 61 = .ok (.aload_n 0, 1) := by decide +kernel
theorem d_o_takeNumber_62 : decode b_o_takeNumber 62 = .ok (.getfield 15, 3) := by decide +kernel
theorem d_o_takeNumber_65 : decode b_o_takeNumber 65 = .ok (.iload 4, 2) := by decide +kernel
theorem d_o_takeNumber_67 : decode b_o_takeNumber 67 = .ok (.iconst 1, 1) := by decide +kernel
theorem d_o_takeNumber_68 : decode b_o_takeNumber 68 = .ok (.iadd, 1) := by decide +kernel
theorem d_o_takeNumber_69 : decode b_o_takeNumber 69 = .ok (.iaload, 1) := by decide +kernel
theorem d_o_takeNumber_70 : decode b_o_takeNumber 70 = .ok (.aload_n 0, 1) := by decide +kernel
theorem d_o_takeNumber_71 : decode b_o_takeNumber 71 = .ok (.getfield 15, 3) := by decide +kernel
theorem d_o_takeNumber_74 : decode b_o_takeNumber 74 = .ok (.iload 4, 2) := by decide +kernel
theorem d_o_takeNumber_76 : decode b_o_takeNumber 76 = .ok (.iaload, 1) := by decide +kernel
theorem d_o_takeNumber_77 : decode b_o_takeNumber 77 = .ok (.if_icmp .ge 7, 3) := by decide +kernel
theorem d_o_takeNumber_80 : decode b_o_takeNumber 80 = .ok (.iconst 1, 1) := by decide +kernel
theorem d_o_takeNumber_81 : decode b_o_takeNumber 81 = .ok (.goto 4, 3) := by decide +kernel
theorem d_o_takeNumber_84 : decode b_o_takeNumber 84 = .ok (.iconst 0, 1) := by decide +kernel
theorem d_o_takeNumber_85 : decode b_o_takeNumber 85 = .ok (.iadd, 1) := by decide +kernel
theorem d_o_takeNumber_86 : decode b_o_takeNumber 86 = .ok (.istore 4, 2) := by decide +kernel
theorem d_o_takeNumber_88 : decode b_o_takeNumber 88 = .ok (.aload_n 0, 1) := by decide +kernel
theorem d_o_takeNumber_89 : decode b_o_takeNumber 89 = .ok (.getfield 15, 3) := by decide +kernel
theorem d_o_takeNumber_92 : decode b_o_takeNumber 92 = .ok (.iload 4, 2) := by decide +kernel
theorem d_o_takeNumber_94 : decode b_o_takeNumber 94 = .ok (.iaload, 1) := by decide +kernel
theorem d_o_takeNumber_95 : decode b_o_takeNumber 95 = .ok (.iload_n 2, 1) := by decide +kernel
theorem d_o_takeNumber_96 : decode b_o_takeNumber 96 = .ok (.if_icmp .lt 6, 3) := by decide +kernel
theorem d_o_takeNumber_99 : decode b_o_takeNumber 99 = .ok (.goto 22, 3) := by decide +kernel
theorem d_o_takeNumber_102 : decode b_o_takeNumber 102 = .ok (.aload_n 0, 1) := by decide +kernel
theorem d_o_takeNumber_103 : decode b_o_takeNumber 103 = .ok (.getfield 15, 3) := by decide +kernel
theorem d_o_takeNumber_106 : decode b_o_takeNumber 106 = .ok (.iload_n 3, 1) := by decide +kernel
theorem d_o_takeNumber_107 : decode b_o_takeNumber 107 = .ok (.aload_n 0, 1) := by decide +kernel
theorem d_o_takeNumber_108 : decode b_o_takeNumber 108 = .ok (.getfield 15, 3) := by decide +kernel
theorem d_o_takeNumber_111 : decode b_o_takeNumber 111 = .ok (.iload 4, 2) := by decide +kernel
theorem d_o_takeNumber_113 : decode b_o_takeNumber 113 = .ok (.iaload, 1) := by decide +kernel
theorem d_o_takeNumber_114 : decode b_o_takeNumber 114 = .ok (.iastore, 1) := by decide +kernel
theorem d_o_takeNumber_115 : decode b_o_takeNumber 115 = .ok (.iload 4, 2) := by decide +kernel
theorem d_o_takeNumber_117 : decode b_o_takeNumber 117 = .ok (.istore_n 3, 1) := by decide +kernel
theorem d_o_takeNumber_118 : decode b_o_takeNumber 118 = .ok (.goto (-89), 3) := by decide +kernel
theorem d_o_takeNumber_121 : decode b_o_takeNumber 121 = .ok (.aload_n 0, 1) := by decide +kernel
theorem d_o_takeNumber_122 : decode b_o_takeNumber 122 = .ok (.getfield 15, 3) := by decide +kernel
theorem d_o_takeNumber_125 : decode b_o_takeNumber 125 = .ok (.iload_n 3, 1) := by decide +kernel
theorem d_o_takeNumber_126 : decode b_o_takeNumber 126 = .ok (.iload_n 2, 1) := by decide +kernel
theorem d_o_takeNumber_127 : decode b_o_takeNumber 127 = .ok (.iastore, 1) := by decide +kernel
theorem d_o_takeNumber_128 : decode b_o_takeNumber 128 = .ok (.iload_n 1, 1) := by decide +kernel
theorem d_o_takeNumber_129 : decode b_o_takeNumber 129 = .ok (.ireturn, 1) := by decide +kernel
theorem d_o_giveNumber_0 : decode b_o_giveNumber 0 = .ok (.aload_n 0, 1) := by decide +kernel
theorem d_o_giveNumber_1 : decode b_o_giveNumber 1 = .ok (.getfield 34, 3) := by decide +kernel
theorem d_o_giveNumber_4 : decode b_o_giveNumber 4 = .ok (.istore_n 2, 1) := by decide +kernel
theorem d_o_giveNumber_5 : decode b_o_giveNumber 5 = .ok (.aload_n 0, 1) := by decide +kernel
theorem d_o_giveNumber_6 : decode b_o_giveNumber 6 = .ok (.dup, 1) := by decide +kernel
theorem d_o_giveNumber_7 : decode b_o_giveNumber 7 = .ok (.getfield 34, 3) := by decide +kernel
theorem d_o_giveNumber_10 : decode b_o_giveNumber 10 = .ok (.iconst 1, 1) := by decide +kernel
theorem d_o_giveNumber_11 : decode b_o_giveNumber 11 = .ok (.iadd, 1) := by decide +kernel
theorem d_o_giveNumber_12 : decode b_o_giveNumber 12 = .ok (.putfield 34, 3) := by decide +kernel
theorem d_o_giveNumber_15 : decode b_o_giveNumber 15 = .ok (.iload_n 2, 1) := by decide +kernel
theorem d_o_giveNumber_16 : decode b_o_giveNumber 16 = .ok (.ifCond .le 42, 3) := by decide +kernel
theorem d_o_giveNumber_19 : decode b_o_giveNumber 19 = .ok (.aload_n 0, 1) := by decide +kernel
theorem d_o_giveNumber_20 : decode b_o_giveNumber 20 = .ok (.getfield 15, 3) := by decide +kernel
theorem d_o_giveNumber_23 : decode b_o_giveNumber 23 = .ok (.iload_n 2, 1) := by decide +kernel
theorem d_o_giveNumber_24 : decode b_o_giveNumber 24 = .ok (.iconst 1, 1) := by decide +kernel
theorem d_o_giveNumber_25 : decode b_o_giveNumber 25 = .ok (.isub, 1) := by decide +kernel
theorem d_o_giveNumber_26 : decode b_o_giveNumber 26 = .ok (.iconst 2, 1) := by decide +kernel
theorem d_o_giveNumber_27 : decode b_o_giveNumber 27 = .ok (.idiv, 1) := by decide +kernel
theorem d_o_giveNumber_28 : decode b_o_giveNumber 28 = .ok (.iaload, 1) := by decide +kernel
theorem d_o_giveNumber_29 : decode b_o_giveNumber 29 = .ok (.iload_n 1, 1) := by decide +kernel
theorem d_o_giveNumber_30 : decode b_o_giveNumber 30 = .ok (.if_icmp .le 28, 3) := by decide +kernel
theorem d_o_giveNumber_33 : decode b_o_giveNumber 33 = .ok (.aload_n 0, 1) := by decide +kernel
theorem d_o_giveNumber_34 : decode b_o_giveNumber 34 = .ok (.getfield 15, 3) := by decide +kernel
theorem d_o_giveNumber_37 : decode b_o_giveNumber 37 = .ok (.iload_n 2, 1) := by decide +kernel
theorem d_o_giveNumber_38 : decode b_o_giveNumber 38 = .ok (.aload_n 0, 1) := by decide +kernel
theorem d_o_giveNumber_39 : decode b_o_giveNumber 39 = .ok (.getfield 15, 3) := by decide +kernel
theorem d_o_giveNumber_42 : decode b_o_giveNumber 42 = .ok (.iload_n 2, 1) := by decide +kernel
theorem d_o_giveNumber_43 : decode b_o_giveNumber 43 = .ok (.iconst 1, 1) := by decide +kernel
theorem d_o_giveNumber_44 : decode b_o_giveNumber 44 = .ok (.isub, 1) := by decide +kernel
theorem d_o_giveNumber_45 : decode b_o_giveNumber 45 = .ok (.iconst 2, 1) := by decide +kernel
theorem d_o_giveNumber_46 : decode b_o_giveNumber 46 = .ok (.idiv, 1) := by decide +kernel
theorem d_o_giveNumber_47 : decode b_o_giveNumber 47 = .ok (.iaload, 1) := by decide +kernel
theorem d_o_giveNumber_48 : decode b_o_giveNumber 48 = .ok (.iastore, 1) := by decide +kernel
theorem d_o_giveNumber_49 : decode b_o_giveNumber 49 = .ok (.iload_n 2, 1) := by decide +kernel
theorem d_o_giveNumber_50 : decode b_o_giveNumber 50 = .ok (.iconst 1, 1) := by decide +kernel
theorem d_o_giveNumber_51 : decode b_o_giveNumber 51 = .ok (.isub, 1) := by decide +kernel
theorem d_o_giveNumber_52 : decode b_o_giveNumber 52 = .ok (.iconst 2, 1) := by decide +kernel
theorem d_o_giveNumber_53 : decode b_o_giveNumber 53 = .ok (.idiv, 1) := by decide +kernel
theorem d_o_giveNumber_54 : decode b_o_giveNumber 54 = .ok (.istore_n 2, 1) := by decide +kernel
theorem d_o_giveNumber_55 : decode b_o_giveNumber 55 = .ok (.goto (-40), 3) := by decide +kernel
theorem d_o_giveNumber_58 : decode b_o_giveNumber 58 = .ok (.aload_n 0, 1) := by decide +kernel
theorem d_o_giveNumber_59 : decode b_o_giveNumber 59 = .ok (.getfield 15, 3) := by decide +kernel
theorem d_o_giveNumber_62 : decode b_o_giveNumber 62 = .ok (.iload_n 2, 1) := by decide +kernel
theorem d_o_giveNumber_63 : decode b_o_giveNumber 63 = .ok (.iload_n 1, 1) := by decide +kernel
theorem d_o_giveNumber_64 : decode b_o_giveNumber 64 = .ok (.iastore, 1) := by decide +kernel
theorem d_o_giveNumber_65 : decode b_o_giveNumber 65 = .ok (.return_, 1) := by decide +kernel
theorem d_o_labelBehind_0 : decode b_o_labelBehind 0 = .ok (.aload_n 1, 1) := by decide +kernel
theorem d_o_labelBehind_1 : decode b_o_labelBehind 1 = .ok (.getfield 44, 3) := by decide +kernel
theorem d_o_labelBehind_4 : decode b_o_labelBehind 4 = .ok (.ifnonnull 9, 3) := by decide +kernel
theorem d_o_labelBehind_7 : decode b_o_labelBehind 7 = .ok (.ldc2_w 47, 3) := by decide +kernel
theorem d_o_labelBehind_10 : decode b_o_labelBehind 10 = .ok (.goto 10, 3) := by decide +kernel
theorem d_o_labelBehind_13 : decode b_o_labelBehind 13 = .ok (.aload_n 1, 1) := by decide +kernel
theorem d_o_labelBehind_14 : decode b_o_labelBehind 14 = .ok (.getfield 44, 3) := by decide +kernel
theorem d_o_labelBehind_17 : decode b_o_labelBehind 17 = .ok (.getfield 49, 3) := by decide +kernel
theorem d_o_labelBehind_20 : decode b_o_labelBehind 20 = .ok (.lreturn, 1) := by decide +kernel
theorem d_o_thin_0 : decode b_o_thin 0 = .ok (.iconst 1, 1) := by decide +kernel
theorem d_o_thin_1 : decode b_o_thin 1 = .ok (.istore_n 2, 1) := by decide +kernel
theorem d_o_thin_2 : decode b_o_thin 2 = .ok (.aload_n 1, 1) := by decide +kernel
theorem d_o_thin_3 : decode b_o_thin 3 = .ok (.getfield 49, 3) := by decide +kernel
theorem d_o_thin_6 : decode b_o_thin 6 = .ok (.lstore_n 3, 1) := by decide +kernel
theorem d_o_thin_7 : decode b_o_thin 7 = .ok (.aload_n 1, 1) := by decide +kernel
theorem d_o_thin_8 : decode b_o_thin 8 = .ok (.getfield 49, 3) := by decide +kernel
theorem d_o_thin_11 : decode b_o_thin 11 = .ok (.lstore 5, 2) := by decide +kernel
theorem d_o_thin_13 : decode b_o_thin 13 = .ok (.iconst 1, 1) := by decide +kernel
theorem d_o_thin_14 : decode b_o_thin 14 = .ok (.istore 7, 2) := by decide +kernel
theorem d_o_thin_16 : decode b_o_thin 16 = .ok (.aload_n 1, 1) := by decide +kernel
theorem d_o_thin_17 : decode b_o_thin 17 = .ok (.astore 8, 2) := by decide +kernel
theorem d_o_thin_19 : decode b_o_thin 19 = .ok (.aload_n 1, 1) := by decide +kernel
theorem d_o_thin_20 : decode b_o_thin 20 = .ok (.astore 9, 2) := by decide +kernel
theorem d_o_thin_22 : decode b_o_thin 22 = .ok (.iconst 1, 1) := by decide +kernel
theorem d_o_thin_23 : decode b_o_thin 23 = .ok (.istore 10, 2) := by decide +kernel
theorem d_o_thin_25 : decode b_o_thin 25 = .ok (.iload 10, 2) := by decide +kernel
theorem d_o_thin_27 : decode b_o_thin 27 = .ok (.ifCond .eq 126, 3) := by decide +kernel
theorem d_o_thin_30 : decode b_o_thin 30 = .ok (.aload_n 1, 1) := by decide +kernel
theorem d_o_thin_31 : decode b_o_thin 31 = .ok (.getfield 49, 3) := by decide +kernel
theorem d_o_thin_34 : decode b_o_thin 34 = .ok (.iload_n 2, 1) := by decide +kernel
theorem d_o_thin_35 : decode b_o_thin 35 = .ok (.lshr, 1) := by decide +kernel
theorem d_o_thin_36 : decode b_o_thin 36 = .ok (.iload_n 2, 1) := by decide +kernel
theorem d_o_thin_37 : decode b_o_thin 37 = .ok (.lshl, 1) := by decide +kernel
theorem d_o_thin_38 : decode b_o_thin 38 = .ok (.lstore_n 3, 1) := by decide +kernel
theorem d_o_thin_39 : decode b_o_thin 39 = .ok (.lload_n 3, 1) := by decide +kernel
theorem d_o_thin_40 : decode b_o_thin 40 = .ok (.lconst 1, 1) := by decide +kernel
theorem d_o_thin_41 : decode b_o_thin 41 = .ok (.iload_n 2, 1) := by decide +kernel
theorem d_o_thin_42 : decode b_o_thin 42 = .ok (.lshl, 1) := by decide +kernel
theorem d_o_thin_43 : decode b_o_thin 43 = .ok (.ladd, 1) := by decide +kernel
theorem d_o_thin_44 : decode b_o_thin 44 = .ok (.lconst 1, 1) := by decide +kernel
theorem d_o_thin_45 : decode b_o_thin 45 = .ok (.lsub, 1) := by decide +kernel
theorem d_o_thin_46 : decode b_o_thin 46 = .ok (.lstore 5, 2) := by decide +kernel
theorem d_o_thin_48 : decode b_o_thin 48 = .ok (.aload 8, 2) := by decide +kernel
theorem d_o_thin_50 : decode b_o_thin 50 = .ok (.getfield 53, 3) := by decide +kernel
theorem d_o_thin_53 : decode b_o_thin 53 = .ok (.ifnull 29, 3) := by decide +kernel
theorem d_o_thin_56 : decode b_o_thin 56 = .ok (.aload 8, 2) := by decide +kernel
theorem d_o_thin_58 : decode b_o_thin 58 = .ok (.getfield 53, 3) := by decide +kernel
theorem d_o_thin_61 : decode b_o_thin 61 = .ok (.getfield 49, 3) := by decide +kernel
theorem d_o_thin_64 : decode b_o_thin 64 = .ok (.lload_n 3, 1) := by decide +kernel
theorem d_o_thin_65 : decode b_o_thin 65 = .ok (.lcmp, 1) := by decide +kernel
theorem d_o_thin_66 : decode b_o_thin 66 = .ok (.ifCond .lt 16, 3) := by decide +kernel
theorem d_o_thin_69 : decode b_o_thin 69 = .ok (.aload 8, 2) := by decide +kernel
theorem d_o_thin_71 : decode b_o_thin 71 = .ok (.getfield 53, 3) := by decide +kernel
theorem d_o_thin_74 : decode b_o_thin 74 = .ok (.astore 8, 2) := by decide +kernel
theorem d_o_thin_76 : decode b_o_thin 76 = .ok (.iinc 7 1, 3) := by decide +kernel
theorem d_o_thin_79 : decode b_o_thin 79 = .ok (.goto (-31), 3) := by decide +kernel
theorem d_o_thin_82 : decode b_o_thin 82 = .ok (.aload 9, 2) := by decide +kernel
theorem d_o_thin_84 : decode b_o_thin 84 = .ok (.getfield 44, 3) := by decide +kernel
theorem d_o_thin_87 : decode b_o_thin 87 = .ok (.ifnull 30, 3) := by decide +kernel
theorem d_o_thin_90 : decode b_o_thin 90 = .ok (.aload 9, 2) := by decide +kernel
theorem d_o_thin_92 : decode b_o_thin 92 = .ok (.getfield 44, 3) := by decide +kernel
theorem d_o_thin_95 : decode b_o_thin 95 = .ok (.getfield 49, 3) := by decide +kernel
theorem d_o_thin_98 : decode b_o_thin 98 = .ok (.lload 5, 2) := by decide +kernel
theorem d_o_thin_100 : decode b_o_thin 100 = .ok (.lcmp, 1) := by decide +kernel
theorem d_o_thin_101 : decode b_o_thin 101 = .ok (.ifCond .gt 16, 3) := by decide +kernel
theorem d_o_thin_104 : decode b_o_thin 104 = .ok (.aload 9, 2) := by decide +kernel
theorem d_o_thin_106 : decode b_o_thin 106 = .ok (.getfield 44, 3) := by decide +kernel
theorem d_o_thin_109 : decode b_o_thin 109 = .ok (.astore 9, 2) := by decide +kernel
theorem d_o_thin_111 : decode b_o_thin 111 = .ok (.iinc 7 1, 3) := by decide +kernel
theorem d_o_thin_114 : decode b_o_thin 114 = .ok (.goto (-32), 3) := by decide +kernel
theorem d_o_thin_117 : decode b_o_thin 117 = .ok (.iload_n 2, 1) := by decide +kernel
theorem d_o_thin_118 : decode b_o_thin 118 = .ok (.bipush 40, 2) := by decide +kernel
theorem d_o_thin_120 : decode b_o_thin 120 = .ok (.if_icmp .ge 24, 3) := by decide +kernel
theorem d_o_thin_123 : decode b_o_thin 123 = .ok (.iload 7, 2) := by decide +kernel
theorem d_o_thin_125 : decode b_o_thin 125 = .ok (.i2l, 1) := by decide +kernel
theorem d_o_thin_126 : decode b_o_thin 126 = .ok (.iconst 2, 1) := by decide +kernel
theorem d_o_thin_127 : decode b_o_thin 127 = .ok (.iload_n 2, 1) := by decide +kernel
theorem d_o_thin_128 : decode b_o_thin 128 = .ok (.iload_n 2, 1) := by decide +kernel
theorem d_o_thin_129 : decode b_o_thin 129 = .ok (.imul, 1) := by decide +kernel
theorem d_o_thin_130 : decode b_o_thin 130 = .ok (.iadd, 1) := by decide +kernel
theorem d_o_thin_131 : decode b_o_thin 131 = .ok (.i2l, 1) := by decide +kernel
theorem d_o_thin_132 : decode b_o_thin 132 = .ok (.lmul, 1) := by decide +kernel
theorem d_o_thin_133 : decode b_o_thin 133 = .ok (.lconst 1, 1) := by decide +kernel
theorem d_o_thin_134 : decode b_o_thin 134 = .ok (.iload_n 2, 1) := by decide +kernel
theorem d_o_thin_135 : decode b_o_thin 135 = .ok (.lshl, 1) := by decide +kernel
theorem d_o_thin_136 : decode b_o_thin 136 = .ok (.lcmp, 1) := by decide +kernel
theorem d_o_thin_137 : decode b_o_thin 137 = .ok (.ifCond .le 7, 3) := by decide +kernel
theorem d_o_thin_140 : decode b_o_thin 140 = .ok (.iconst 1, 1) := by decide +kernel
theorem d_o_thin_141 : decode b_o_thin 141 = .ok (.goto 4, 3) := by decide +kernel
theorem d_o_thin_144 : decode b_o_thin 144 = .ok (.iconst 0, 1) := by decide +kernel
theorem d_o_thin_145 : decode b_o_thin 145 = .ok (.istore 10, 2) := by decide +kernel
theorem d_o_thin_147 : decode b_o_thin 147 = .ok (.iinc 2 1, 3) := by decide +kernel
theorem d_o_thin_150 : decode b_o_thin 150 = .ok (.goto (-125), 3) := by decide +kernel
theorem d_o_thin_153 : decode b_o_thin 153 = .ok (.lload 5, 2) := by decide +kernel
theorem d_o_thin_155 : decode b_o_thin 155 = .ok (.lload_n 3, 1) := by decide +kernel
theorem d_o_thin_156 : decode b_o_thin 156 = .ok (.lsub, 1) := by decide +kernel
theorem d_o_thin_157 : decode b_o_thin 157 = .ok (.lconst 1, 1) := by decide +kernel
theorem d_o_thin_158 : decode b_o_thin 158 = .ok (.ladd, 1) := by decide +kernel
theorem d_o_thin_159 : decode b_o_thin 159 = .ok (.iload 7, 2) := by decide +kernel
theorem d_o_thin_161 : decode b_o_thin 161 = .ok (.iconst 1, 1) := by decide +kernel
theorem d_o_thin_162 : decode b_o_thin 162 = .ok (.iadd, 1) := by decide +kernel
theorem d_o_thin_163 : decode b_o_thin 163 = .ok (.i2l, 1) := by decide +kernel
theorem d_o_thin_164 : decode b_o_thin 164 = .ok (.ldiv, 1) := by decide +kernel
theorem d_o_thin_165 : decode b_o_thin 165 = .ok (.lstore 11, 2) := by decide +kernel
theorem d_o_thin_167 : decode b_o_thin 167 = .ok (.lload_n 3, 1) := by decide +kernel
theorem d_o_thin_168 : decode b_o_thin 168 = .ok (.lstore 13, 2) := by decide +kernel
theorem d_o_thin_170 : decode b_o_thin 170 = .ok (.aload 8, 2) := by decide +kernel
theorem d_o_thin_172 : decode b_o_thin 172 = .ok (.astore 15, 2) := by decide +kernel
theorem d_o_thin_174 : decode b_o_thin 174 = .ok (.aload 15, 2) := by decide +kernel
theorem d_o_thin_176 : decode b_o_thin 176 = .ok (.lload 13, 2) := by decide +kernel
theorem d_o_thin_178 : decode b_o_thin 178 = .ok (.putfield 49, 3) := by decide +kernel
theorem d_o_thin_181 : decode b_o_thin 181 = .ok (.lload 13, 2) := by decide +kernel
theorem d_o_thin_183 : decode b_o_thin 183 = .ok (.lload 11, 2) := by decide +kernel
theorem d_o_thin_185 : decode b_o_thin 185 = .ok (.ladd, 1) := by decide +kernel
theorem d_o_thin_186 : decode b_o_thin 186 = .ok (.lstore 13, 2) := by decide +kernel
theorem d_o_thin_188 : decode b_o_thin 188 = .ok (.aload 15, 2) := by decide +kernel
theorem d_o_thin_190 : decode b_o_thin 190 = .ok (.aload 9, 2) := by decide +kernel
theorem d_o_thin_192 : decode b_o_thin 192 = .ok (.if_acmp .ne 6, 3) := by decide +kernel
theorem d_o_thin_195 : decode b_o_thin 195 = .ok (.goto 13, 3) := by decide +kernel
theorem d_o_thin_198 : decode b_o_thin 198 = .ok (.aload 15, 2) := by decide +kernel
theorem d_o_thin_200 : decode b_o_thin 200 = .ok (.getfield 44, 3) := by decide +kernel
theorem d_o_thin_203 : decode b_o_thin 203 = .ok (.astore 15, 2) := by decide +kernel
theorem d_o_thin_205 : decode b_o_thin 205 = .ok (.goto (-31), 3) := by decide +kernel
theorem d_o_thin_208 : decode b_o_thin 208 = .ok (.return_, 1) := by decide +kernel
theorem d_o_link_0 : decode b_o_link 0 = .ok (.aload_n 0, 1) := by decide +kernel
theorem d_o_link_1 : decode b_o_link 1 = .ok (.aload_n 2, 1) := by decide +kernel
theorem d_o_link_2 : decode b_o_link 2 = .ok (.invokevirtual 56, 3) := by decide +kernel
theorem d_o_link_5 : decode b_o_link 5 = .ok (.aload_n 2, 1) := by decide +kernel
theorem d_o_link_6 : decode b_o_link 6 = .ok (.getfield 49, 3) := by decide +kernel
theorem d_o_link_9 : decode b_o_link 9 = .ok (.lsub, 1) := by decide +kernel
theorem d_o_link_10 : decode b_o_link 10 = .ok (.ldc2_w 60, 3) := by decide +kernel
theorem d_o_link_13 : decode b_o_link 13 = .ok (.lcmp, 1) := by decide +kernel
theorem d_o_link_14 : decode b_o_link 14 = .ok (.ifCond .ge 8, 3) := by decide +kernel
theorem d_o_link_17 : decode b_o_link 17 = .ok (.aload_n 0, 1) := by decide +kernel
theorem d_o_link_18 : decode b_o_link 18 = .ok (.aload_n 2, 1) := by decide +kernel
theorem d_o_link_19 : decode b_o_link 19 = .ok (.invokevirtual 62, 3) := by decide +kernel
theorem d_o_link_22 : decode b_o_link 22 = .ok (.aload_n 0, 1) := by decide +kernel
theorem d_o_link_23 : decode b_o_link 23 = .ok (.aload_n 2, 1) := by decide +kernel
theorem d_o_link_24 : decode b_o_link 24 = .ok (.invokevirtual 56, 3) := by decide +kernel
theorem d_o_link_27 : decode b_o_link 27 = .ok (.lstore_n 3, 1) := by decide +kernel
theorem d_o_link_28 : decode b_o_link 28 = .ok (.aload_n 1, 1) := by decide +kernel
theorem d_o_link_29 : decode b_o_link 29 = .ok (.aload_n 2, 1) := by decide +kernel
theorem d_o_link_30 : decode b_o_link 30 = .ok (.getfield 49, 3) := by decide +kernel
theorem d_o_link_33 : decode b_o_link 33 = .ok (.lload_n 3, 1) := by decide +kernel
theorem d_o_link_34 : decode b_o_link 34 = .ok (.aload_n 2, 1) := by decide +kernel
theorem d_o_link_35 : decode b_o_link 35 = .ok (.getfield 49, 3) := by decide +kernel
theorem d_o_link_38 : decode b_o_link 38 = .ok (.lsub, 1) := by decide +kernel
theorem d_o_link_39 : decode b_o_link 39 = .ok (.ldc2_w 60, 3) := by decide +kernel
theorem d_o_link_42 : decode b_o_link 42 = .ok (.ldiv, 1) := by decide +kernel
theorem d_o_link_43 : decode b_o_link 43 = .ok (.ladd, 1) := by decide +kernel
theorem d_o_link_44 : decode b_o_link 44 = .ok (.putfield 49, 3) := by decide +kernel
theorem d_o_link_47 : decode b_o_link 47 = .ok (.aload_n 1, 1) := by decide +kernel
theorem d_o_link_48 : decode b_o_link 48 = .ok (.aload_n 2, 1) := by decide +kernel
theorem d_o_link_49 : decode b_o_link 49 = .ok (.putfield 53, 3) := by decide +kernel
theorem d_o_link_52 : decode b_o_link 52 = .ok (.aload_n 1, 1) := by decide +kernel
theorem d_o_link_53 : decode b_o_link 53 = .ok (.aload_n 2, 1) := by decide +kernel
theorem d_o_link_54 : decode b_o_link 54 = .ok (.getfield 44, 3) := by decide +kernel
theorem d_o_link_57 : decode b_o_link 57 = .ok (.putfield 44, 3) := by decide +kernel
theorem d_o_link_60 : decode b_o_link 60 = .ok (.aload_n 1, 1) := by decide +kernel
theorem d_o_link_61 : decode b_o_link 61 = .ok (.getfield 44, 3) := by decide +kernel
theorem d_o_link_64 : decode b_o_link 64 = .ok (.ifnonnull 11, 3) := by decide +kernel
theorem d_o_link_67 : decode b_o_link 67 = .ok (.aload_n 0, 1) := by decide +kernel
theorem d_o_link_68 : decode b_o_link 68 = .ok (.aload_n 1, 1) := by decide +kernel
theorem d_o_link_69 : decode b_o_link 69 = .ok (.putfield 30, 3) := by decide +kernel
theorem d_o_link_72 : decode b_o_link 72 = .ok (.goto 11, 3) := by decide +kernel
theorem d_o_link_75 : decode b_o_link 75 = .ok (.aload_n 1, 1) := by decide +kernel
theorem d_o_link_76 : decode b_o_link 76 = .ok (.getfield 44, 3) := by decide +kernel
theorem d_o_link_79 : decode b_o_link 79 = .ok (.aload_n 1, 1) := by decide +kernel
theorem d_o_link_80 : decode b_o_link 80 = .ok (.putfield 53, 3) := by decide +kernel
theorem d_o_link_83 : decode b_o_link 83 = .ok (.aload_n 2, 1) := by decide +kernel
theorem d_o_link_84 : decode b_o_link 84 = .ok (.aload_n 1, 1) := by decide +kernel
theorem d_o_link_85 : decode b_o_link 85 = .ok (.putfield 44, 3) := by decide +kernel
theorem d_o_link_88 : decode b_o_link 88 = .ok (.aload_n 1, 1) := by decide +kernel
theorem d_o_link_89 : decode b_o_link 89 = .ok (.iconst 1, 1) := by decide +kernel
theorem d_o_link_90 : decode b_o_link 90 = .ok (.putfield 26, 3) := by decide +kernel
theorem d_o_link_93 : decode b_o_link 93 = .ok (.aload_n 0, 1) := by decide +kernel
theorem d_o_link_94 : decode b_o_link 94 = .ok (.dup, 1) := by decide +kernel
theorem d_o_link_95 : decode b_o_link 95 = .ok (.getfield 19, 3) := by decide +kernel
theorem d_o_link_98 : decode b_o_link 98 = .ok (.iconst 1, 1) := by decide +kernel
theorem d_o_link_99 : decode b_o_link 99 = .ok (.iadd, 1) := by decide +kernel
theorem d_o_link_100 : decode b_o_link 100 = .ok (.putfield 19, 3) := by decide +kernel
theorem d_o_link_103 : decode b_o_link 103 = .ok (.return_, 1) := by decide +kernel
theorem d_o_unlink_0 : decode b_o_unlink 0 = .ok (.aload_n 1, 1) := by decide +kernel
theorem d_o_unlink_1 : decode b_o_unlink 1 = .ok (.getfield 53, 3) := by decide +kernel
theorem d_o_unlink_4 : decode b_o_unlink 4 = .ok (.aload_n 1, 1) := by decide +kernel
theorem d_o_unlink_5 : decode b_o_unlink 5 = .ok (.getfield 44, 3) := by decide +kernel
theorem d_o_unlink_8 : decode b_o_unlink 8 = .ok (.putfield 44, 3) := by decide +kernel
theorem d_o_unlink_11 : decode b_o_unlink 11 = .ok (.aload_n 1, 1) := by decide +kernel
theorem d_o_unlink_12 : decode b_o_unlink 12 = .ok (.getfield 44, 3) := by decide +kernel
theorem d_o_unlink_15 : decode b_o_unlink 15 = .ok (.ifnonnull 14, 3) := by decide +kernel
theorem d_o_unlink_18 : decode b_o_unlink 18 = .ok (.aload_n 0, 1) := by decide +kernel
theorem d_o_unlink_19 : decode b_o_unlink 19 = .ok (.aload_n 1, 1) := by decide +kernel
theorem d_o_unlink_20 : decode b_o_unlink 20 = .ok (.getfield 53, 3) := by decide +kernel
theorem d_o_unlink_23 : decode b_o_unlink 23 = .ok (.putfield 30, 3) := by decide +kernel
theorem d_o_unlink_26 : decode b_o_unlink 26 = .ok (.goto 14, 3) := by decide +kernel
theorem d_o_unlink_29 : decode b_o_unlink 29 = .ok (.aload_n 1, 1) := by decide +kernel
theorem d_o_unlink_30 : decode b_o_unlink 30 = .ok (.getfield 44, 3) := by decide +kernel
theorem d_o_unlink_33 : decode b_o_unlink 33 = .ok (.aload_n 1, 1) := by decide +kernel
theorem d_o_unlink_34 : decode b_o_unlink 34 = .ok (.getfield 53, 3) := by decide +kernel
theorem d_o_unlink_37 : decode b_o_unlink 37 = .ok (.putfield 53, 3) := by decide +kernel
theorem d_o_unlink_40 : decode b_o_unlink 40 = .ok (.aload_n 1, 1) := by decide +kernel
theorem d_o_unlink_41 : decode b_o_unlink 41 = .ok (.iconst 0, 1) := by decide +kernel
theorem d_o_unlink_42 : decode b_o_unlink 42 = .ok (.putfield 26, 3) := by decide +kernel
theorem d_o_unlink_45 : decode b_o_unlink 45 = .ok (.aload_n 0, 1) := by decide +kernel
theorem d_o_unlink_46 : decode b_o_unlink 46 = .ok (.dup, 1) := by decide +kernel
theorem d_o_unlink_47 : decode b_o_unlink 47 = .ok (.getfield 19, 3) := by decide +kernel
theorem d_o_unlink_50 : decode b_o_unlink 50 = .ok (.iconst 1, 1) := by decide +kernel
theorem d_o_unlink_51 : decode b_o_unlink 51 = .ok (.isub, 1) := by decide +kernel
theorem d_o_unlink_52 : decode b_o_unlink 52 = .ok (.putfield 19, 3) := by decide +kernel
theorem d_o_unlink_55 : decode b_o_unlink 55 = .ok (.return_, 1) := by decide +kernel
theorem d_o_behind_0 : decode b_o_behind 0 = .ok (.aload_n 0, 1) := by decide +kernel
theorem d_o_behind_1 : decode b_o_behind 1 = .ok (.iload_n 1, 1) := by decide +kernel
theorem d_o_behind_2 : decode b_o_behind 2 = .ok (.invokevirtual 66, 3) := by decide +kernel
theorem d_o_behind_5 : decode b_o_behind 5 = .ok (.astore_n 2, 1) := by decide +kernel
theorem d_o_behind_6 : decode b_o_behind 6 = .ok (.aload_n 0, 1) := by decide +kernel
theorem d_o_behind_7 : decode b_o_behind 7 = .ok (.getfield 34, 3) := by decide +kernel
theorem d_o_behind_10 : decode b_o_behind 10 = .ok (.ifCond .ne 5, 3) := by decide +kernel
theorem d_o_behind_13 : decode b_o_behind 13 = .ok (.iconst (-1), 1) := by decide +kernel
theorem d_o_behind_14 : decode b_o_behind 14 = .ok (.ireturn, 1) := by decide +kernel
theorem d_o_behind_15 : decode b_o_behind 15 = .ok (.aload_n 0, 1) := by decide +kernel
theorem d_o_behind_16 : decode b_o_behind 16 = .ok (.getfield 11, 3) := by decide +kernel
theorem d_o_behind_19 : decode b_o_behind 19 = .ok (.aload_n 0, 1) := by decide +kernel
theorem d_o_behind_20 : decode b_o_behind 20 = .ok (.invokevirtual 70, 3) := by decide +kernel
theorem d_o_behind_23 : decode b_o_behind 23 = .ok (.aaload, 1) := by decide +kernel
theorem d_o_behind_24 : decode b_o_behind 24 = .ok (.astore_n 3, 1) := by decide +kernel
theorem d_o_behind_25 : decode b_o_behind 25 = .ok (.aload_n 0, 1) := by decide +kernel
theorem d_o_behind_26 : decode b_o_behind 26 = .ok (.aload_n 3, 1) := by decide +kernel
theorem d_o_behind_27 : decode b_o_behind 27 = .ok (.aload_n 2, 1) := by decide +kernel
theorem d_o_behind_28 : decode b_o_behind 28 = .ok (.invokevirtual 74, 3) := by decide +kernel
theorem d_o_behind_31 : decode b_o_behind 31 = .ok (.aload_n 3, 1) := by decide +kernel
theorem d_o_behind_32 : decode b_o_behind 32 = .ok (.getfield 78, 3) := by decide +kernel
theorem d_o_behind_35 : decode b_o_behind 35 = .ok (.ireturn, 1) := by decide +kernel
theorem d_o_several_0 : decode b_o_several 0 = .ok (.aload_n 0, 1) := by decide +kernel
theorem d_o_several_1 : decode b_o_several 1 = .ok (.iload_n 1, 1) := by decide +kernel
theorem d_o_several_2 : decode b_o_several 2 = .ok (.invokevirtual 66, 3) := by decide +kernel
theorem d_o_several_5 : decode b_o_several 5 = .ok (.astore_n 3, 1) := by decide +kernel
theorem d_o_several_6 : decode b_o_several 6 = .ok (.iload_n 2, 1) := by decide +kernel
theorem d_o_several_7 : decode b_o_several 7 = .ok (.iconst 2, 1) := by decide +kernel
theorem d_o_several_8 : decode b_o_several 8 = .ok (.if_icmp .lt 17, 3) := by decide +kernel
theorem d_o_several_11 : decode b_o_several 11 = .ok (.iload_n 2, 1) := by decide +kernel
theorem d_o_several_12 : decode b_o_several 12 = .ok (.bipush 64, 2) := by decide +kernel
theorem d_o_several_14 : decode b_o_several 14 = .ok (.if_icmp .gt 11, 3) := by decide +kernel
theorem d_o_several_17 : decode b_o_several 17 = .ok (.iload_n 2, 1) := by decide +kernel
theorem d_o_several_18 : decode b_o_several 18 = .ok (.aload_n 0, 1) := by decide +kernel
theorem d_o_several_19 : decode b_o_several 19 = .ok (.getfield 34, 3) := by decide +kernel
theorem d_o_several_22 : decode b_o_several 22 = .ok (.if_icmp .le 5, 3) := by decide +kernel
theorem d_o_several_25 : decode b_o_several 25 = .ok (.iconst (-1), 1) := by decide +kernel
theorem d_o_several_26 : decode b_o_several 26 = .ok (.ireturn, 1) := by decide +kernel
theorem d_o_several_27 : decode b_o_several 27 = .ok (.iconst (-1), 1) := by decide +kernel
theorem d_o_several_28 : decode b_o_several 28 = .ok (.istore 4, 2) := by decide +kernel
theorem d_o_several_30 : decode b_o_several 30 = .ok (.aload_n 3, 1) := by decide +kernel
theorem d_o_several_31 : decode b_o_several 31 = .ok (.astore 5, 2) := by decide +kernel
theorem d_o_several_33 : decode b_o_several 33 = .ok (.iconst 0, 1) := by decide +kernel
theorem d_o_several_34 : decode b_o_several 34 = .ok (.istore 6, 2) := by decide +kernel
theorem d_o_several_36 : decode b_o_several 36 = .ok (.iload 6, 2) := by decide +kernel
theorem d_o_several_38 : decode b_o_several 38 = .ok (.iload_n 2, 1) := by decide +kernel
theorem d_o_several_39 : decode b_o_several 39 = .ok (.if_icmp .ge 49, 3) := by decide +kernel
theorem d_o_several_42 : decode b_o_several 42 = .ok (.aload_n 0, 1) := by decide +kernel
theorem d_o_several_43 : decode b_o_several 43 = .ok (.getfield 11, 3) := by decide +kernel
theorem d_o_several_46 : decode b_o_several 46 = .ok (.aload_n 0, 1) := by decide +kernel
theorem d_o_several_47 : decode b_o_several 47 = .ok (.invokevirtual 70, 3) := by decide +kernel
theorem d_o_several_50 : decode b_o_several 50 = .ok (.aaload, 1) := by decide +kernel
theorem d_o_several_51 : decode b_o_several 51 = .ok (.astore 7, 2) := by decide +kernel
theorem d_o_several_53 : decode b_o_several 53 = .ok (.aload_n 0, 1) := by decide +kernel
theorem d_o_several_54 : decode b_o_several 54 = .ok (.aload 7, 2) := by decide +kernel
theorem d_o_several_56 : decode b_o_several 56 = .ok (.aload 5, 2) := by decide +kernel
theorem d_o_several_58 : decode b_o_several 58 = .ok (.invokevirtual 74, 3) := by decide +kernel
theorem d_o_several_61 : decode b_o_several 61 = .ok (.iload 6, 2) := by decide +kernel
theorem d_o_several_63 : decode b_o_several 63 = .ok (.ifCond .ne 11, 3) := by decide +kernel
theorem d_o_several_66 : decode b_o_several 66 = .ok (.aload 7, 2) := by decide +kernel
theorem d_o_several_68 : decode b_o_several 68 = .ok (.getfield 78, 3) := by decide +kernel
theorem d_o_several_71 : decode b_o_several 71 = .ok (.goto 5, 3) := by decide +kernel
theorem d_o_several_74 : decode b_o_several 74 = .ok (.iload 4, 2) := by decide +kernel
theorem d_o_several_76 : decode b_o_several 76 = .ok (.istore 4, 2) := by decide +kernel
theorem d_o_several_78 : decode b_o_several 78 = .ok (.aload 7, 2) := by decide +kernel
theorem d_o_several_80 : decode b_o_several 80 = .ok (.astore 5, 2) := by decide +kernel
theorem d_o_several_82 : decode b_o_several 82 = .ok (.iinc 6 1, 3) := by decide +kernel
theorem d_o_several_85 : decode b_o_several 85 = .ok (.goto (-49), 3) := by decide +kernel
theorem d_o_several_88 : decode b_o_several 88 = .ok (.iload 4, 2) := by decide +kernel
theorem d_o_several_90 : decode b_o_several 90 = .ok (.ireturn, 1) := by decide +kernel
theorem d_o_remove_0 : decode b_o_remove 0 = .ok (.aload_n 0, 1) := by decide +kernel
theorem d_o_remove_1 : decode b_o_remove 1 = .ok (.iload_n 1, 1) := by decide +kernel
theorem d_o_remove_2 : decode b_o_remove 2 = .ok (.invokevirtual 37, 3) := by decide +kernel
theorem d_o_remove_5 : decode b_o_remove 5 = .ok (.ifCond .eq 7, 3) := by decide +kernel
theorem d_o_remove_8 : decode b_o_remove 8 = .ok (.iload_n 1, 1) := by decide +kernel
theorem d_o_remove_9 : decode b_o_remove 9 = .ok (.ifCond .ne 5, 3) := by decide +kernel
theorem d_o_remove_12 : decode b_o_remove 12 = .ok (.iconst 0, 1) := by decide +kernel
theorem d_o_remove_13 : decode b_o_remove 13 = .ok (.ireturn, 1) := by decide +kernel
theorem d_o_remove_14 : decode b_o_remove 14 = .ok (.aload_n 0, 1) := by decide +kernel
theorem d_o_remove_15 : decode b_o_remove 15 = .ok (.aload_n 0, 1) := by decide +kernel
theorem d_o_remove_16 : decode b_o_remove 16 = .ok (.getfield 11, 3) := by decide +kernel
theorem d_o_remove_19 : decode b_o_remove 19 = .ok (.iload_n 1, 1) := by decide +kernel
theorem d_o_remove_20 : decode b_o_remove 20 = .ok (.aaload, 1) := by decide +kernel
theorem d_o_remove_21 : decode b_o_remove 21 = .ok (.invokevirtual 81, 3) := by decide +kernel
theorem d_o_remove_24 : decode b_o_remove 24 = .ok (.aload_n 0, 1) := by decide +kernel
theorem d_o_remove_25 : decode b_o_remove 25 = .ok (.iload_n 1, 1) := by decide +kernel
theorem d_o_remove_26 : decode b_o_remove 26 = .ok (.invokevirtual 84, 3) := by decide +kernel
theorem d_o_remove_29 : decode b_o_remove 29 = .ok (.iconst 1, 1) := by decide +kernel
theorem d_o_remove_30 : decode b_o_remove 30 = .ok (.ireturn, 1) := by decide +kernel
theorem d_o_clear_0 : decode b_o_clear 0 = .ok (.aload_n 0, 1) := by decide +kernel
theorem d_o_clear_1 : decode b_o_clear 1 = .ok (.iload_n 1, 1) := by decide +kernel
theorem d_o_clear_2 : decode b_o_clear 2 = .ok (.invokevirtual 66, 3) := by decide +kernel
theorem d_o_clear_5 : decode b_o_clear 5 = .ok (.astore_n 3, 1) := by decide +kernel
theorem d_o_clear_6 : decode b_o_clear 6 = .ok (.aload_n 0, 1) := by decide +kernel
theorem d_o_clear_7 : decode b_o_clear 7 = .ok (.iload_n 2, 1) := by decide +kernel
theorem d_o_clear_8 : decode b_o_clear 8 = .ok (.invokevirtual 66, 3) := by decide +kernel
theorem d_o_clear_11 : decode b_o_clear 11 = .ok (.astore 4, 2) := by decide +kernel
theorem d_o_clear_13 : decode b_o_clear 13 = .ok (.iconst 0, 1) := by decide +kernel
theorem d_o_clear_14 : decode b_o_clear 14 = .ok (.istore 5, 2) := by decide +kernel
theorem d_o_clear_16 : decode b_o_clear 16 = .ok (.aload_n 3, 1) := by decide +kernel
theorem d_o_clear_17 : decode b_o_clear 17 = .ok (.getfield 49, 3) := by decide +kernel
theorem d_o_clear_20 : decode b_o_clear 20 = .ok (.aload 4, 2) := by decide +kernel
theorem d_o_clear_22 : decode b_o_clear 22 = .ok (.getfield 49, 3) := by decide +kernel
theorem d_o_clear_25 : decode b_o_clear 25 = .ok (.lcmp, 1) := by decide +kernel
theorem d_o_clear_26 : decode b_o_clear 26 = .ok (.ifCond .ge 41, 3) := by decide +kernel
theorem d_o_clear_29 : decode b_o_clear 29 = .ok (.aload_n 3, 1) := by decide +kernel
theorem d_o_clear_30 : decode b_o_clear 30 = .ok (.getfield 44, 3) := by decide +kernel
theorem d_o_clear_33 : decode b_o_clear 33 = .ok (.aload 4, 2) := by decide +kernel
theorem d_o_clear_35 : decode b_o_clear 35 = .ok (.if_acmp .eq 32, 3) := by decide +kernel
theorem d_o_clear_38 : decode b_o_clear 38 = .ok (.aload_n 3, 1) := by decide +kernel
theorem d_o_clear_39 : decode b_o_clear 39 = .ok (.getfield 44, 3) := by decide +kernel
theorem d_o_clear_42 : decode b_o_clear 42 = .ok (.getfield 78, 3) := by decide +kernel
theorem d_o_clear_45 : decode b_o_clear 45 = .ok (.istore 6, 2) := by decide +kernel
theorem d_o_clear_47 : decode b_o_clear 47 = .ok (.aload_n 0, 1) := by decide +kernel
theorem d_o_clear_48 : decode b_o_clear 48 = .ok (.aload_n 3, 1) := by decide +kernel
theorem d_o_clear_49 : decode b_o_clear 49 = .ok (.getfield 44, 3) := by decide +kernel
theorem d_o_clear_52 : decode b_o_clear 52 = .ok (.invokevirtual 81, 3) := by decide +kernel
theorem d_o_clear_55 : decode b_o_clear 55 = .ok (.aload_n 0, 1) := by decide +kernel
theorem d_o_clear_56 : decode b_o_clear 56 = .ok (.iload 6, 2) := by decide +kernel
theorem d_o_clear_58 : decode b_o_clear 58 = .ok (.invokevirtual 84, 3) := by decide +kernel
theorem d_o_clear_61 : decode b_o_clear 61 = .ok (.iinc 5 1, 3) := by decide +kernel
theorem d_o_clear_64 : decode b_o_clear 64 = .ok (.goto (-48), 3) := by decide +kernel
theorem d_o_clear_67 : decode b_o_clear 67 = .ok (.iload 5, 2) := by decide +kernel
theorem d_o_clear_69 : decode b_o_clear 69 = .ok (.ireturn, 1) := by decide +kernel
theorem d_o_carry_0 : decode b_o_carry 0 = .ok (.aload_n 0, 1) := by decide +kernel
theorem d_o_carry_1 : decode b_o_carry 1 = .ok (.iload_n 1, 1) := by decide +kernel
theorem d_o_carry_2 : decode b_o_carry 2 = .ok (.invokevirtual 66, 3) := by decide +kernel
theorem d_o_carry_5 : decode b_o_carry 5 = .ok (.astore 4, 2) := by decide +kernel
theorem d_o_carry_7 : decode b_o_carry 7 = .ok (.aload_n 0, 1) := by decide +kernel
theorem d_o_carry_8 : decode b_o_carry 8 = .ok (.iload_n 2, 1) := by decide +kernel
theorem d_o_carry_9 : decode b_o_carry 9 = .ok (.invokevirtual 66, 3) := by decide +kernel
theorem d_o_carry_12 : decode b_o_carry 12 = .ok (.astore 5, 2) := by decide +kernel
theorem d_o_carry_14 : decode b_o_carry 14 = .ok (.aload_n 0, 1) := by decide +kernel
theorem d_o_carry_15 : decode b_o_carry 15 = .ok (.iload_n 3, 1) := by decide +kernel
theorem d_o_carry_16 : decode b_o_carry 16 = .ok (.invokevirtual 66, 3) := by decide +kernel
theorem d_o_carry_19 : decode b_o_carry 19 = .ok (.astore 6, 2) := by decide +kernel
theorem d_o_carry_21 : decode b_o_carry 21 = .ok (.aload 4, 2) := by decide +kernel
theorem d_o_carry_23 : decode b_o_carry 23 = .ok (.getfield 49, 3) := by decide +kernel
theorem d_o_carry_26 : decode b_o_carry 26 = .ok (.aload 5, 2) := by decide +kernel
theorem d_o_carry_28 : decode b_o_carry 28 = .ok (.getfield 49, 3) := by decide +kernel
theorem d_o_carry_31 : decode b_o_carry 31 = .ok (.lcmp, 1) := by decide +kernel
theorem d_o_carry_32 : decode b_o_carry 32 = .ok (.ifCond .ge 31, 3) := by decide +kernel
theorem d_o_carry_35 : decode b_o_carry 35 = .ok (.aload 6, 2) := by decide +kernel
theorem d_o_carry_37 : decode b_o_carry 37 = .ok (.getfield 49, 3) := by decide +kernel
theorem d_o_carry_40 : decode b_o_carry 40 = .ok (.aload 4, 2) := by decide +kernel
theorem d_o_carry_42 : decode b_o_carry 42 = .ok (.getfield 49, 3) := by decide +kernel
theorem d_o_carry_45 : decode b_o_carry 45 = .ok (.lcmp, 1) := by decide +kernel
theorem d_o_carry_46 : decode b_o_carry 46 = .ok (.ifCond .le 19, 3) := by decide +kernel
theorem d_o_carry_49 : decode b_o_carry 49 = .ok (.aload 6, 2) := by decide +kernel
theorem d_o_carry_51 : decode b_o_carry 51 = .ok (.getfield 49, 3) := by decide +kernel
theorem d_o_carry_54 : decode b_o_carry 54 = .ok (.aload 5, 2) := by decide +kernel
theorem d_o_carry_56 : decode b_o_carry 56 = .ok (.getfield 49, 3) := by decide +kernel
theorem d_o_carry_59 : decode b_o_carry 59 = .ok (.lcmp, 1) := by decide +kernel
theorem d_o_carry_60 : decode b_o_carry 60 = .ok (.ifCond .ge 5, 3) := by decide +kernel
theorem d_o_carry_63 : decode b_o_carry 63 = .ok (.iconst (-1), 1) := by decide +kernel
theorem d_o_carry_64 : decode b_o_carry 64 = .ok (.ireturn, 1) := by decide +kernel
theorem d_o_carry_65 : decode b_o_carry 65 = .ok (.iconst 0, 1) := by decide +kernel
theorem d_o_carry_66 : decode b_o_carry 66 = .ok (.istore 7, 2) := by decide +kernel
theorem d_o_carry_68 : decode b_o_carry 68 = .ok (.aload 6, 2) := by decide +kernel
theorem d_o_carry_70 : decode b_o_carry 70 = .ok (.astore 8, 2) := by decide +kernel
theorem d_o_carry_72 : decode b_o_carry 72 = .ok (.aload 6, 2) := by decide +kernel
theorem d_o_carry_74 : decode b_o_carry 74 = .ok (.aload 4, 2) := by decide +kernel
theorem d_o_carry_76 : decode b_o_carry 76 = .ok (.if_acmp .ne 8, 3) := by decide +kernel
theorem d_o_carry_79 : decode b_o_carry 79 = .ok (.aload 5, 2) := by decide +kernel
theorem d_o_carry_81 : decode b_o_carry 81 = .ok (.goto 4, 3) := by decide +kernel
theorem d_o_carry_84 : decode b_o_carry 84 = .ok (.aconst_null, 1) := by decide +kernel
theorem d_o_carry_85 : decode b_o_carry 85 = .ok (.astore 9, 2) := by decide +kernel
theorem d_o_carry_87 : decode b_o_carry 87 = .ok (.aload 9, 2) := by decide +kernel
theorem d_o_carry_89 : decode b_o_carry 89 = .ok (.ifnonnull 44, 3) := by decide +kernel
theorem d_o_carry_92 : decode b_o_carry 92 = .ok (.aload 4, 2) := by decide +kernel
theorem d_o_carry_94 : decode b_o_carry 94 = .ok (.getfield 44, 3) := by decide +kernel
theorem d_o_carry_97 : decode b_o_carry 97 = .ok (.aload 5, 2) := by decide +kernel
theorem d_o_carry_99 : decode b_o_carry 99 = .ok (.if_acmp .eq 34, 3) := by decide +kernel
theorem d_o_carry_102 : decode b_o_carry 102 = .ok (.aload 4, 2) := by decide +kernel
theorem d_o_carry_104 : decode b_o_carry 104 = .ok (.getfield 44, 3) := by decide +kernel
theorem d_o_carry_107 : decode b_o_carry 107 = .ok (.astore 10, 2) := by decide +kernel
theorem d_o_carry_109 : decode b_o_carry 109 = .ok (.aload_n 0, 1) := by decide +kernel
theorem d_o_carry_110 : decode b_o_carry 110 = .ok (.aload 10, 2) := by decide +kernel
theorem d_o_carry_112 : decode b_o_carry 112 = .ok (.invokevirtual 81, 3) := by decide +kernel
theorem d_o_carry_115 : decode b_o_carry 115 = .ok (.aload_n 0, 1) := by decide +kernel
theorem d_o_carry_116 : decode b_o_carry 116 = .ok (.aload 10, 2) := by decide +kernel
theorem d_o_carry_118 : decode b_o_carry 118 = .ok (.aload 8, 2) := by decide +kernel
theorem d_o_carry_120 : decode b_o_carry 120 = .ok (.invokevirtual 74, 3) := by decide +kernel
theorem d_o_carry_123 : decode b_o_carry 123 = .ok (.aload 10, 2) := by decide +kernel
theorem d_o_carry_125 : decode b_o_carry 125 = .ok (.astore 8, 2) := by decide +kernel
theorem d_o_carry_127 : decode b_o_carry 127 = .ok (.iinc 7 1, 3) := by decide +kernel
theorem d_o_carry_130 : decode b_o_carry 130 = .ok (.goto (-43), 3) := by decide +kernel
theorem d_o_carry_133 : decode b_o_carry 133 = .ok (.aload 4, 2) := by decide +kernel
theorem d_o_carry_135 : decode b_o_carry 135 = .ok (.getfield 44, 3) := by decide +kernel
theorem d_o_carry_138 : decode b_o_carry 138 = .ok (.astore 10, 2) := by decide +kernel
theorem d_o_carry_140 : decode b_o_carry 140 = .ok (.aload 9, 2) := by decide +kernel
theorem d_o_carry_142 : decode b_o_carry 142 = .ok (.ifnull 23, 3) := by decide +kernel
theorem d_o_carry_145 : decode b_o_carry 145 = .ok (.aload 10, 2) := by decide +kernel
theorem d_o_carry_147 : decode b_o_carry 147 = .ok (.aload 9, 2) := by decide +kernel
theorem d_o_carry_149 : decode b_o_carry 149 = .ok (.if_acmp .eq 16, 3) := by decide +kernel
theorem d_o_carry_152 : decode b_o_carry 152 = .ok (.iinc 7 1, 3) := by decide +kernel
theorem d_o_carry_155 : decode b_o_carry 155 = .ok (.aload 10, 2) := by decide +kernel
theorem d_o_carry_157 : decode b_o_carry 157 = .ok (.getfield 44, 3) := by decide +kernel
theorem d_o_carry_160 : decode b_o_carry 160 = .ok (.astore 10, 2) := by decide +kernel
theorem d_o_carry_162 : decode b_o_carry 162 = .ok (.goto (-22), 3) := by decide +kernel
theorem d_o_carry_165 : decode b_o_carry 165 = .ok (.iload 7, 2) := by decide +kernel
theorem d_o_carry_167 : decode b_o_carry 167 = .ok (.ireturn, 1) := by decide +kernel
theorem d_o_compare_0 : decode b_o_compare 0 = .ok (.aload_n 0, 1) := by decide +kernel
theorem d_o_compare_1 : decode b_o_compare 1 = .ok (.iload_n 1, 1) := by decide +kernel
theorem d_o_compare_2 : decode b_o_compare 2 = .ok (.invokevirtual 66, 3) := by decide +kernel
theorem d_o_compare_5 : decode b_o_compare 5 = .ok (.astore_n 3, 1) := by decide +kernel
theorem d_o_compare_6 : decode b_o_compare 6 = .ok (.aload_n 0, 1) := by decide +kernel
theorem d_o_compare_7 : decode b_o_compare 7 = .ok (.iload_n 2, 1) := by decide +kernel
theorem d_o_compare_8 : decode b_o_compare 8 = .ok (.invokevirtual 66, 3) := by decide +kernel
theorem d_o_compare_11 : decode b_o_compare 11 = .ok (.astore 4, 2) := by decide +kernel
theorem d_o_compare_13 : decode b_o_compare 13 = .ok (.aload_n 3, 1) := by decide +kernel
theorem d_o_compare_14 : decode b_o_compare 14 = .ok (.getfield 49, 3) := by decide +kernel
theorem d_o_compare_17 : decode b_o_compare 17 = .ok (.aload 4, 2) := by decide +kernel
theorem d_o_compare_19 : decode b_o_compare 19 = .ok (.getfield 49, 3) := by decide +kernel
theorem d_o_compare_22 : decode b_o_compare 22 = .ok (.lcmp, 1) := by decide +kernel
theorem d_o_compare_23 : decode b_o_compare 23 = .ok (.ifCond .ge 7, 3) := by decide +kernel
theorem d_o_compare_26 : decode b_o_compare 26 = .ok (.iconst (-1), 1) := by decide +kernel
theorem d_o_compare_27 : decode b_o_compare 27 = .ok (.goto 21, 3) := by decide +kernel
theorem d_o_compare_30 : decode b_o_compare 30 = .ok (.aload_n 3, 1) := by decide +kernel
theorem d_o_compare_31 : decode b_o_compare 31 = .ok (.getfield 49, 3) := by decide +kernel
theorem d_o_compare_34 : decode b_o_compare 34 = .ok (.aload 4, 2) := by decide +kernel
theorem d_o_compare_36 : decode b_o_compare 36 = .ok (.getfield 49, 3) := by decide +kernel
theorem d_o_compare_39 : decode b_o_compare 39 = .ok (.lcmp, 1) := by decide +kernel
theorem d_o_compare_40 : decode b_o_compare 40 = .ok (.ifCond .le 7, 3) := by decide +kernel
theorem d_o_compare_43 : decode b_o_compare 43 = .ok (.iconst 1, 1) := by decide +kernel
theorem d_o_compare_44 : decode b_o_compare 44 = .ok (.goto 4, 3) := by decide +kernel
theorem d_o_compare_47 : decode b_o_compare 47 = .ok (.iconst 0, 1) := by decide +kernel
theorem d_o_compare_48 : decode b_o_compare 48 = .ok (.ireturn, 1) := by decide +kernel
theorem d_o_next_0 : decode b_o_next 0 = .ok (.aload_n 0, 1) := by decide +kernel
theorem d_o_next_1 : decode b_o_next 1 = .ok (.iload_n 1, 1) := by decide +kernel
theorem d_o_next_2 : decode b_o_next 2 = .ok (.invokevirtual 66, 3) := by decide +kernel
theorem d_o_next_5 : decode b_o_next 5 = .ok (.astore_n 3, 1) := by decide +kernel
theorem d_o_next_6 : decode b_o_next 6 = .ok (.iload_n 2, 1) := by decide +kernel
theorem d_o_next_7 : decode b_o_next 7 = .ok (.ifCond .eq 10, 3) := by decide +kernel
theorem d_o_next_10 : decode b_o_next 10 = .ok (.aload_n 3, 1) := by decide +kernel
theorem d_o_next_11 : decode b_o_next 11 = .ok (.getfield 44, 3) := by decide +kernel
theorem d_o_next_14 : decode b_o_next 14 = .ok (.goto 7, 3) := by decide +kernel
theorem d_o_next_17 : decode b_o_next 17 = .ok (.aload_n 3, 1) := by decide +kernel
theorem d_o_next_18 : decode b_o_next 18 = .ok (.getfield 53, 3) := by decide +kernel
theorem d_o_next_21 : decode b_o_next 21 = .ok (.astore 4, 2) := by decide +kernel
theorem d_o_next_23 : decode b_o_next 23 = .ok (.aload 4, 2) := by decide +kernel
theorem d_o_next_25 : decode b_o_next 25 = .ok (.ifnonnull 7, 3) := by decide +kernel
theorem d_o_next_28 : decode b_o_next 28 = .ok (.iconst (-1), 1) := by decide +kernel
theorem d_o_next_29 : decode b_o_next 29 = .ok (.goto 8, 3) := by decide +kernel
theorem d_o_next_32 : decode b_o_next 32 = .ok (.aload 4, 2) := by decide +kernel
theorem d_o_next_34 : decode b_o_next 34 = .ok (.getfield 78, 3) := by decide +kernel
theorem d_o_next_37 : decode b_o_next 37 = .ok (.ireturn, 1) := by decide +kernel
theorem d_o_place_0 : decode b_o_place 0 = .ok (.iconst 0, 1) := by decide +kernel
theorem d_o_place_1 : decode b_o_place 1 = .ok (.istore_n 2, 1) := by decide +kernel
theorem d_o_place_2 : decode b_o_place 2 = .ok (.aload_n 0, 1) := by decide +kernel
theorem d_o_place_3 : decode b_o_place 3 = .ok (.iload_n 1, 1) := by decide +kernel
theorem d_o_place_4 : decode b_o_place 4 = .ok (.invokevirtual 66, 3) := by decide +kernel
theorem d_o_place_7 : decode b_o_place 7 = .ok (.getfield 53, 3) := by decide +kernel
theorem d_o_place_10 : decode b_o_place 10 = .ok (.astore_n 3, 1) := by decide +kernel
theorem d_o_place_11 : decode b_o_place 11 = .ok (.aload_n 3, 1) := by decide +kernel
theorem d_o_place_12 : decode b_o_place 12 = .ok (.ifnull 14, 3) := by decide +kernel
theorem d_o_place_15 : decode b_o_place 15 = .ok (.iinc 2 1, 3) := by decide +kernel
theorem d_o_place_18 : decode b_o_place 18 = .ok (.aload_n 3, 1) := by decide +kernel
theorem d_o_place_19 : decode b_o_place 19 = .ok (.getfield 53, 3) := by decide +kernel
theorem d_o_place_22 : decode b_o_place 22 = .ok (.astore_n 3, 1) := by decide +kernel
theorem d_o_place_23 : decode b_o_place 23 = .ok (.goto (-12), 3) := by decide +kernel
theorem d_o_place_26 : decode b_o_place 26 = .ok (.iload_n 2, 1) := by decide +kernel
theorem d_o_place_27 : decode b_o_place 27 = .ok (.ireturn, 1) := by decide +kernel
theorem d_o_at_0 : decode b_o_at 0 = .ok (.iload_n 1, 1) := by decide +kernel
theorem d_o_at_1 : decode b_o_at 1 = .ok (.ifCond .lt 11, 3) := by decide +kernel
theorem d_o_at_4 : decode b_o_at 4 = .ok (.iload_n 1, 1) := by decide +kernel
theorem d_o_at_5 : decode b_o_at 5 = .ok (.aload_n 0, 1) := by decide +kernel
theorem d_o_at_6 : decode b_o_at 6 = .ok (.getfield 19, 3) := by decide +kernel
theorem d_o_at_9 : decode b_o_at 9 = .ok (.if_icmp .lt 5, 3) := by decide +kernel
theorem d_o_at_12 : decode b_o_at 12 = .ok (.iconst (-1), 1) := by decide +kernel
theorem d_o_at_13 : decode b_o_at 13 = .ok (.ireturn, 1) := by decide +kernel
theorem d_o_at_14 : decode b_o_at 14 = .ok (.aload_n 0, 1) := by decide +kernel
theorem d_o_at_15 : decode b_o_at 15 = .ok (.getfield 11, 3) := by decide +kernel
theorem d_o_at_18 : decode b_o_at 18 = .ok (.iconst 0, 1) := by decide +kernel
theorem d_o_at_19 : decode b_o_at 19 = .ok (.aaload, 1) := by decide +kernel
theorem d_o_at_20 : decode b_o_at 20 = .ok (.astore_n 2, 1) := by decide +kernel
theorem d_o_at_21 : decode b_o_at 21 = .ok (.iconst 0, 1) := by decide +kernel
theorem d_o_at_22 : decode b_o_at 22 = .ok (.istore_n 3, 1) := by decide +kernel
theorem d_o_at_23 : decode b_o_at 23 = .ok (.iload_n 3, 1) := by decide +kernel
theorem d_o_at_24 : decode b_o_at 24 = .ok (.iload_n 1, 1) := by decide +kernel
theorem d_o_at_25 : decode b_o_at 25 = .ok (.if_icmp .ge 14, 3) := by decide +kernel
theorem d_o_at_28 : decode b_o_at 28 = .ok (.aload_n 2, 1) := by decide +kernel
theorem d_o_at_29 : decode b_o_at 29 = .ok (.getfield 44, 3) := by decide +kernel
theorem d_o_at_32 : decode b_o_at 32 = .ok (.astore_n 2, 1) := by decide +kernel
theorem d_o_at_33 : decode b_o_at 33 = .ok (.iinc 3 1, 3) := by decide +kernel
theorem d_o_at_36 : decode b_o_at 36 = .ok (.goto (-13), 3) := by decide +kernel
theorem d_o_at_39 : decode b_o_at 39 = .ok (.aload_n 2, 1) := by decide +kernel
theorem d_o_at_40 : decode b_o_at 40 = .ok (.getfield 78, 3) := by decide +kernel
theorem d_o_at_43 : decode b_o_at 43 = .ok (.ireturn, 1) := by decide +kernel
theorem d_o_greatest_0 : decode b_o_greatest 0 = .ok (.aload_n 0, 1) := by decide +kernel
theorem d_o_greatest_1 : decode b_o_greatest 1 = .ok (.iload_n 1, 1) := by decide +kernel
theorem d_o_greatest_2 : decode b_o_greatest 2 = .ok (.invokevirtual 66, 3) := by decide +kernel
theorem d_o_greatest_5 : decode b_o_greatest 5 = .ok (.astore_n 3, 1) := by decide +kernel
theorem d_o_greatest_6 : decode b_o_greatest 6 = .ok (.aload_n 0, 1) := by decide +kernel
theorem d_o_greatest_7 : decode b_o_greatest 7 = .ok (.iload_n 2, 1) := by decide +kernel
theorem d_o_greatest_8 : decode b_o_greatest 8 = .ok (.invokevirtual 66, 3) := by decide +kernel
theorem d_o_greatest_11 : decode b_o_greatest 11 = .ok (.astore 4, 2) := by decide +kernel
theorem d_o_greatest_13 : decode b_o_greatest 13 = .ok (.aload_n 3, 1) := by decide +kernel
theorem d_o_greatest_14 : decode b_o_greatest 14 = .ok (.getfield 49, 3) := by decide +kernel
theorem d_o_greatest_17 : decode b_o_greatest 17 = .ok (.aload 4, 2) := by decide +kernel
theorem d_o_greatest_19 : decode b_o_greatest 19 = .ok (.getfield 49, 3) := by decide +kernel
theorem d_o_greatest_22 : decode b_o_greatest 22 = .ok (.lcmp, 1) := by decide +kernel
theorem d_o_greatest_23 : decode b_o_greatest 23 = .ok (.ifCond .le 5, 3) := by decide +kernel
theorem d_o_greatest_26 : decode b_o_greatest 26 = .ok (.iconst (-1), 1) := by decide +kernel
theorem d_o_greatest_27 : decode b_o_greatest 27 = .ok (.ireturn, 1) := by decide +kernel
theorem d_o_greatest_28 : decode b_o_greatest 28 = .ok (.aload 4, 2) := by decide +kernel
theorem d_o_greatest_30 : decode b_o_greatest 30 = .ok (.getfield 78, 3) := by decide +kernel
theorem d_o_greatest_33 : decode b_o_greatest 33 = .ok (.istore 5, 2) := by decide +kernel
theorem d_o_greatest_35 : decode b_o_greatest 35 = .ok (.aload_n 3, 1) := by decide +kernel
theorem d_o_greatest_36 : decode b_o_greatest 36 = .ok (.astore 6, 2) := by decide +kernel
theorem d_o_greatest_38 : decode b_o_greatest 38 = .ok (.aload 6, 2) := by decide +kernel
theorem d_o_greatest_40 : decode b_o_greatest 40 = .ok (.aload 4, 2) := by decide +kernel
theorem d_o_greatest_42 : decode b_o_greatest 42 = .ok (.if_acmp .eq 25, 3) := by decide +kernel
theorem d_o_greatest_45 : decode b_o_greatest 45 = .ok (.iload 5, 2) := by decide +kernel
theorem d_o_greatest_47 : decode b_o_greatest 47 = .ok (.aload 6, 2) := by decide +kernel
theorem d_o_greatest_49 : decode b_o_greatest 49 = .ok (.getfield 78, 3) := by decide +kernel
theorem d_o_greatest_52 : decode b_o_greatest 52 = .ok (.invokestatic 87, 3) := by decide +kernel
theorem d_o_greatest_55 : decode b_o_greatest 55 = .ok (.istore 5, 2) := by decide +kernel
theorem d_o_greatest_57 : decode b_o_greatest 57 = .ok (.aload 6, 2) := by decide +kernel
theorem d_o_greatest_59 : decode b_o_greatest 59 = .ok (.getfield 44, 3) := by decide +kernel
theorem d_o_greatest_62 : decode b_o_greatest 62 = .ok (.astore 6, 2) := by decide +kernel
theorem d_o_greatest_64 : decode b_o_greatest 64 = .ok (.goto (-26), 3) := by decide +kernel
theorem d_o_greatest_67 : decode b_o_greatest 67 = .ok (.iload 5, 2) := by decide +kernel
theorem d_o_greatest_69 : decode b_o_greatest 69 = .ok (.ireturn, 1) := by decide +kernel
theorem d_o_wipe_0 : decode b_o_wipe 0 = .ok (.aload_n 0, 1) := by decide +kernel
theorem d_o_wipe_1 : decode b_o_wipe 1 = .ok (.getfield 30, 3) := by decide +kernel
theorem d_o_wipe_4 : decode b_o_wipe 4 = .ok (.aload_n 0, 1) := by decide +kernel
theorem d_o_wipe_5 : decode b_o_wipe 5 = .ok (.getfield 11, 3) := by decide +kernel
theorem d_o_wipe_8 : decode b_o_wipe 8 = .ok (.iconst 0, 1) := by decide +kernel
theorem d_o_wipe_9 : decode b_o_wipe 9 = .ok (.aaload, 1) := by decide +kernel
theorem d_o_wipe_10 : decode b_o_wipe 10 = .ok (.if_acmp .eq 27, 3) := by decide +kernel
theorem d_o_wipe_13 : decode b_o_wipe 13 = .ok (.aload_n 0, 1) := by decide +kernel
theorem d_o_wipe_14 : decode b_o_wipe 14 = .ok (.getfield 30, 3) := by decide +kernel
theorem d_o_wipe_17 : decode b_o_wipe 17 = .ok (.getfield 78, 3) := by decide +kernel
theorem d_o_wipe_20 : decode b_o_wipe 20 = .ok (.istore_n 1, 1) := by decide +kernel
theorem d_o_wipe_21 : decode b_o_wipe 21 = .ok (.aload_n 0, 1) := by decide +kernel
theorem d_o_wipe_22 : decode b_o_wipe 22 = .ok (.aload_n 0, 1) := by decide +kernel
theorem d_o_wipe_23 : decode b_o_wipe 23 = .ok (.getfield 30, 3) := by decide +kernel
theorem d_o_wipe_26 : decode b_o_wipe 26 = .ok (.invokevirtual 81, 3) := by decide +kernel
theorem d_o_wipe_29 : decode b_o_wipe 29 = .ok (.aload_n 0, 1) := by decide +kernel
theorem d_o_wipe_30 : decode b_o_wipe 30 = .ok (.iload_n 1, 1) := by decide +kernel
theorem d_o_wipe_31 : decode b_o_wipe 31 = .ok (.invokevirtual 84, 3) := by decide +kernel
theorem d_o_wipe_34 : decode b_o_wipe 34 = .ok (.goto (-34), 3) := by decide +kernel
theorem d_o_wipe_37 : decode b_o_wipe 37 = .ok (.return_, 1) := by decide +kernel
theorem d_o_look_0 : decode b_o_look 0 = .ok (.iload_n 1, 1) := by decide +kernel
theorem d_o_look_1 : decode b_o_look 1 = .ok (.ifCond .ne 10, 3) := by decide +kernel
theorem d_o_look_4 : decode b_o_look 4 = .ok (.aload_n 0, 1) := by decide +kernel
theorem d_o_look_5 : decode b_o_look 5 = .ok (.getfield 19, 3) := by decide +kernel
theorem d_o_look_8 : decode b_o_look 8 = .ok (.goto 44, 3) := by decide +kernel
theorem d_o_look_11 : decode b_o_look 11 = .ok (.iload_n 1, 1) := by decide +kernel
theorem d_o_look_12 : decode b_o_look 12 = .ok (.iconst 1, 1) := by decide +kernel
theorem d_o_look_13 : decode b_o_look 13 = .ok (.if_icmp .ne 13, 3) := by decide +kernel
theorem d_o_look_16 : decode b_o_look 16 = .ok (.aload_n 0, 1) := by decide +kernel
theorem d_o_look_17 : decode b_o_look 17 = .ok (.getfield 30, 3) := by decide +kernel
theorem d_o_look_20 : decode b_o_look 20 = .ok (.getfield 78, 3) := by decide +kernel
theorem d_o_look_23 : decode b_o_look 23 = .ok (.goto 29, 3) := by decide +kernel
theorem d_o_look_26 : decode b_o_look 26 = .ok (.iload_n 1, 1) := by decide +kernel
theorem d_o_look_27 : decode b_o_look 27 = .ok (.iconst 2, 1) := by decide +kernel
theorem d_o_look_28 : decode b_o_look 28 = .ok (.if_icmp .ne 23, 3) := by decide +kernel
theorem d_o_look_31 : decode b_o_look 31 = .ok (.aload_n 0, 1) := by decide +kernel
theorem d_o_look_32 : decode b_o_look 32 = .ok (.getfield 34, 3) := by decide +kernel
theorem d_o_look_35 : decode b_o_look 35 = .ok (.ifCond .ne 7, 3) := by decide +kernel
theorem d_o_look_38 : decode b_o_look 38 = .ok (.iconst (-1), 1) := by decide +kernel
theorem d_o_look_39 : decode b_o_look 39 = .ok (.goto 13, 3) := by decide +kernel
theorem d_o_look_42 : decode b_o_look 42 = .ok (.aload_n 0, 1) := by decide +kernel
theorem d_o_look_43 : decode b_o_look 43 = .ok (.getfield 15, 3) := by decide +kernel
theorem d_o_look_46 : decode b_o_look 46 = .ok (.iconst 0, 1) := by decide +kernel
theorem d_o_look_47 : decode b_o_look 47 = .ok (.iaload, 1) := by decide +kernel
theorem d_o_look_48 : decode b_o_look 48 = .ok (.goto 4, 3) := by decide +kernel
theorem d_o_look_51 : decode b_o_look 51 = .ok (.iconst (-1), 1) := by decide +kernel
theorem d_o_look_52 : decode b_o_look 52 = .ok (.ireturn, 1) := by decide +kernel
theorem d_t_init_0 : decode b_t_init 0 = .ok (.aload_n 0, 1) := by decide +kernel
theorem d_t_init_1 : decode b_t_init 1 = .ok (.invokespecial 1, 3) := by decide +kernel
theorem d_t_init_4 : decode b_t_init 4 = .ok (.aload_n 0, 1) := by decide +kernel
theorem d_t_init_5 : decode b_t_init 5 = .ok (.iload_n 1, 1) := by decide +kernel
theorem d_t_init_6 : decode b_t_init 6 = .ok (.putfield 7, 3) := by decide +kernel
theorem d_t_init_9 : decode b_t_init 9 = .ok (.return_, 1) := by decide +kernel
end
section
/-! decode rows (by program): OrderLineModel -/
theorem d_m_init_0 : decode b_m_init 0 = .ok (.aload_n 0, 1) := by decide +kernel
theorem d_m_init_1 : decode b_m_init 1 = .ok (.invokespecial 1, 3) := by decide +kernel
theorem d_m_init_4 : decode b_m_init 4 = .ok (.aload_n 0, 1) := by decide +kernel
theorem d_m_init_5 : decode b_m_init 5 = .ok (.sipush 1000, 3) := by decide +kernel
theorem d_m_init_8 : decode b_m_init 8 = .ok (.newarray .int, 2) := by decide +kernel
theorem d_m_init_10 : decode b_m_init 10 = .ok (.putfield 7, 3) := by decide +kernel
theorem d_m_init_13 : decode b_m_init 13 = .ok (.aload_n 0, 1) := by decide +kernel
theorem d_m_init_14 : decode b_m_init 14 = .ok (.iconst 1, 1) := by decide +kernel
theorem d_m_init_15 : decode b_m_init 15 = .ok (.putfield 13, 3) := by decide +kernel
theorem d_m_init_18 : decode b_m_init 18 = .ok (.aload_n 0, 1) := by decide +kernel
theorem d_m_init_19 : decode b_m_init 19 = .ok (.sipush 1000, 3) := by decide +kernel
theorem d_m_init_22 : decode b_m_init 22 = .ok (.newarray .int, 2) := by decide +kernel
theorem d_m_init_24 : decode b_m_init 24 = .ok (.putfield 17, 3) := by decide +kernel
theorem d_m_init_27 : decode b_m_init 27 = .ok (.return_, 1) := by decide +kernel
theorem d_m_thrown_0 : decode b_m_thrown 0 = .ok (.aload_n 0, 1) := by decide +kernel
theorem d_m_thrown_1 : decode b_m_thrown 1 = .ok (.getfield 20, 3) := by decide +kernel
theorem d_m_thrown_4 : decode b_m_thrown 4 = .ok (.ireturn, 1) := by decide +kernel
theorem d_m_find_0 : decode b_m_find 0 = .ok (.iconst 0, 1) := by decide +kernel
theorem d_m_find_1 : decode b_m_find 1 = .ok (.istore_n 2, 1) := by decide +kernel
theorem d_m_find_2 : decode b_m_find 2 = .ok (.iload_n 2, 1) := by decide +kernel
theorem d_m_find_3 : decode b_m_find 3 = .ok (.aload_n 0, 1) := by decide +kernel
theorem d_m_find_4 : decode b_m_find 4 = .ok (.getfield 13, 3) := by decide +kernel
theorem d_m_find_7 : decode b_m_find 7 = .ok (.if_icmp .ge 21, 3) := by decide +kernel
theorem d_m_find_10 : decode b_m_find 10 = .ok (.aload_n 0, 1) := by decide +kernel
theorem d_m_find_11 : decode b_m_find 11 = .ok (.getfield 7, 3) := by decide +kernel
theorem d_m_find_14 : decode b_m_find 14 = .ok (.iload_n 2, 1) := by decide +kernel
theorem d_m_find_15 : decode b_m_find 15 = .ok (.iaload, 1) := by decide +kernel
theorem d_m_find_16 : decode b_m_find 16 = .ok (.iload_n 1, 1) := by decide +kernel
theorem d_m_find_17 : decode b_m_find 17 = .ok (.if_icmp .ne 5, 3) := by decide +kernel
theorem d_m_find_20 : decode b_m_find 20 = .ok (.iload_n 2, 1) := by decide +kernel
theorem d_m_find_21 : decode b_m_find 21 = .ok (.ireturn, 1) := by decide +kernel
theorem d_m_find_22 : decode b_m_find 22 = .ok (.iinc 2 1, 3) := by decide +kernel
theorem d_m_find_25 : decode b_m_find 25 = .ok (.goto (-23), 3) := by decide +kernel
theorem d_m_find_28 : decode b_m_find 28 = .ok (.iconst (-1), 1) := by decide +kernel
theorem d_m_find_29 : decode b_m_find 29 = .ok (.ireturn, 1) := by decide +kernel
theorem d_m_free_0 : decode b_m_free 0 = .ok (.iconst 0, 1) := by decide +kernel
theorem d_m_free_1 : decode b_m_free 1 = .ok (.istore_n 1, 1) := by decide +kernel
theorem d_m_free_2 : decode b_m_free 2 = .ok (.iload_n 1, 1) := by decide +kernel
theorem d_m_free_3 : decode b_m_free 3 = .ok (.sipush 1000, 3) := by decide +kernel
theorem d_m_free_6 : decode b_m_free 6 = .ok (.if_icmp .ge 17, 3) := by decide +kernel
theorem d_m_free_9 : decode b_m_free 9 = .ok (.aload_n 0, 1) := by decide +kernel
theorem d_m_free_10 : decode b_m_free 10 = .ok (.iload_n 1, 1) := by decide +kernel
theorem d_m_free_11 : decode b_m_free 11 = .ok (.invokevirtual 23, 3) := by decide +kernel
theorem d_m_free_14 : decode b_m_free 14 = .ok (.ifCond .lt 9, 3) := by decide +kernel
theorem d_m_free_17 : decode b_m_free 17 = .ok (.iinc 1 1, 3) := by decide +kernel
theorem d_m_free_20 : decode b_m_free 20 = .ok (.goto (-18), 3) := by decide +kernel
theorem d_m_free_23 : decode b_m_free 23 = .ok (.iload_n 1, 1) := by decide +kernel
theorem d_m_free_24 : decode b_m_free 24 = .ok (.sipush 1000, 3) := by decide +kernel
theorem d_m_free_27 : decode b_m_free 27 = .ok (.if_icmp .ge 7, 3) := by decide +kernel
theorem d_m_free_30 : decode b_m_free 30 = .ok (.iload_n 1, 1) := by decide +kernel
theorem d_m_free_31 : decode b_m_free 31 = .ok (.goto 4, 3) := by decide +kernel
theorem d_m_free_34 : decode b_m_free 34 = .ok (.iconst (-1), 1) := by decide +kernel
theorem d_m_free_35 : decode b_m_free 35 = .ok (.ireturn, 1) := by decide +kernel
theorem d_m_put_0 : decode b_m_put 0 = .ok (.aload_n 0, 1) := by decide +kernel
theorem d_m_put_1 : decode b_m_put 1 = .ok (.getfield 13, 3) := by decide +kernel
theorem d_m_put_4 : decode b_m_put 4 = .ok (.istore_n 3, 1) := by decide +kernel
theorem d_m_put_5 : decode b_m_put 5 = .ok (.iload_n 3, 1) := by decide +kernel
theorem d_m_put_6 : decode b_m_put 6 = .ok (.iload_n 2, 1) := by decide +kernel
theorem d_m_put_7 : decode b_m_put 7 = .ok (.if_icmp .le 23, 3) := by decide +kernel
theorem d_m_put_10 : decode b_m_put 10 = .ok (.aload_n 0, 1) := by decide +kernel
theorem d_m_put_11 : decode b_m_put 11 = .ok (.getfield 7, 3) := by decide +kernel
theorem d_m_put_14 : decode b_m_put 14 = .ok (.iload_n 3, 1) := by decide +kernel
theorem d_m_put_15 : decode b_m_put 15 = .ok (.aload_n 0, 1) := by decide +kernel
theorem d_m_put_16 : decode b_m_put 16 = .ok (.getfield 7, 3) := by decide +kernel
theorem d_m_put_19 : decode b_m_put 19 = .ok (.iload_n 3, 1) := by decide +kernel
theorem d_m_put_20 : decode b_m_put 20 = .ok (.iconst 1, 1) := by decide +kernel
theorem d_m_put_21 : decode b_m_put 21 = .ok (.isub, 1) := by decide +kernel
theorem d_m_put_22 : decode b_m_put 22 = .ok (.iaload, 1) := by decide +kernel
theorem d_m_put_23 : decode b_m_put 23 = .ok (.iastore, 1) := by decide +kernel
theorem d_m_put_24 : decode b_m_put 24 = .ok (.iinc 3 (-1), 3) := by decide +kernel
theorem d_m_put_27 : decode b_m_put 27 = .ok (.goto (-22), 3) := by decide +kernel
theorem d_m_put_30 : decode b_m_put 30 = .ok (.aload_n 0, 1) := by decide +kernel
theorem d_m_put_31 : decode b_m_put 31 = .ok (.getfield 7, 3) := by decide +kernel
theorem d_m_put_34 : decode b_m_put 34 = .ok (.iload_n 2, 1) := by decide +kernel
theorem d_m_put_35 : decode b_m_put 35 = .ok (.iload_n 1, 1) := by decide +kernel
theorem d_m_put_36 : decode b_m_put 36 = .ok (.iastore, 1) := by decide +kernel
theorem d_m_put_37 : decode b_m_put 37 = .ok (.aload_n 0, 1) := by decide +kernel
theorem d_m_put_38 : decode b_m_put 38 = .ok (.dup, 1) := by decide +kernel
theorem d_m_put_39 : decode b_m_put 39 = .ok (.getfield 13, 3) := by decide +kernel
theorem d_m_put_42 : decode b_m_put 42 = .ok (.iconst 1, 1) := by decide +kernel
theorem d_m_put_43 : decode b_m_put 43 = .ok (.iadd, 1) := by decide +kernel
theorem d_m_put_44 : decode b_m_put 44 = .ok (.putfield 13, 3) := by decide +kernel
theorem d_m_put_47 : decode b_m_put 47 = .ok (.return_, 1) := by decide +kernel
theorem d_m_drop_0 : decode b_m_drop 0 = .ok (.aload_n 0, 1) := by decide +kernel
theorem d_m_drop_1 : decode b_m_drop 1 = .ok (.dup, 1) := by decide +kernel
theorem d_m_drop_2 : decode b_m_drop 2 = .ok (.getfield 13, 3) := by decide +kernel
theorem d_m_drop_5 : decode b_m_drop 5 = .ok (.iconst 1, 1) := by decide +kernel
theorem d_m_drop_6 : decode b_m_drop 6 = .ok (.isub, 1) := by decide +kernel
theorem d_m_drop_7 : decode b_m_drop 7 = .ok (.putfield 13, 3) := by decide +kernel
theorem d_m_drop_10 : decode b_m_drop 10 = .ok (.iload_n 1, 1) := by decide +kernel
theorem d_m_drop_11 : decode b_m_drop 11 = .ok (.istore_n 2, 1) := by decide +kernel
theorem d_m_drop_12 : decode b_m_drop 12 = .ok (.iload_n 2, 1) := by decide +kernel
theorem d_m_drop_13 : decode b_m_drop 13 = .ok (.aload_n 0, 1) := by decide +kernel
theorem d_m_drop_14 : decode b_m_drop 14 = .ok (.getfield 13, 3) := by decide +kernel
theorem d_m_drop_17 : decode b_m_drop 17 = .ok (.if_icmp .ge 23, 3) := by decide +kernel
theorem d_m_drop_20 : decode b_m_drop 20 = .ok (.aload_n 0, 1) := by decide +kernel
theorem d_m_drop_21 : decode b_m_drop 21 = .ok (.getfield 7, 3) := by decide +kernel
theorem d_m_drop_24 : decode b_m_drop 24 = .ok (.iload_n 2, 1) := by decide +kernel
theorem d_m_drop_25 : decode b_m_drop 25 = .ok (.aload_n 0, 1) := by decide +kernel
theorem d_m_drop_26 : decode b_m_drop 26 = .ok (.getfield 7, 3) := by decide +kernel
theorem d_m_drop_29 : decode b_m_drop 29 = .ok (.iload_n 2, 1) := by decide +kernel
theorem d_m_drop_30 : decode b_m_drop 30 = .ok (.iconst 1, 1) := by decide +kernel
theorem d_m_drop_31 : decode b_m_drop 31 = .ok (.iadd, 1) := by decide +kernel
theorem d_m_drop_32 : decode b_m_drop 32 = .ok (.iaload, 1) := by decide +kernel
theorem d_m_drop_33 : decode b_m_drop 33 = .ok (.iastore, 1) := by decide +kernel
theorem d_m_drop_34 : decode b_m_drop 34 = .ok (.iinc 2 1, 3) := by decide +kernel
theorem d_m_drop_37 : decode b_m_drop 37 = .ok (.goto (-25), 3) := by decide +kernel
theorem d_m_drop_40 : decode b_m_drop 40 = .ok (.return_, 1) := by decide +kernel
theorem d_m_lacks_0 : decode b_m_lacks 0 = .ok (.aload_n 0, 1) := by decide +kernel
theorem d_m_lacks_1 : decode b_m_lacks 1 = .ok (.aload_n 0, 1) := by decide +kernel
theorem d_m_lacks_2 : decode b_m_lacks 2 = .ok (.iload_n 1, 1) := by decide +kernel
theorem d_m_lacks_3 : decode b_m_lacks 3 = .ok (.invokevirtual 23, 3) := by decide +kernel
theorem d_m_lacks_6 : decode b_m_lacks 6 = .ok (.ifCond .lt 23, 3) := by decide +kernel
theorem d_m_lacks_9 : decode b_m_lacks 9 = .ok (.aload_n 0, 1) := by decide +kernel
theorem d_m_lacks_10 : decode b_m_lacks 10 = .ok (.iload_n 2, 1) := by decide +kernel
theorem d_m_lacks_11 : decode b_m_lacks 11 = .ok (.invokevirtual 23, 3) := by decide +kernel
theorem d_m_lacks_14 : decode b_m_lacks 14 = .ok (.ifCond .lt 15, 3) := by decide +kernel
theorem d_m_lacks_17 : decode b_m_lacks 17 = .ok (.aload_n 0, 1) := by decide +kernel
theorem d_m_lacks_18 : decode b_m_lacks 18 = .ok (.iload_n 3, 1) := by decide +kernel
theorem d_m_lacks_19 : decode b_m_lacks 19 = .ok (.invokevirtual 23, 3) := by decide +kernel
theorem d_m_lacks_22 : decode b_m_lacks 22 = .ok (.ifCond .lt 7, 3) := by decide +kernel
theorem d_m_lacks_25 : decode b_m_lacks 25 = .ok (.iconst 0, 1) := by decide +kernel
theorem d_m_lacks_26 : decode b_m_lacks 26 = .ok (.goto 4, 3) := by decide +kernel
theorem d_m_lacks_29 : decode b_m_lacks 29 = .ok (.iconst 1, 1) := by decide +kernel
theorem d_m_lacks_30 : decode b_m_lacks 30 = .ok (.putfield 20, 3) := by decide +kernel
theorem d_m_lacks_33 : decode b_m_lacks 33 = .ok (.aload_n 0, 1) := by decide +kernel
theorem d_m_lacks_34 : decode b_m_lacks 34 = .ok (.getfield 20, 3) := by decide +kernel
theorem d_m_lacks_37 : decode b_m_lacks 37 = .ok (.ifCond .le 7, 3) := by decide +kernel
theorem d_m_lacks_40 : decode b_m_lacks 40 = .ok (.iconst 1, 1) := by decide +kernel
theorem d_m_lacks_41 : decode b_m_lacks 41 = .ok (.goto 4, 3) := by decide +kernel
theorem d_m_lacks_44 : decode b_m_lacks 44 = .ok (.iconst 0, 1) := by decide +kernel
theorem d_m_lacks_45 : decode b_m_lacks 45 = .ok (.ireturn, 1) := by decide +kernel
theorem d_m_behind_0 : decode b_m_behind 0 = .ok (.aload_n 0, 1) := by decide +kernel
theorem d_m_behind_1 : decode b_m_behind 1 = .ok (.iload_n 1, 1) := by decide +kernel
theorem d_m_behind_2 : decode b_m_behind 2 = .ok (.iconst 0, 1) := by decide +kernel
theorem d_m_behind_3 : decode b_m_behind 3 = .ok (.iconst 0, 1) := by decide +kernel
theorem d_m_behind_4 : decode b_m_behind 4 = .ok (.invokevirtual 27, 3) := by decide +kernel
theorem d_m_behind_7 : decode b_m_behind 7 = .ok (.ifCond .eq 5, 3) := by decide +kernel
theorem d_m_behind_10 : decode b_m_behind 10 = .ok (.iconst 0, 1) := by decide +kernel
theorem d_m_behind_11 : decode b_m_behind 11 = .ok (.ireturn, 1) := by decide +kernel
theorem d_m_behind_12 : decode b_m_behind 12 = .ok (.aload_n 0, 1) := by decide +kernel
theorem d_m_behind_13 : decode b_m_behind 13 = .ok (.invokevirtual 31, 3) := by decide +kernel
theorem d_m_behind_16 : decode b_m_behind 16 = .ok (.istore_n 2, 1) := by decide +kernel
theorem d_m_behind_17 : decode b_m_behind 17 = .ok (.iload_n 2, 1) := by decide +kernel
theorem d_m_behind_18 : decode b_m_behind 18 = .ok (.ifCond .lt 15, 3) := by decide +kernel
theorem d_m_behind_21 : decode b_m_behind 21 = .ok (.aload_n 0, 1) := by decide +kernel
theorem d_m_behind_22 : decode b_m_behind 22 = .ok (.iload_n 2, 1) := by decide +kernel
theorem d_m_behind_23 : decode b_m_behind 23 = .ok (.aload_n 0, 1) := by decide +kernel
theorem d_m_behind_24 : decode b_m_behind 24 = .ok (.iload_n 1, 1) := by decide +kernel
theorem d_m_behind_25 : decode b_m_behind 25 = .ok (.invokevirtual 23, 3) := by decide +kernel
theorem d_m_behind_28 : decode b_m_behind 28 = .ok (.iconst 1, 1) := by decide +kernel
theorem d_m_behind_29 : decode b_m_behind 29 = .ok (.iadd, 1) := by decide +kernel
theorem d_m_behind_30 : decode b_m_behind 30 = .ok (.invokevirtual 35, 3) := by decide +kernel
theorem d_m_behind_33 : decode b_m_behind 33 = .ok (.iload_n 2, 1) := by decide +kernel
theorem d_m_behind_34 : decode b_m_behind 34 = .ok (.ireturn, 1) := by decide +kernel
theorem d_m_several_0 : decode b_m_several 0 = .ok (.aload_n 0, 1) := by decide +kernel
theorem d_m_several_1 : decode b_m_several 1 = .ok (.iload_n 1, 1) := by decide +kernel
theorem d_m_several_2 : decode b_m_several 2 = .ok (.iconst 0, 1) := by decide +kernel
theorem d_m_several_3 : decode b_m_several 3 = .ok (.iconst 0, 1) := by decide +kernel
theorem d_m_several_4 : decode b_m_several 4 = .ok (.invokevirtual 27, 3) := by decide +kernel
theorem d_m_several_7 : decode b_m_several 7 = .ok (.ifCond .eq 5, 3) := by decide +kernel
theorem d_m_several_10 : decode b_m_several 10 = .ok (.iconst 0, 1) := by decide +kernel
theorem d_m_several_11 : decode b_m_several 11 = .ok (.ireturn, 1) := by decide +kernel
theorem d_m_several_12 : decode b_m_several 12 = .ok (.iload_n 2, 1) := by decide +kernel
theorem d_m_several_13 : decode b_m_several 13 = .ok (.iconst 2, 1) := by decide +kernel
theorem d_m_several_14 : decode b_m_several 14 = .ok (.if_icmp .lt 21, 3) := by decide +kernel
theorem d_m_several_17 : decode b_m_several 17 = .ok (.iload_n 2, 1) := by decide +kernel
theorem d_m_several_18 : decode b_m_several 18 = .ok (.bipush 64, 2) := by decide +kernel
theorem d_m_several_20 : decode b_m_several 20 = .ok (.if_icmp .gt 15, 3) := by decide +kernel
theorem d_m_several_23 : decode b_m_several 23 = .ok (.aload_n 0, 1) := by decide +kernel
theorem d_m_several_24 : decode b_m_several 24 = .ok (.getfield 13, 3) := by decide +kernel
theorem d_m_several_27 : decode b_m_several 27 = .ok (.iload_n 2, 1) := by decide +kernel
theorem d_m_several_28 : decode b_m_several 28 = .ok (.iadd, 1) := by decide +kernel
theorem d_m_several_29 : decode b_m_several 29 = .ok (.sipush 1000, 3) := by decide +kernel
theorem d_m_several_32 : decode b_m_several 32 = .ok (.if_icmp .le 5, 3) := by decide +kernel
theorem d_m_several_35 : decode b_m_several 35 = .ok (.iconst (-1), 1) := by decide +kernel
theorem d_m_several_36 : decode b_m_several 36 = .ok (.ireturn, 1) := by decide +kernel
theorem d_m_several_37 : decode b_m_several 37 = .ok (.aload_n 0, 1) := by decide +kernel
theorem d_m_several_38 : decode b_m_several 38 = .ok (.invokevirtual 31, 3) := by decide +kernel
theorem d_m_several_41 : decode b_m_several 41 = .ok (.istore_n 3, 1) := by decide +kernel
theorem d_m_several_42 : decode b_m_several 42 = .ok (.aload_n 0, 1) := by decide +kernel
theorem d_m_several_43 : decode b_m_several 43 = .ok (.iload_n 1, 1) := by decide +kernel
theorem d_m_several_44 : decode b_m_several 44 = .ok (.invokevirtual 23, 3) := by decide +kernel
theorem d_m_several_47 : decode b_m_several 47 = .ok (.iconst 1, 1) := by decide +kernel
theorem d_m_several_48 : decode b_m_several 48 = .ok (.iadd, 1) := by decide +kernel
theorem d_m_several_49 : decode b_m_several 49 = .ok (.istore 4, 2) := by decide +kernel
theorem d_m_several_51 : decode b_m_several 51 = .ok (.iconst 0, 1) := by decide +kernel
theorem d_m_several_52 : decode b_m_several 52 = .ok (.istore 5, 2) := by decide +kernel
theorem d_m_several_54 : decode b_m_several 54 = .ok (.iload 5, 2) := by decide +kernel
theorem d_m_several_56 : decode b_m_several 56 = .ok (.iload_n 2, 1) := by decide +kernel
theorem d_m_several_57 : decode b_m_several 57 = .ok (.if_icmp .ge 22, 3) := by decide +kernel
theorem d_m_several_60 : decode b_m_several 60 = .ok (.aload_n 0, 1) := by decide +kernel
theorem d_m_several_61 : decode b_m_several 61 = .ok (.aload_n 0, 1) := by decide +kernel
theorem d_m_several_62 : decode b_m_several 62 = .ok (.invokevirtual 31, 3) := by decide +kernel
theorem d_m_several_65 : decode b_m_several 65 = .ok (.iload 4, 2) := by decide +kernel
theorem d_m_several_67 : decode b_m_several 67 = .ok (.iload 5, 2) := by decide +kernel
theorem d_m_several_69 : decode b_m_several 69 = .ok (.iadd, 1) := by decide +kernel
theorem d_m_several_70 : decode b_m_several 70 = .ok (.invokevirtual 35, 3) := by decide +kernel
theorem d_m_several_73 : decode b_m_several 73 = .ok (.iinc 5 1, 3) := by decide +kernel
theorem d_m_several_76 : decode b_m_several 76 = .ok (.goto (-22), 3) := by decide +kernel
theorem d_m_several_79 : decode b_m_several 79 = .ok (.iload_n 3, 1) := by decide +kernel
theorem d_m_several_80 : decode b_m_several 80 = .ok (.ireturn, 1) := by decide +kernel
theorem d_m_remove_0 : decode b_m_remove 0 = .ok (.aload_n 0, 1) := by decide +kernel
theorem d_m_remove_1 : decode b_m_remove 1 = .ok (.iconst 0, 1) := by decide +kernel
theorem d_m_remove_2 : decode b_m_remove 2 = .ok (.putfield 20, 3) := by decide +kernel
theorem d_m_remove_5 : decode b_m_remove 5 = .ok (.aload_n 0, 1) := by decide +kernel
theorem d_m_remove_6 : decode b_m_remove 6 = .ok (.iload_n 1, 1) := by decide +kernel
theorem d_m_remove_7 : decode b_m_remove 7 = .ok (.invokevirtual 23, 3) := by decide +kernel
theorem d_m_remove_10 : decode b_m_remove 10 = .ok (.istore_n 2, 1) := by decide +kernel
theorem d_m_remove_11 : decode b_m_remove 11 = .ok (.iload_n 2, 1) := by decide +kernel
theorem d_m_remove_12 : decode b_m_remove 12 = .ok (.iconst 1, 1) := by decide +kernel
theorem d_m_remove_13 : decode b_m_remove 13 = .ok (.if_icmp .ge 5, 3) := by decide +kernel
theorem d_m_remove_16 : decode b_m_remove 16 = .ok (.iconst 0, 1) := by decide +kernel
theorem d_m_remove_17 : decode b_m_remove 17 = .ok (.ireturn, 1) := by decide +kernel
theorem d_m_remove_18 : decode b_m_remove 18 = .ok (.aload_n 0, 1) := by decide +kernel
theorem d_m_remove_19 : decode b_m_remove 19 = .ok (.iload_n 2, 1) := by decide +kernel
theorem d_m_remove_20 : decode b_m_remove 20 = .ok (.invokevirtual 39, 3) := by decide +kernel
theorem d_m_remove_23 : decode b_m_remove 23 = .ok (.iconst 1, 1) := by decide +kernel
theorem d_m_remove_24 : decode b_m_remove 24 = .ok (.ireturn, 1) := by decide +kernel
theorem d_m_clear_0 : decode b_m_clear 0 = .ok (.aload_n 0, 1) := by decide +kernel
theorem d_m_clear_1 : decode b_m_clear 1 = .ok (.iload_n 1, 1) := by decide +kernel
theorem d_m_clear_2 : decode b_m_clear 2 = .ok (.iload_n 2, 1) := by decide +kernel
theorem d_m_clear_3 : decode b_m_clear 3 = .ok (.iconst 0, 1) := by decide +kernel
theorem d_m_clear_4 : decode b_m_clear 4 = .ok (.invokevirtual 27, 3) := by decide +kernel
theorem d_m_clear_7 : decode b_m_clear 7 = .ok (.ifCond .eq 5, 3) := by decide +kernel
theorem d_m_clear_10 : decode b_m_clear 10 = .ok (.iconst 0, 1) := by decide +kernel
theorem d_m_clear_11 : decode b_m_clear 11 = .ok (.ireturn, 1) := by decide +kernel
theorem d_m_clear_12 : decode b_m_clear 12 = .ok (.iconst 0, 1) := by decide +kernel
theorem d_m_clear_13 : decode b_m_clear 13 = .ok (.istore_n 3, 1) := by decide +kernel
theorem d_m_clear_14 : decode b_m_clear 14 = .ok (.aload_n 0, 1) := by decide +kernel
theorem d_m_clear_15 : decode b_m_clear 15 = .ok (.iload_n 1, 1) := by decide +kernel
theorem d_m_clear_16 : decode b_m_clear 16 = .ok (.invokevirtual 23, 3) := by decide +kernel
theorem d_m_clear_19 : decode b_m_clear 19 = .ok (.iconst 1, 1) := by decide +kernel
theorem d_m_clear_20 : decode b_m_clear 20 = .ok (.iadd, 1) := by decide +kernel
theorem d_m_clear_21 : decode b_m_clear 21 = .ok (.aload_n 0, 1) := by decide +kernel
theorem d_m_clear_22 : decode b_m_clear 22 = .ok (.iload_n 2, 1) := by decide +kernel
theorem d_m_clear_23 : decode b_m_clear 23 = .ok (.invokevirtual 23, 3) := by decide +kernel
theorem d_m_clear_26 : decode b_m_clear 26 = .ok (.if_icmp .ge 20, 3) := by decide +kernel
theorem d_m_clear_29 : decode b_m_clear 29 = .ok (.aload_n 0, 1) := by decide +kernel
theorem d_m_clear_30 : decode b_m_clear 30 = .ok (.aload_n 0, 1) := by decide +kernel
theorem d_m_clear_31 : decode b_m_clear 31 = .ok (.iload_n 1, 1) := by decide +kernel
theorem d_m_clear_32 : decode b_m_clear 32 = .ok (.invokevirtual 23, 3) := by decide +kernel
theorem d_m_clear_35 : decode b_m_clear 35 = .ok (.iconst 1, 1) := by decide +kernel
theorem d_m_clear_36 : decode b_m_clear 36 = .ok (.iadd, 1) := by decide +kernel
theorem d_m_clear_37 : decode b_m_clear 37 = .ok (.invokevirtual 39, 3) := by decide +kernel
theorem d_m_clear_40 : decode b_m_clear 40 = .ok (.iinc 3 1, 3) := by decide +kernel
theorem d_m_clear_43 : decode b_m_clear 43 = .ok (.goto (-29), 3) := by decide +kernel
theorem d_m_clear_46 : decode b_m_clear 46 = .ok (.iload_n 3, 1) := by decide +kernel
theorem d_m_clear_47 : decode b_m_clear 47 = .ok (.ireturn, 1) := by decide +kernel
theorem d_m_carry_0 : decode b_m_carry 0 = .ok (.aload_n 0, 1) := by decide +kernel
theorem d_m_carry_1 : decode b_m_carry 1 = .ok (.iload_n 1, 1) := by decide +kernel
theorem d_m_carry_2 : decode b_m_carry 2 = .ok (.iload_n 2, 1) := by decide +kernel
theorem d_m_carry_3 : decode b_m_carry 3 = .ok (.iload_n 3, 1) := by decide +kernel
theorem d_m_carry_4 : decode b_m_carry 4 = .ok (.invokevirtual 27, 3) := by decide +kernel
theorem d_m_carry_7 : decode b_m_carry 7 = .ok (.ifCond .eq 5, 3) := by decide +kernel
theorem d_m_carry_10 : decode b_m_carry 10 = .ok (.iconst 0, 1) := by decide +kernel
theorem d_m_carry_11 : decode b_m_carry 11 = .ok (.ireturn, 1) := by decide +kernel
theorem d_m_carry_12 : decode b_m_carry 12 = .ok (.aload_n 0, 1) := by decide +kernel
theorem d_m_carry_13 : decode b_m_carry 13 = .ok (.iload_n 1, 1) := by decide +kernel
theorem d_m_carry_14 : decode b_m_carry 14 = .ok (.invokevirtual 23, 3) := by decide +kernel
theorem d_m_carry_17 : decode b_m_carry 17 = .ok (.istore 4, 2) := by decide +kernel
theorem d_m_carry_19 : decode b_m_carry 19 = .ok (.aload_n 0, 1) := by decide +kernel
theorem d_m_carry_20 : decode b_m_carry 20 = .ok (.iload_n 2, 1) := by decide +kernel
theorem d_m_carry_21 : decode b_m_carry 21 = .ok (.invokevirtual 23, 3) := by decide +kernel
theorem d_m_carry_24 : decode b_m_carry 24 = .ok (.istore 5, 2) := by decide +kernel
theorem d_m_carry_26 : decode b_m_carry 26 = .ok (.aload_n 0, 1) := by decide +kernel
theorem d_m_carry_27 : decode b_m_carry 27 = .ok (.iload_n 3, 1) := by decide +kernel
theorem d_m_carry_28 : decode b_m_carry 28 = .ok (.invokevirtual 23, 3) := by decide +kernel
theorem d_m_carry_31 : decode b_m_carry 31 = .ok (.istore 6, 2) := by decide +kernel
theorem d_m_carry_33 : decode b_m_carry 33 = .ok (.iload 4, 2) := by decide +kernel
theorem d_m_carry_35 : decode b_m_carry 35 = .ok (.iload 5, 2) := by decide +kernel
theorem d_m_carry_37 : decode b_m_carry 37 = .ok (.if_icmp .ge 17, 3) := by decide +kernel
theorem d_m_carry_40 : decode b_m_carry 40 = .ok (.iload 6, 2) := by decide +kernel
theorem d_m_carry_42 : decode b_m_carry 42 = .ok (.iload 4, 2) := by decide +kernel
theorem d_m_carry_44 : decode b_m_carry 44 = .ok (.if_icmp .le 12, 3) := by decide +kernel
theorem d_m_carry_47 : decode b_m_carry 47 = .ok (.iload 6, 2) := by decide +kernel
theorem d_m_carry_49 : decode b_m_carry 49 = .ok (.iload 5, 2) := by decide +kernel
theorem d_m_carry_51 : decode b_m_carry 51 = .ok (.if_icmp .ge 5, 3) := by decide +kernel
theorem d_m_carry_54 : decode b_m_carry 54 = .ok (.iconst (-1), 1) := by decide +kernel
theorem d_m_carry_55 : decode b_m_carry 55 = .ok (.ireturn, 1) := by decide +kernel
theorem d_m_carry_56 : decode b_m_carry 56 = .ok (.iload 5, 2) := by decide +kernel
theorem d_m_carry_58 : decode b_m_carry 58 = .ok (.iload 4, 2) := by decide +kernel
theorem d_m_carry_60 : decode b_m_carry 60 = .ok (.isub, 1) := by decide +kernel
theorem d_m_carry_61 : decode b_m_carry 61 = .ok (.iconst 1, 1) := by decide +kernel
theorem d_m_carry_62 : decode b_m_carry 62 = .ok (.isub, 1) := by decide +kernel
theorem d_m_carry_63 : decode b_m_carry 63 = .ok (.istore 7, 2) := by decide +kernel
theorem d_m_carry_65 : decode b_m_carry 65 = .ok (.iconst 0, 1) := by decide +kernel
theorem d_m_carry_66 : decode b_m_carry 66 = .ok (.istore 8, 2) := by decide +kernel
theorem d_m_carry_68 : decode b_m_carry 68 = .ok (.iload 8, 2) := by decide +kernel
theorem d_m_carry_70 : decode b_m_carry 70 = .ok (.iload 7, 2) := by decide +kernel
theorem d_m_carry_72 : decode b_m_carry 72 = .ok (.if_icmp .ge 33, 3) := by decide +kernel
theorem d_m_carry_75 : decode b_m_carry 75 = .ok (.aload_n 0, 1) := by decide +kernel
theorem d_m_carry_76 : decode b_m_carry 76 = .ok (.getfield 17, 3) := by decide +kernel
theorem d_m_carry_79 : decode b_m_carry 79 = .ok (.iload 8, 2) := by decide +kernel
theorem d_m_carry_81 : decode b_m_carry 81 = .ok (.aload_n 0, 1) := by decide +kernel
theorem d_m_carry_82 : decode b_m_carry 82 = .ok (.getfield 7, 3) := by decide +kernel
theorem d_m_carry_85 : decode b_m_carry 85 = .ok (.iload 4, 2) := by decide +kernel
theorem d_m_carry_87 : decode b_m_carry 87 = .ok (.iconst 1, 1) := by decide +kernel
theorem d_m_carry_88 : decode b_m_carry 88 = .ok (.iadd, 1) := by decide +kernel
theorem d_m_carry_89 : decode b_m_carry 89 = .ok (.iaload, 1) := by decide +kernel
theorem d_m_carry_90 : decode b_m_carry 90 = .ok (.iastore, 1) := by decide +kernel
theorem d_m_carry_91 : decode b_m_carry 91 = .ok (.aload_n 0, 1) := by decide +kernel
theorem d_m_carry_92 : decode b_m_carry 92 = .ok (.iload 4, 2) := by decide +kernel
theorem d_m_carry_94 : decode b_m_carry 94 = .ok (.iconst 1, 1) := by decide +kernel
theorem d_m_carry_95 : decode b_m_carry 95 = .ok (.iadd, 1) := by decide +kernel
theorem d_m_carry_96 : decode b_m_carry 96 = .ok (.invokevirtual 39, 3) := by decide +kernel
theorem d_m_carry_99 : decode b_m_carry 99 = .ok (.iinc 8 1, 3) := by decide +kernel
theorem d_m_carry_102 : decode b_m_carry 102 = .ok (.goto (-34), 3) := by decide +kernel
theorem d_m_carry_105 : decode b_m_carry 105 = .ok (.iconst 0, 1) := by decide +kernel
theorem d_m_carry_106 : decode b_m_carry 106 = .ok (.istore 8, 2) := by decide +kernel
theorem d_m_carry_108 : decode b_m_carry 108 = .ok (.iload 8, 2) := by decide +kernel
theorem d_m_carry_110 : decode b_m_carry 110 = .ok (.iload 7, 2) := by decide +kernel
theorem d_m_carry_112 : decode b_m_carry 112 = .ok (.if_icmp .ge 30, 3) := by decide +kernel
theorem d_m_carry_115 : decode b_m_carry 115 = .ok (.aload_n 0, 1) := by decide +kernel
theorem d_m_carry_116 : decode b_m_carry 116 = .ok (.aload_n 0, 1) := by decide +kernel
theorem d_m_carry_117 : decode b_m_carry 117 = .ok (.getfield 17, 3) := by decide +kernel
theorem d_m_carry_120 : decode b_m_carry 120 = .ok (.iload 8, 2) := by decide +kernel
theorem d_m_carry_122 : decode b_m_carry 122 = .ok (.iaload, 1) := by decide +kernel
theorem d_m_carry_123 : decode b_m_carry 123 = .ok (.aload_n 0, 1) := by decide +kernel
theorem d_m_carry_124 : decode b_m_carry 124 = .ok (.iload_n 3, 1) := by decide +kernel
theorem d_m_carry_125 : decode b_m_carry 125 = .ok (.invokevirtual 23, 3) := by decide +kernel
theorem d_m_carry_128 : decode b_m_carry 128 = .ok (.iconst 1, 1) := by decide +kernel
theorem d_m_carry_129 : decode b_m_carry 129 = .ok (.iadd, 1) := by decide +kernel
theorem d_m_carry_130 : decode b_m_carry 130 = .ok (.iload 8, 2) := by decide +kernel
theorem d_m_carry_132 : decode b_m_carry 132 = .ok (.iadd, 1) := by decide +kernel
theorem d_m_carry_133 : decode b_m_carry 133 = .ok (.invokevirtual 35, 3) := by decide +kernel
theorem d_m_carry_136 : decode b_m_carry 136 = .ok (.iinc 8 1, 3) := by decide +kernel
theorem d_m_carry_139 : decode b_m_carry 139 = .ok (.goto (-31), 3) := by decide +kernel
theorem d_m_carry_142 : decode b_m_carry 142 = .ok (.iload 7, 2) := by decide +kernel
theorem d_m_carry_144 : decode b_m_carry 144 = .ok (.ireturn, 1) := by decide +kernel
theorem d_m_compare_0 : decode b_m_compare 0 = .ok (.aload_n 0, 1) := by decide +kernel
theorem d_m_compare_1 : decode b_m_compare 1 = .ok (.iload_n 1, 1) := by decide +kernel
theorem d_m_compare_2 : decode b_m_compare 2 = .ok (.iload_n 2, 1) := by decide +kernel
theorem d_m_compare_3 : decode b_m_compare 3 = .ok (.iconst 0, 1) := by decide +kernel
theorem d_m_compare_4 : decode b_m_compare 4 = .ok (.invokevirtual 27, 3) := by decide +kernel
theorem d_m_compare_7 : decode b_m_compare 7 = .ok (.ifCond .eq 5, 3) := by decide +kernel
theorem d_m_compare_10 : decode b_m_compare 10 = .ok (.iconst 0, 1) := by decide +kernel
theorem d_m_compare_11 : decode b_m_compare 11 = .ok (.ireturn, 1) := by decide +kernel
theorem d_m_compare_12 : decode b_m_compare 12 = .ok (.aload_n 0, 1) := by decide +kernel
theorem d_m_compare_13 : decode b_m_compare 13 = .ok (.iload_n 1, 1) := by decide +kernel
theorem d_m_compare_14 : decode b_m_compare 14 = .ok (.invokevirtual 23, 3) := by decide +kernel
theorem d_m_compare_17 : decode b_m_compare 17 = .ok (.istore_n 3, 1) := by decide +kernel
theorem d_m_compare_18 : decode b_m_compare 18 = .ok (.aload_n 0, 1) := by decide +kernel
theorem d_m_compare_19 : decode b_m_compare 19 = .ok (.iload_n 2, 1) := by decide +kernel
theorem d_m_compare_20 : decode b_m_compare 20 = .ok (.invokevirtual 23, 3) := by decide +kernel
theorem d_m_compare_23 : decode b_m_compare 23 = .ok (.istore 4, 2) := by decide +kernel
theorem d_m_compare_25 : decode b_m_compare 25 = .ok (.iload_n 3, 1) := by decide +kernel
theorem d_m_compare_26 : decode b_m_compare 26 = .ok (.iload 4, 2) := by decide +kernel
theorem d_m_compare_28 : decode b_m_compare 28 = .ok (.if_icmp .ge 7, 3) := by decide +kernel
theorem d_m_compare_31 : decode b_m_compare 31 = .ok (.iconst (-1), 1) := by decide +kernel
theorem d_m_compare_32 : decode b_m_compare 32 = .ok (.goto 14, 3) := by decide +kernel
theorem d_m_compare_35 : decode b_m_compare 35 = .ok (.iload_n 3, 1) := by decide +kernel
theorem d_m_compare_36 : decode b_m_compare 36 = .ok (.iload 4, 2) := by decide +kernel
theorem d_m_compare_38 : decode b_m_compare 38 = .ok (.if_icmp .le 7, 3) := by decide +kernel
theorem d_m_compare_41 : decode b_m_compare 41 = .ok (.iconst 1, 1) := by decide +kernel
theorem d_m_compare_42 : decode b_m_compare 42 = .ok (.goto 4, 3) := by decide +kernel
theorem d_m_compare_45 : decode b_m_compare 45 = .ok (.iconst 0, 1) := by decide +kernel
theorem d_m_compare_46 : decode b_m_compare 46 = .ok (.ireturn, 1) := by decide +kernel
theorem d_m_next_0 : decode b_m_next 0 = .ok (.aload_n 0, 1) := by decide +kernel
theorem d_m_next_1 : decode b_m_next 1 = .ok (.iload_n 1, 1) := by decide +kernel
theorem d_m_next_2 : decode b_m_next 2 = .ok (.iconst 0, 1) := by decide +kernel
theorem d_m_next_3 : decode b_m_next 3 = .ok (.iconst 0, 1) := by decide +kernel
theorem d_m_next_4 : decode b_m_next 4 = .ok (.invokevirtual 27, 3) := by decide +kernel
theorem d_m_next_7 : decode b_m_next 7 = .ok (.ifCond .eq 5, 3) := by decide +kernel
theorem d_m_next_10 : decode b_m_next 10 = .ok (.iconst 0, 1) := by decide +kernel
theorem d_m_next_11 : decode b_m_next 11 = .ok (.ireturn, 1) := by decide +kernel
theorem d_m_next_12 : decode b_m_next 12 = .ok (.aload_n 0, 1) := by decide +kernel
theorem d_m_next_13 : decode b_m_next 13 = .ok (.iload_n 1, 1) := by decide +kernel
theorem d_m_next_14 : decode b_m_next 14 = .ok (.invokevirtual 23, 3) := by decide +kernel
theorem d_m_next_17 : decode b_m_next 17 = .ok (.iload_n 2, 1) := by decide +kernel
theorem d_m_next_18 : decode b_m_next 18 = .ok (.ifCond .eq 7, 3) := by decide +kernel
theorem d_m_next_21 : decode b_m_next 21 = .ok (.iconst 1, 1) := by decide +kernel
theorem d_m_next_22 : decode b_m_next 22 = .ok (.goto 4, 3) := by decide +kernel
theorem d_m_next_25 : decode b_m_next 25 = .ok (.iconst (-1), 1) := by decide +kernel
theorem d_m_next_26 : decode b_m_next 26 = .ok (.iadd, 1) := by decide +kernel
theorem d_m_next_27 : decode b_m_next 27 = .ok (.istore_n 3, 1) := by decide +kernel
theorem d_m_next_28 : decode b_m_next 28 = .ok (.iload_n 3, 1) := by decide +kernel
theorem d_m_next_29 : decode b_m_next 29 = .ok (.ifCond .lt 11, 3) := by decide +kernel
theorem d_m_next_32 : decode b_m_next 32 = .ok (.iload_n 3, 1) := by decide +kernel
theorem d_m_next_33 : decode b_m_next 33 = .ok (.aload_n 0, 1) := by decide +kernel
theorem d_m_next_34 : decode b_m_next 34 = .ok (.getfield 13, 3) := by decide +kernel
theorem d_m_next_37 : decode b_m_next 37 = .ok (.if_icmp .lt 7, 3) := by decide +kernel
theorem d_m_next_40 : decode b_m_next 40 = .ok (.iconst (-1), 1) := by decide +kernel
theorem d_m_next_41 : decode b_m_next 41 = .ok (.goto 9, 3) := by decide +kernel
theorem d_m_next_44 : decode b_m_next 44 = .ok (.aload_n 0, 1) := by decide +kernel
theorem d_m_next_45 : decode b_m_next 45 = .ok (.getfield 7, 3) := by decide +kernel
theorem d_m_next_48 : decode b_m_next 48 = .ok (.iload_n 3, 1) := by decide +kernel
theorem d_m_next_49 : decode b_m_next 49 = .ok (.iaload, 1) := by decide +kernel
theorem d_m_next_50 : decode b_m_next 50 = .ok (.ireturn, 1) := by decide +kernel
theorem d_m_has_0 : decode b_m_has 0 = .ok (.aload_n 0, 1) := by decide +kernel
theorem d_m_has_1 : decode b_m_has 1 = .ok (.iconst 0, 1) := by decide +kernel
theorem d_m_has_2 : decode b_m_has 2 = .ok (.putfield 20, 3) := by decide +kernel
theorem d_m_has_5 : decode b_m_has 5 = .ok (.aload_n 0, 1) := by decide +kernel
theorem d_m_has_6 : decode b_m_has 6 = .ok (.iload_n 1, 1) := by decide +kernel
theorem d_m_has_7 : decode b_m_has 7 = .ok (.invokevirtual 23, 3) := by decide +kernel
theorem d_m_has_10 : decode b_m_has 10 = .ok (.ifCond .lt 7, 3) := by decide +kernel
theorem d_m_has_13 : decode b_m_has 13 = .ok (.iconst 1, 1) := by decide +kernel
theorem d_m_has_14 : decode b_m_has 14 = .ok (.goto 4, 3) := by decide +kernel
theorem d_m_has_17 : decode b_m_has 17 = .ok (.iconst 0, 1) := by decide +kernel
theorem d_m_has_18 : decode b_m_has 18 = .ok (.ireturn, 1) := by decide +kernel
theorem d_m_place_0 : decode b_m_place 0 = .ok (.aload_n 0, 1) := by decide +kernel
theorem d_m_place_1 : decode b_m_place 1 = .ok (.iload_n 1, 1) := by decide +kernel
theorem d_m_place_2 : decode b_m_place 2 = .ok (.iconst 0, 1) := by decide +kernel
theorem d_m_place_3 : decode b_m_place 3 = .ok (.iconst 0, 1) := by decide +kernel
theorem d_m_place_4 : decode b_m_place 4 = .ok (.invokevirtual 27, 3) := by decide +kernel
theorem d_m_place_7 : decode b_m_place 7 = .ok (.ifCond .eq 7, 3) := by decide +kernel
theorem d_m_place_10 : decode b_m_place 10 = .ok (.iconst 0, 1) := by decide +kernel
theorem d_m_place_11 : decode b_m_place 11 = .ok (.goto 8, 3) := by decide +kernel
theorem d_m_place_14 : decode b_m_place 14 = .ok (.aload_n 0, 1) := by decide +kernel
theorem d_m_place_15 : decode b_m_place 15 = .ok (.iload_n 1, 1) := by decide +kernel
theorem d_m_place_16 : decode b_m_place 16 = .ok (.invokevirtual 23, 3) := by decide +kernel
theorem d_m_place_19 : decode b_m_place 19 = .ok (.ireturn, 1) := by decide +kernel
theorem d_m_at_0 : decode b_m_at 0 = .ok (.aload_n 0, 1) := by decide +kernel
theorem d_m_at_1 : decode b_m_at 1 = .ok (.iconst 0, 1) := by decide +kernel
theorem d_m_at_2 : decode b_m_at 2 = .ok (.putfield 20, 3) := by decide +kernel
theorem d_m_at_5 : decode b_m_at 5 = .ok (.iload_n 1, 1) := by decide +kernel
theorem d_m_at_6 : decode b_m_at 6 = .ok (.ifCond .lt 11, 3) := by decide +kernel
theorem d_m_at_9 : decode b_m_at 9 = .ok (.iload_n 1, 1) := by decide +kernel
theorem d_m_at_10 : decode b_m_at 10 = .ok (.aload_n 0, 1) := by decide +kernel
theorem d_m_at_11 : decode b_m_at 11 = .ok (.getfield 13, 3) := by decide +kernel
theorem d_m_at_14 : decode b_m_at 14 = .ok (.if_icmp .lt 7, 3) := by decide +kernel
theorem d_m_at_17 : decode b_m_at 17 = .ok (.iconst (-1), 1) := by decide +kernel
theorem d_m_at_18 : decode b_m_at 18 = .ok (.goto 9, 3) := by decide +kernel
theorem d_m_at_21 : decode b_m_at 21 = .ok (.aload_n 0, 1) := by decide +kernel
theorem d_m_at_22 : decode b_m_at 22 = .ok (.getfield 7, 3) := by decide +kernel
theorem d_m_at_25 : decode b_m_at 25 = .ok (.iload_n 1, 1) := by decide +kernel
theorem d_m_at_26 : decode b_m_at 26 = .ok (.iaload, 1) := by decide +kernel
theorem d_m_at_27 : decode b_m_at 27 = .ok (.ireturn, 1) := by decide +kernel
theorem d_m_greatest_0 : decode b_m_greatest 0 = .ok (.aload_n 0, 1) := by decide +kernel
theorem d_m_greatest_1 : decode b_m_greatest 1 = .ok (.iload_n 1, 1) := by decide +kernel
theorem d_m_greatest_2 : decode b_m_greatest 2 = .ok (.iload_n 2, 1) := by decide +kernel
theorem d_m_greatest_3 : decode b_m_greatest 3 = .ok (.iconst 0, 1) := by decide +kernel
theorem d_m_greatest_4 : decode b_m_greatest 4 = .ok (.invokevirtual 27, 3) := by decide +kernel
theorem d_m_greatest_7 : decode b_m_greatest 7 = .ok (.ifCond .eq 5, 3) := by decide +kernel
theorem d_m_greatest_10 : decode b_m_greatest 10 = .ok (.iconst 0, 1) := by decide +kernel
theorem d_m_greatest_11 : decode b_m_greatest 11 = .ok (.ireturn, 1) := by decide +kernel
theorem d_m_greatest_12 : decode b_m_greatest 12 = .ok (.iconst (-1), 1) := by decide +kernel
theorem d_m_greatest_13 : decode b_m_greatest 13 = .ok (.istore_n 3, 1) := by decide +kernel
theorem d_m_greatest_14 : decode b_m_greatest 14 = .ok (.aload_n 0, 1) := by decide +kernel
theorem d_m_greatest_15 : decode b_m_greatest 15 = .ok (.iload_n 1, 1) := by decide +kernel
theorem d_m_greatest_16 : decode b_m_greatest 16 = .ok (.invokevirtual 23, 3) := by decide +kernel
theorem d_m_greatest_19 : decode b_m_greatest 19 = .ok (.istore 4, 2) := by decide +kernel
theorem d_m_greatest_21 : decode b_m_greatest 21 = .ok (.iload 4, 2) := by decide +kernel
theorem d_m_greatest_23 : decode b_m_greatest 23 = .ok (.aload_n 0, 1) := by decide +kernel
theorem d_m_greatest_24 : decode b_m_greatest 24 = .ok (.iload_n 2, 1) := by decide +kernel
theorem d_m_greatest_25 : decode b_m_greatest 25 = .ok (.invokevirtual 23, 3) := by decide +kernel
theorem d_m_greatest_28 : decode b_m_greatest 28 = .ok (.if_icmp .gt 32, 3) := by decide +kernel
theorem d_m_greatest_31 : decode b_m_greatest 31 = .ok (.aload_n 0, 1) := by decide +kernel
theorem d_m_greatest_32 : decode b_m_greatest 32 = .ok (.getfield 7, 3) := by decide +kernel
theorem d_m_greatest_35 : decode b_m_greatest 35 = .ok (.iload 4, 2) := by decide +kernel
theorem d_m_greatest_37 : decode b_m_greatest 37 = .ok (.iaload, 1) := by decide +kernel
theorem d_m_greatest_38 : decode b_m_greatest 38 = .ok (.iload_n 3, 1) := by decide +kernel
theorem d_m_greatest_39 : decode b_m_greatest 39 = .ok (.if_icmp .le 13, 3) := by decide +kernel
theorem d_m_greatest_42 : decode b_m_greatest 42 = .ok (.aload_n 0, 1) := by decide +kernel
theorem d_m_greatest_43 : decode b_m_greatest 43 = .ok (.getfield 7, 3) := by decide +kernel
theorem d_m_greatest_46 : decode b_m_greatest 46 = .ok (.iload 4, 2) := by decide +kernel
theorem d_m_greatest_48 : decode b_m_greatest 48 = .ok (.iaload, 1) := by decide +kernel
theorem d_m_greatest_49 : decode b_m_greatest 49 = .ok (.goto 4, 3) := by decide +kernel
theorem d_m_greatest_52 : decode b_m_greatest 52 = .ok (.iload_n 3, 1) := by decide +kernel
theorem d_m_greatest_53 : decode b_m_greatest 53 = .ok (.istore_n 3, 1) := by decide +kernel
theorem d_m_greatest_54 : decode b_m_greatest 54 = .ok (.iinc 4 1, 3) := by decide +kernel
theorem d_m_greatest_57 : decode b_m_greatest 57 = .ok (.goto (-36), 3) := by decide +kernel
theorem d_m_greatest_60 : decode b_m_greatest 60 = .ok (.iload_n 3, 1) := by decide +kernel
theorem d_m_greatest_61 : decode b_m_greatest 61 = .ok (.ireturn, 1) := by decide +kernel
theorem d_m_wipe_0 : decode b_m_wipe 0 = .ok (.aload_n 0, 1) := by decide +kernel
theorem d_m_wipe_1 : decode b_m_wipe 1 = .ok (.iconst 0, 1) := by decide +kernel
theorem d_m_wipe_2 : decode b_m_wipe 2 = .ok (.putfield 20, 3) := by decide +kernel
theorem d_m_wipe_5 : decode b_m_wipe 5 = .ok (.aload_n 0, 1) := by decide +kernel
theorem d_m_wipe_6 : decode b_m_wipe 6 = .ok (.iconst 1, 1) := by decide +kernel
theorem d_m_wipe_7 : decode b_m_wipe 7 = .ok (.putfield 13, 3) := by decide +kernel
theorem d_m_wipe_10 : decode b_m_wipe 10 = .ok (.aload_n 0, 1) := by decide +kernel
theorem d_m_wipe_11 : decode b_m_wipe 11 = .ok (.getfield 7, 3) := by decide +kernel
theorem d_m_wipe_14 : decode b_m_wipe 14 = .ok (.iconst 0, 1) := by decide +kernel
theorem d_m_wipe_15 : decode b_m_wipe 15 = .ok (.iconst 0, 1) := by decide +kernel
theorem d_m_wipe_16 : decode b_m_wipe 16 = .ok (.iastore, 1) := by decide +kernel
theorem d_m_wipe_17 : decode b_m_wipe 17 = .ok (.return_, 1) := by decide +kernel
theorem d_m_look_0 : decode b_m_look 0 = .ok (.aload_n 0, 1) := by decide +kernel
theorem d_m_look_1 : decode b_m_look 1 = .ok (.iconst 0, 1) := by decide +kernel
theorem d_m_look_2 : decode b_m_look 2 = .ok (.putfield 20, 3) := by decide +kernel
theorem d_m_look_5 : decode b_m_look 5 = .ok (.iload_n 1, 1) := by decide +kernel
theorem d_m_look_6 : decode b_m_look 6 = .ok (.ifCond .ne 10, 3) := by decide +kernel
theorem d_m_look_9 : decode b_m_look 9 = .ok (.aload_n 0, 1) := by decide +kernel
theorem d_m_look_10 : decode b_m_look 10 = .ok (.getfield 13, 3) := by decide +kernel
theorem d_m_look_13 : decode b_m_look 13 = .ok (.goto 35, 3) := by decide +kernel
theorem d_m_look_16 : decode b_m_look 16 = .ok (.iload_n 1, 1) := by decide +kernel
theorem d_m_look_17 : decode b_m_look 17 = .ok (.iconst 1, 1) := by decide +kernel
theorem d_m_look_18 : decode b_m_look 18 = .ok (.if_icmp .ne 17, 3) := by decide +kernel
theorem d_m_look_21 : decode b_m_look 21 = .ok (.aload_n 0, 1) := by decide +kernel
theorem d_m_look_22 : decode b_m_look 22 = .ok (.getfield 7, 3) := by decide +kernel
theorem d_m_look_25 : decode b_m_look 25 = .ok (.aload_n 0, 1) := by decide +kernel
theorem d_m_look_26 : decode b_m_look 26 = .ok (.getfield 13, 3) := by decide +kernel
theorem d_m_look_29 : decode b_m_look 29 = .ok (.iconst 1, 1) := by decide +kernel
theorem d_m_look_30 : decode b_m_look 30 = .ok (.isub, 1) := by decide +kernel
theorem d_m_look_31 : decode b_m_look 31 = .ok (.iaload, 1) := by decide +kernel
theorem d_m_look_32 : decode b_m_look 32 = .ok (.goto 16, 3) := by decide +kernel
theorem d_m_look_35 : decode b_m_look 35 = .ok (.iload_n 1, 1) := by decide +kernel
theorem d_m_look_36 : decode b_m_look 36 = .ok (.iconst 2, 1) := by decide +kernel
theorem d_m_look_37 : decode b_m_look 37 = .ok (.if_icmp .ne 10, 3) := by decide +kernel
theorem d_m_look_40 : decode b_m_look 40 = .ok (.aload_n 0, 1) := by decide +kernel
theorem d_m_look_41 : decode b_m_look 41 = .ok (.invokevirtual 31, 3) := by decide +kernel
theorem d_m_look_44 : decode b_m_look 44 = .ok (.goto 4, 3) := by decide +kernel
theorem d_m_look_47 : decode b_m_look 47 = .ok (.iconst (-1), 1) := by decide +kernel
theorem d_m_look_48 : decode b_m_look 48 = .ok (.ireturn, 1) := by decide +kernel
end
section
/-! decode rows (by program): OrderLineLaw -/
theorem d_w_behind_0 : decode b_w_behind 0 = .ok (.aload_n 2, 1) := by decide +kernel
theorem d_w_behind_1 : decode b_w_behind 1 = .ok (.iconst 0, 1) := by decide +kernel
theorem d_w_behind_2 : decode b_w_behind 2 = .ok (.aload_n 0, 1) := by decide +kernel
theorem d_w_behind_3 : decode b_w_behind 3 = .ok (.iload_n 1, 1) := by decide +kernel
theorem d_w_behind_4 : decode b_w_behind 4 = .ok (.invokevirtual 7, 3) := by decide +kernel
theorem d_w_behind_7 : decode b_w_behind 7 = .ok (.i2l, 1) := by decide +kernel
theorem d_w_behind_8 : decode b_w_behind 8 = .ok (.lastore, 1) := by decide +kernel
theorem d_w_behind_9 : decode b_w_behind 9 = .ok (.goto 6, 3) := by decide +kernel
theorem d_w_behind_12 : decode b_w_behind 12 = .ok (.astore_n 3, 1) := by decide +kernel
theorem d_w_behind_13 : decode b_w_behind 13 = .ok (.iconst 1, 1) := by decide +kernel
theorem d_w_behind_14 : decode b_w_behind 14 = .ok (.ireturn, 1) := by decide +kernel
theorem d_w_behind_15 : decode b_w_behind 15 = .ok (.iconst 0, 1) := by decide +kernel
theorem d_w_behind_16 : decode b_w_behind 16 = .ok (.ireturn, 1) := by decide +kernel
theorem d_w_several_0 : decode b_w_several 0 = .ok (.aload_n 3, 1) := by decide +kernel
theorem d_w_several_1 : decode b_w_several 1 = .ok (.iconst 0, 1) := by decide +kernel
theorem d_w_several_2 : decode b_w_several 2 = .ok (.aload_n 0, 1) := by decide +kernel
theorem d_w_several_3 : decode b_w_several 3 = .ok (.iload_n 1, 1) := by decide +kernel
theorem d_w_several_4 : decode b_w_several 4 = .ok (.iload_n 2, 1) := by decide +kernel
theorem d_w_several_5 : decode b_w_several 5 = .ok (.invokevirtual 15, 3) := by decide +kernel
theorem d_w_several_8 : decode b_w_several 8 = .ok (.i2l, 1) := by decide +kernel
theorem d_w_several_9 : decode b_w_several 9 = .ok (.lastore, 1) := by decide +kernel
theorem d_w_several_10 : decode b_w_several 10 = .ok (.goto 7, 3) := by decide +kernel
theorem d_w_several_13 : decode b_w_several 13 = .ok (.astore 4, 2) := by decide +kernel
theorem d_w_several_15 : decode b_w_several 15 = .ok (.iconst 1, 1) := by decide +kernel
theorem d_w_several_16 : decode b_w_several 16 = .ok (.ireturn, 1) := by decide +kernel
theorem d_w_several_17 : decode b_w_several 17 = .ok (.iconst 0, 1) := by decide +kernel
theorem d_w_several_18 : decode b_w_several 18 = .ok (.ireturn, 1) := by decide +kernel
theorem d_w_clear_0 : decode b_w_clear 0 = .ok (.aload_n 3, 1) := by decide +kernel
theorem d_w_clear_1 : decode b_w_clear 1 = .ok (.iconst 0, 1) := by decide +kernel
theorem d_w_clear_2 : decode b_w_clear 2 = .ok (.aload_n 0, 1) := by decide +kernel
theorem d_w_clear_3 : decode b_w_clear 3 = .ok (.iload_n 1, 1) := by decide +kernel
theorem d_w_clear_4 : decode b_w_clear 4 = .ok (.iload_n 2, 1) := by decide +kernel
theorem d_w_clear_5 : decode b_w_clear 5 = .ok (.invokevirtual 19, 3) := by decide +kernel
theorem d_w_clear_8 : decode b_w_clear 8 = .ok (.i2l, 1) := by decide +kernel
theorem d_w_clear_9 : decode b_w_clear 9 = .ok (.lastore, 1) := by decide +kernel
theorem d_w_clear_10 : decode b_w_clear 10 = .ok (.goto 7, 3) := by decide +kernel
theorem d_w_clear_13 : decode b_w_clear 13 = .ok (.astore 4, 2) := by decide +kernel
theorem d_w_clear_15 : decode b_w_clear 15 = .ok (.iconst 1, 1) := by decide +kernel
theorem d_w_clear_16 : decode b_w_clear 16 = .ok (.ireturn, 1) := by decide +kernel
theorem d_w_clear_17 : decode b_w_clear 17 = .ok (.iconst 0, 1) := by decide +kernel
theorem d_w_clear_18 : decode b_w_clear 18 = .ok (.ireturn, 1) := by decide +kernel
theorem d_w_carry_0 : decode b_w_carry 0 = .ok (.aload 4, 2) := by decide +kernel
theorem d_w_carry_2 : decode b_w_carry 2 = .ok (.iconst 0, 1) := by decide +kernel
theorem d_w_carry_3 : decode b_w_carry 3 = .ok (.aload_n 0, 1) := by decide +kernel
theorem d_w_carry_4 : decode b_w_carry 4 = .ok (.iload_n 1, 1) := by decide +kernel
theorem d_w_carry_5 : decode b_w_carry 5 = .ok (.iload_n 2, 1) := by decide +kernel
theorem d_w_carry_6 : decode b_w_carry 6 = .ok (.iload_n 3, 1) := by decide +kernel
theorem d_w_carry_7 : decode b_w_carry 7 = .ok (.invokevirtual 22, 3) := by decide +kernel
theorem d_w_carry_10 : decode b_w_carry 10 = .ok (.i2l, 1) := by decide +kernel
theorem d_w_carry_11 : decode b_w_carry 11 = .ok (.lastore, 1) := by decide +kernel
theorem d_w_carry_12 : decode b_w_carry 12 = .ok (.goto 7, 3) := by decide +kernel
theorem d_w_carry_15 : decode b_w_carry 15 = .ok (.astore 5, 2) := by decide +kernel
theorem d_w_carry_17 : decode b_w_carry 17 = .ok (.iconst 1, 1) := by decide +kernel
theorem d_w_carry_18 : decode b_w_carry 18 = .ok (.ireturn, 1) := by decide +kernel
theorem d_w_carry_19 : decode b_w_carry 19 = .ok (.iconst 0, 1) := by decide +kernel
theorem d_w_carry_20 : decode b_w_carry 20 = .ok (.ireturn, 1) := by decide +kernel
theorem d_w_compare_0 : decode b_w_compare 0 = .ok (.aload_n 3, 1) := by decide +kernel
theorem d_w_compare_1 : decode b_w_compare 1 = .ok (.iconst 0, 1) := by decide +kernel
theorem d_w_compare_2 : decode b_w_compare 2 = .ok (.aload_n 0, 1) := by decide +kernel
theorem d_w_compare_3 : decode b_w_compare 3 = .ok (.iload_n 1, 1) := by decide +kernel
theorem d_w_compare_4 : decode b_w_compare 4 = .ok (.iload_n 2, 1) := by decide +kernel
theorem d_w_compare_5 : decode b_w_compare 5 = .ok (.invokevirtual 26, 3) := by decide +kernel
theorem d_w_compare_8 : decode b_w_compare 8 = .ok (.i2l, 1) := by decide +kernel
theorem d_w_compare_9 : decode b_w_compare 9 = .ok (.lastore, 1) := by decide +kernel
theorem d_w_compare_10 : decode b_w_compare 10 = .ok (.goto 7, 3) := by decide +kernel
theorem d_w_compare_13 : decode b_w_compare 13 = .ok (.astore 4, 2) := by decide +kernel
theorem d_w_compare_15 : decode b_w_compare 15 = .ok (.iconst 1, 1) := by decide +kernel
theorem d_w_compare_16 : decode b_w_compare 16 = .ok (.ireturn, 1) := by decide +kernel
theorem d_w_compare_17 : decode b_w_compare 17 = .ok (.iconst 0, 1) := by decide +kernel
theorem d_w_compare_18 : decode b_w_compare 18 = .ok (.ireturn, 1) := by decide +kernel
theorem d_w_next_0 : decode b_w_next 0 = .ok (.aload_n 3, 1) := by decide +kernel
theorem d_w_next_1 : decode b_w_next 1 = .ok (.iconst 0, 1) := by decide +kernel
theorem d_w_next_2 : decode b_w_next 2 = .ok (.aload_n 0, 1) := by decide +kernel
theorem d_w_next_3 : decode b_w_next 3 = .ok (.iload_n 1, 1) := by decide +kernel
theorem d_w_next_4 : decode b_w_next 4 = .ok (.iload_n 2, 1) := by decide +kernel
theorem d_w_next_5 : decode b_w_next 5 = .ok (.invokevirtual 29, 3) := by decide +kernel
theorem d_w_next_8 : decode b_w_next 8 = .ok (.i2l, 1) := by decide +kernel
theorem d_w_next_9 : decode b_w_next 9 = .ok (.lastore, 1) := by decide +kernel
theorem d_w_next_10 : decode b_w_next 10 = .ok (.goto 7, 3) := by decide +kernel
theorem d_w_next_13 : decode b_w_next 13 = .ok (.astore 4, 2) := by decide +kernel
theorem d_w_next_15 : decode b_w_next 15 = .ok (.iconst 1, 1) := by decide +kernel
theorem d_w_next_16 : decode b_w_next 16 = .ok (.ireturn, 1) := by decide +kernel
theorem d_w_next_17 : decode b_w_next 17 = .ok (.iconst 0, 1) := by decide +kernel
theorem d_w_next_18 : decode b_w_next 18 = .ok (.ireturn, 1) := by decide +kernel
theorem d_w_place_0 : decode b_w_place 0 = .ok (.aload_n 2, 1) := by decide +kernel
theorem d_w_place_1 : decode b_w_place 1 = .ok (.iconst 0, 1) := by decide +kernel
theorem d_w_place_2 : decode b_w_place 2 = .ok (.aload_n 0, 1) := by decide +kernel
theorem d_w_place_3 : decode b_w_place 3 = .ok (.iload_n 1, 1) := by decide +kernel
theorem d_w_place_4 : decode b_w_place 4 = .ok (.invokevirtual 33, 3) := by decide +kernel
theorem d_w_place_7 : decode b_w_place 7 = .ok (.i2l, 1) := by decide +kernel
theorem d_w_place_8 : decode b_w_place 8 = .ok (.lastore, 1) := by decide +kernel
theorem d_w_place_9 : decode b_w_place 9 = .ok (.goto 6, 3) := by decide +kernel
theorem d_w_place_12 : decode b_w_place 12 = .ok (.astore_n 3, 1) := by decide +kernel
theorem d_w_place_13 : decode b_w_place 13 = .ok (.iconst 1, 1) := by decide +kernel
theorem d_w_place_14 : decode b_w_place 14 = .ok (.ireturn, 1) := by decide +kernel
theorem d_w_place_15 : decode b_w_place 15 = .ok (.iconst 0, 1) := by decide +kernel
theorem d_w_place_16 : decode b_w_place 16 = .ok (.ireturn, 1) := by decide +kernel
theorem d_w_greatest_0 : decode b_w_greatest 0 = .ok (.aload_n 3, 1) := by decide +kernel
theorem d_w_greatest_1 : decode b_w_greatest 1 = .ok (.iconst 0, 1) := by decide +kernel
theorem d_w_greatest_2 : decode b_w_greatest 2 = .ok (.aload_n 0, 1) := by decide +kernel
theorem d_w_greatest_3 : decode b_w_greatest 3 = .ok (.iload_n 1, 1) := by decide +kernel
theorem d_w_greatest_4 : decode b_w_greatest 4 = .ok (.iload_n 2, 1) := by decide +kernel
theorem d_w_greatest_5 : decode b_w_greatest 5 = .ok (.invokevirtual 36, 3) := by decide +kernel
theorem d_w_greatest_8 : decode b_w_greatest 8 = .ok (.i2l, 1) := by decide +kernel
theorem d_w_greatest_9 : decode b_w_greatest 9 = .ok (.lastore, 1) := by decide +kernel
theorem d_w_greatest_10 : decode b_w_greatest 10 = .ok (.goto 7, 3) := by decide +kernel
theorem d_w_greatest_13 : decode b_w_greatest 13 = .ok (.astore 4, 2) := by decide +kernel
theorem d_w_greatest_15 : decode b_w_greatest 15 = .ok (.iconst 1, 1) := by decide +kernel
theorem d_w_greatest_16 : decode b_w_greatest 16 = .ok (.ireturn, 1) := by decide +kernel
theorem d_w_greatest_17 : decode b_w_greatest 17 = .ok (.iconst 0, 1) := by decide +kernel
theorem d_w_greatest_18 : decode b_w_greatest 18 = .ok (.ireturn, 1) := by decide +kernel
theorem d_w_law_0 : decode code 0 = .ok (.new 8, 3) := by decide +kernel
theorem d_w_law_3 : decode code 3 = .ok (.dup, 1) := by decide +kernel
theorem d_w_law_4 : decode code 4 = .ok (.invokespecial 39, 3) := by decide +kernel
theorem d_w_law_7 : decode code 7 = .ok (.astore_n 1, 1) := by decide +kernel
theorem d_w_law_8 : decode code 8 = .ok (.new 40, 3) := by decide +kernel
theorem d_w_law_11 : decode code 11 = .ok (.dup, 1) := by decide +kernel
theorem d_w_law_12 : decode code 12 = .ok (.invokespecial 42, 3) := by decide +kernel
theorem d_w_law_15 : decode code 15 = .ok (.astore_n 2, 1) := by decide +kernel
theorem d_w_law_16 : decode code 16 = .ok (.iconst 1, 1) := by decide +kernel
theorem d_w_law_17 : decode code 17 = .ok (.newarray .long, 2) := by decide +kernel
theorem d_w_law_19 : decode code 19 = .ok (.astore_n 3, 1) := by decide +kernel
theorem d_w_law_20 : decode code 20 = .ok (.iconst 0, 1) := by decide +kernel
theorem d_w_law_21 : decode code 21 = .ok (.istore 4, 2) := by decide +kernel
theorem d_w_law_23 : decode code 23 = .ok (.iload 4, 2) := by decide +kernel
theorem d_w_law_25 : decode code 25 = .ok (.aload_n 0, 1) := by decide +kernel
theorem d_w_law_26 : decode code 26 = .ok (.arraylength, 1) := by decide +kernel
theorem d_w_law_27 : decode code 27 = .ok (.iconst 4, 1) := by decide +kernel
theorem d_w_law_28 : decode code 28 = .ok (.isub, 1) := by decide +kernel
theorem d_w_law_29 : decode code 29 = .ok (.if_icmp .gt 740, 3) := by decide +kernel
theorem d_w_law_32 : decode code 32 = .ok (.aload_n 0, 1) := by decide +kernel
theorem d_w_law_33 : decode code 33 = .ok (.iload 4, 2) := by decide +kernel
theorem d_w_law_35 : decode code 35 = .ok (.iaload, 1) := by decide +kernel
theorem d_w_law_36 : decode code 36 = .ok (.bipush 15, 2) := by decide +kernel
theorem d_w_law_38 : decode code 38 = .ok (.iand, 1) := by decide +kernel
theorem d_w_law_39 : decode code 39 = .ok (.tableswitch 724 0 12 #[65, 121, 189, 214, 282, 362, 430, 514, 539, 595, 620, 688, 699], 65) := by decide +kernel
theorem d_w_law_104 : decode code 104 = .ok (.aload_n 1, 1) := by decide +kernel
theorem d_w_law_105 : decode code 105 = .ok (.aload_n 0, 1) := by decide +kernel
theorem d_w_law_106 : decode code 106 = .ok (.iload 4, 2) := by decide +kernel
theorem d_w_law_108 : decode code 108 = .ok (.iconst 1, 1) := by decide +kernel
theorem d_w_law_109 : decode code 109 = .ok (.iadd, 1) := by decide +kernel
theorem d_w_law_110 : decode code 110 = .ok (.iaload, 1) := by decide +kernel
theorem d_w_law_111 : decode code 111 = .ok (.aload_n 3, 1) := by decide +kernel
theorem d_w_law_112 : decode code 112 = .ok (.invokestatic 43, 3) := by decide +kernel
theorem d_w_law_115 : decode code 115 = .ok (.istore 5, 2) := by decide +kernel
theorem d_w_law_117 : decode code 117 = .ok (.aload_n 2, 1) := by decide +kernel
theorem d_w_law_118 : decode code 118 = .ok (.aload_n 0, 1) := by decide +kernel
theorem d_w_law_119 : decode code 119 = .ok (.iload 4, 2) := by decide +kernel
theorem d_w_law_121 : decode code 121 = .ok (.iconst 1, 1) := by decide +kernel
theorem d_w_law_122 : decode code 122 = .ok (.iadd, 1) := by decide +kernel
theorem d_w_law_123 : decode code 123 = .ok (.iaload, 1) := by decide +kernel
theorem d_w_law_124 : decode code 124 = .ok (.invokevirtual 48, 3) := by decide +kernel
theorem d_w_law_127 : decode code 127 = .ok (.istore 6, 2) := by decide +kernel
theorem d_w_law_129 : decode code 129 = .ok (.aload_n 2, 1) := by decide +kernel
theorem d_w_law_130 : decode code 130 = .ok (.invokevirtual 49, 3) := by decide +kernel
theorem d_w_law_133 : decode code 133 = .ok (.iload 5, 2) := by decide +kernel
theorem d_w_law_135 : decode code 135 = .ok (.if_icmp .eq 5, 3) := by decide +kernel
theorem d_w_law_138 : decode code 138 = .ok (.iconst 0, 1) := by decide +kernel
theorem d_w_law_139 : decode code 139 = .ok (.ireturn, 1) := by decide +kernel
theorem d_w_law_140 : decode code 140 = .ok (.iload 5, 2) := by decide +kernel
theorem d_w_law_142 : decode code 142 = .ok (.ifCond .ne 15, 3) := by decide +kernel
theorem d_w_law_145 : decode code 145 = .ok (.aload_n 3, 1) := by decide +kernel
theorem d_w_law_146 : decode code 146 = .ok (.iconst 0, 1) := by decide +kernel
theorem d_w_law_147 : decode code 147 = .ok (.laload, 1) := by decide +kernel
theorem d_w_law_148 : decode code 148 = .ok (.iload 6, 2) := by decide +kernel
theorem d_w_law_150 : decode code 150 = .ok (.i2l, 1) := by decide +kernel
theorem d_w_law_151 : decode code 151 = .ok (.lcmp, 1) := by decide +kernel
theorem d_w_law_152 : decode code 152 = .ok (.ifCond .eq 5, 3) := by decide +kernel
theorem d_w_law_155 : decode code 155 = .ok (.iconst 0, 1) := by decide +kernel
theorem d_w_law_156 : decode code 156 = .ok (.ireturn, 1) := by decide +kernel
theorem d_w_law_157 : decode code 157 = .ok (.goto 606, 3) := by decide +kernel
theorem d_w_law_160 : decode code 160 = .ok (.aload_n 1, 1) := by decide +kernel
theorem d_w_law_161 : decode code 161 = .ok (.aload_n 0, 1) := by decide +kernel
theorem d_w_law_162 : decode code 162 = .ok (.iload 4, 2) := by decide +kernel
theorem d_w_law_164 : decode code 164 = .ok (.iconst 1, 1) := by decide +kernel
theorem d_w_law_165 : decode code 165 = .ok (.iadd, 1) := by decide +kernel
theorem d_w_law_166 : decode code 166 = .ok (.iaload, 1) := by decide +kernel
theorem d_w_law_167 : decode code 167 = .ok (.aload_n 0, 1) := by decide +kernel
theorem d_w_law_168 : decode code 168 = .ok (.iload 4, 2) := by decide +kernel
theorem d_w_law_170 : decode code 170 = .ok (.iconst 2, 1) := by decide +kernel
theorem d_w_law_171 : decode code 171 = .ok (.iadd, 1) := by decide +kernel
theorem d_w_law_172 : decode code 172 = .ok (.iaload, 1) := by decide +kernel
theorem d_w_law_173 : decode code 173 = .ok (.aload_n 3, 1) := by decide +kernel
theorem d_w_law_174 : decode code 174 = .ok (.invokestatic 53, 3) := by decide +kernel
theorem d_w_law_177 : decode code 177 = .ok (.istore 5, 2) := by decide +kernel
theorem d_w_law_179 : decode code 179 = .ok (.aload_n 2, 1) := by decide +kernel
theorem d_w_law_180 : decode code 180 = .ok (.aload_n 0, 1) := by decide +kernel
theorem d_w_law_181 : decode code 181 = .ok (.iload 4, 2) := by decide +kernel
theorem d_w_law_183 : decode code 183 = .ok (.iconst 1, 1) := by decide +kernel
theorem d_w_law_184 : decode code 184 = .ok (.iadd, 1) := by decide +kernel
theorem d_w_law_185 : decode code 185 = .ok (.iaload, 1) := by decide +kernel
theorem d_w_law_186 : decode code 186 = .ok (.aload_n 0, 1) := by decide +kernel
theorem d_w_law_187 : decode code 187 = .ok (.iload 4, 2) := by decide +kernel
theorem d_w_law_189 : decode code 189 = .ok (.iconst 2, 1) := by decide +kernel
theorem d_w_law_190 : decode code 190 = .ok (.iadd, 1) := by decide +kernel
theorem d_w_law_191 : decode code 191 = .ok (.iaload, 1) := by decide +kernel
theorem d_w_law_192 : decode code 192 = .ok (.invokevirtual 56, 3) := by decide +kernel
theorem d_w_law_195 : decode code 195 = .ok (.istore 6, 2) := by decide +kernel
theorem d_w_law_197 : decode code 197 = .ok (.aload_n 2, 1) := by decide +kernel
theorem d_w_law_198 : decode code 198 = .ok (.invokevirtual 49, 3) := by decide +kernel
theorem d_w_law_201 : decode code 201 = .ok (.iload 5, 2) := by decide +kernel
theorem d_w_law_203 : decode code 203 = .ok (.if_icmp .eq 5, 3) := by decide +kernel
theorem d_w_law_206 : decode code 206 = .ok (.iconst 0, 1) := by decide +kernel
theorem d_w_law_207 : decode code 207 = .ok (.ireturn, 1) := by decide +kernel
theorem d_w_law_208 : decode code 208 = .ok (.iload 5, 2) := by decide +kernel
theorem d_w_law_210 : decode code 210 = .ok (.ifCond .ne 15, 3) := by decide +kernel
theorem d_w_law_213 : decode code 213 = .ok (.aload_n 3, 1) := by decide +kernel
theorem d_w_law_214 : decode code 214 = .ok (.iconst 0, 1) := by decide +kernel
theorem d_w_law_215 : decode code 215 = .ok (.laload, 1) := by decide +kernel
theorem d_w_law_216 : decode code 216 = .ok (.iload 6, 2) := by decide +kernel
theorem d_w_law_218 : decode code 218 = .ok (.i2l, 1) := by decide +kernel
theorem d_w_law_219 : decode code 219 = .ok (.lcmp, 1) := by decide +kernel
theorem d_w_law_220 : decode code 220 = .ok (.ifCond .eq 5, 3) := by decide +kernel
theorem d_w_law_223 : decode code 223 = .ok (.iconst 0, 1) := by decide +kernel
theorem d_w_law_224 : decode code 224 = .ok (.ireturn, 1) := by decide +kernel
theorem d_w_law_225 : decode code 225 = .ok (.goto 538, 3) := by decide +kernel
theorem d_w_law_228 : decode code 228 = .ok (.aload_n 1, 1) := by decide +kernel
theorem d_w_law_229 : decode code 229 = .ok (.aload_n 0, 1) := by decide +kernel
theorem d_w_law_230 : decode code 230 = .ok (.iload 4, 2) := by decide +kernel
theorem d_w_law_232 : decode code 232 = .ok (.iconst 1, 1) := by decide +kernel
theorem d_w_law_233 : decode code 233 = .ok (.iadd, 1) := by decide +kernel
theorem d_w_law_234 : decode code 234 = .ok (.iaload, 1) := by decide +kernel
theorem d_w_law_235 : decode code 235 = .ok (.invokevirtual 57, 3) := by decide +kernel
theorem d_w_law_238 : decode code 238 = .ok (.aload_n 2, 1) := by decide +kernel
theorem d_w_law_239 : decode code 239 = .ok (.aload_n 0, 1) := by decide +kernel
theorem d_w_law_240 : decode code 240 = .ok (.iload 4, 2) := by decide +kernel
theorem d_w_law_242 : decode code 242 = .ok (.iconst 1, 1) := by decide +kernel
theorem d_w_law_243 : decode code 243 = .ok (.iadd, 1) := by decide +kernel
theorem d_w_law_244 : decode code 244 = .ok (.iaload, 1) := by decide +kernel
theorem d_w_law_245 : decode code 245 = .ok (.invokevirtual 61, 3) := by decide +kernel
theorem d_w_law_248 : decode code 248 = .ok (.if_icmp .eq 515, 3) := by decide +kernel
theorem d_w_law_251 : decode code 251 = .ok (.iconst 0, 1) := by decide +kernel
theorem d_w_law_252 : decode code 252 = .ok (.ireturn, 1) := by decide +kernel
theorem d_w_law_253 : decode code 253 = .ok (.aload_n 1, 1) := by decide +kernel
theorem d_w_law_254 : decode code 254 = .ok (.aload_n 0, 1) := by decide +kernel
theorem d_w_law_255 : decode code 255 = .ok (.iload 4, 2) := by decide +kernel
theorem d_w_law_257 : decode code 257 = .ok (.iconst 1, 1) := by decide +kernel
theorem d_w_law_258 : decode code 258 = .ok (.iadd, 1) := by decide +kernel
theorem d_w_law_259 : decode code 259 = .ok (.iaload, 1) := by decide +kernel
theorem d_w_law_260 : decode code 260 = .ok (.aload_n 0, 1) := by decide +kernel
theorem d_w_law_261 : decode code 261 = .ok (.iload 4, 2) := by decide +kernel
theorem d_w_law_263 : decode code 263 = .ok (.iconst 2, 1) := by decide +kernel
theorem d_w_law_264 : decode code 264 = .ok (.iadd, 1) := by decide +kernel
theorem d_w_law_265 : decode code 265 = .ok (.iaload, 1) := by decide +kernel
theorem d_w_law_266 : decode code 266 = .ok (.aload_n 3, 1) := by decide +kernel
theorem d_w_law_267 : decode code 267 = .ok (.invokestatic 62, 3) := by decide +kernel
theorem d_w_law_270 : decode code 270 = .ok (.istore 5, 2) := by decide +kernel
theorem d_w_law_272 : decode code 272 = .ok (.aload_n 2, 1) := by decide +kernel
theorem d_w_law_273 : decode code 273 = .ok (.aload_n 0, 1) := by decide +kernel
theorem d_w_law_274 : decode code 274 = .ok (.iload 4, 2) := by decide +kernel
theorem d_w_law_276 : decode code 276 = .ok (.iconst 1, 1) := by decide +kernel
theorem d_w_law_277 : decode code 277 = .ok (.iadd, 1) := by decide +kernel
theorem d_w_law_278 : decode code 278 = .ok (.iaload, 1) := by decide +kernel
theorem d_w_law_279 : decode code 279 = .ok (.aload_n 0, 1) := by decide +kernel
theorem d_w_law_280 : decode code 280 = .ok (.iload 4, 2) := by decide +kernel
theorem d_w_law_282 : decode code 282 = .ok (.iconst 2, 1) := by decide +kernel
theorem d_w_law_283 : decode code 283 = .ok (.iadd, 1) := by decide +kernel
theorem d_w_law_284 : decode code 284 = .ok (.iaload, 1) := by decide +kernel
theorem d_w_law_285 : decode code 285 = .ok (.invokevirtual 64, 3) := by decide +kernel
theorem d_w_law_288 : decode code 288 = .ok (.istore 6, 2) := by decide +kernel
theorem d_w_law_290 : decode code 290 = .ok (.aload_n 2, 1) := by decide +kernel
theorem d_w_law_291 : decode code 291 = .ok (.invokevirtual 49, 3) := by decide +kernel
theorem d_w_law_294 : decode code 294 = .ok (.iload 5, 2) := by decide +kernel
theorem d_w_law_296 : decode code 296 = .ok (.if_icmp .eq 5, 3) := by decide +kernel
theorem d_w_law_299 : decode code 299 = .ok (.iconst 0, 1) := by decide +kernel
theorem d_w_law_300 : decode code 300 = .ok (.ireturn, 1) := by decide +kernel
theorem d_w_law_301 : decode code 301 = .ok (.iload 5, 2) := by decide +kernel
theorem d_w_law_303 : decode code 303 = .ok (.ifCond .ne 15, 3) := by decide +kernel
theorem d_w_law_306 : decode code 306 = .ok (.aload_n 3, 1) := by decide +kernel
theorem d_w_law_307 : decode code 307 = .ok (.iconst 0, 1) := by decide +kernel
theorem d_w_law_308 : decode code 308 = .ok (.laload, 1) := by decide +kernel
theorem d_w_law_309 : decode code 309 = .ok (.iload 6, 2) := by decide +kernel
theorem d_w_law_311 : decode code 311 = .ok (.i2l, 1) := by decide +kernel
theorem d_w_law_312 : decode code 312 = .ok (.lcmp, 1) := by decide +kernel
theorem d_w_law_313 : decode code 313 = .ok (.ifCond .eq 5, 3) := by decide +kernel
theorem d_w_law_316 : decode code 316 = .ok (.iconst 0, 1) := by decide +kernel
theorem d_w_law_317 : decode code 317 = .ok (.ireturn, 1) := by decide +kernel
theorem d_w_law_318 : decode code 318 = .ok (.goto 445, 3) := by decide +kernel
theorem d_w_law_321 : decode code 321 = .ok (.aload_n 1, 1) := by decide +kernel
theorem d_w_law_322 : decode code 322 = .ok (.aload_n 0, 1) := by decide +kernel
theorem d_w_law_323 : decode code 323 = .ok (.iload 4, 2) := by decide +kernel
theorem d_w_law_325 : decode code 325 = .ok (.iconst 1, 1) := by decide +kernel
theorem d_w_law_326 : decode code 326 = .ok (.iadd, 1) := by decide +kernel
theorem d_w_law_327 : decode code 327 = .ok (.iaload, 1) := by decide +kernel
theorem d_w_law_328 : decode code 328 = .ok (.aload_n 0, 1) := by decide +kernel
theorem d_w_law_329 : decode code 329 = .ok (.iload 4, 2) := by decide +kernel
theorem d_w_law_331 : decode code 331 = .ok (.iconst 2, 1) := by decide +kernel
theorem d_w_law_332 : decode code 332 = .ok (.iadd, 1) := by decide +kernel
theorem d_w_law_333 : decode code 333 = .ok (.iaload, 1) := by decide +kernel
theorem d_w_law_334 : decode code 334 = .ok (.aload_n 0, 1) := by decide +kernel
theorem d_w_law_335 : decode code 335 = .ok (.iload 4, 2) := by decide +kernel
theorem d_w_law_337 : decode code 337 = .ok (.iconst 3, 1) := by decide +kernel
theorem d_w_law_338 : decode code 338 = .ok (.iadd, 1) := by decide +kernel
theorem d_w_law_339 : decode code 339 = .ok (.iaload, 1) := by decide +kernel
theorem d_w_law_340 : decode code 340 = .ok (.aload_n 3, 1) := by decide +kernel
theorem d_w_law_341 : decode code 341 = .ok (.invokestatic 65, 3) := by decide +kernel
theorem d_w_law_344 : decode code 344 = .ok (.istore 5, 2) := by decide +kernel
theorem d_w_law_346 : decode code 346 = .ok (.aload_n 2, 1) := by decide +kernel
theorem d_w_law_347 : decode code 347 = .ok (.aload_n 0, 1) := by decide +kernel
theorem d_w_law_348 : decode code 348 = .ok (.iload 4, 2) := by decide +kernel
theorem d_w_law_350 : decode code 350 = .ok (.iconst 1, 1) := by decide +kernel
theorem d_w_law_351 : decode code 351 = .ok (.iadd, 1) := by decide +kernel
theorem d_w_law_352 : decode code 352 = .ok (.iaload, 1) := by decide +kernel
theorem d_w_law_353 : decode code 353 = .ok (.aload_n 0, 1) := by decide +kernel
theorem d_w_law_354 : decode code 354 = .ok (.iload 4, 2) := by decide +kernel
theorem d_w_law_356 : decode code 356 = .ok (.iconst 2, 1) := by decide +kernel
theorem d_w_law_357 : decode code 357 = .ok (.iadd, 1) := by decide +kernel
theorem d_w_law_358 : decode code 358 = .ok (.iaload, 1) := by decide +kernel
theorem d_w_law_359 : decode code 359 = .ok (.aload_n 0, 1) := by decide +kernel
theorem d_w_law_360 : decode code 360 = .ok (.iload 4, 2) := by decide +kernel
theorem d_w_law_362 : decode code 362 = .ok (.iconst 3, 1) := by decide +kernel
theorem d_w_law_363 : decode code 363 = .ok (.iadd, 1) := by decide +kernel
theorem d_w_law_364 : decode code 364 = .ok (.iaload, 1) := by decide +kernel
theorem d_w_law_365 : decode code 365 = .ok (.invokevirtual 68, 3) := by decide +kernel
theorem d_w_law_368 : decode code 368 = .ok (.istore 6, 2) := by decide +kernel
theorem d_w_law_370 : decode code 370 = .ok (.aload_n 2, 1) := by decide +kernel
theorem d_w_law_371 : decode code 371 = .ok (.invokevirtual 49, 3) := by decide +kernel
theorem d_w_law_374 : decode code 374 = .ok (.iload 5, 2) := by decide +kernel
theorem d_w_law_376 : decode code 376 = .ok (.if_icmp .eq 5, 3) := by decide +kernel
theorem d_w_law_379 : decode code 379 = .ok (.iconst 0, 1) := by decide +kernel
theorem d_w_law_380 : decode code 380 = .ok (.ireturn, 1) := by decide +kernel
theorem d_w_law_381 : decode code 381 = .ok (.iload 5, 2) := by decide +kernel
theorem d_w_law_383 : decode code 383 = .ok (.ifCond .ne 15, 3) := by decide +kernel
theorem d_w_law_386 : decode code 386 = .ok (.aload_n 3, 1) := by decide +kernel
theorem d_w_law_387 : decode code 387 = .ok (.iconst 0, 1) := by decide +kernel
theorem d_w_law_388 : decode code 388 = .ok (.laload, 1) := by decide +kernel
theorem d_w_law_389 : decode code 389 = .ok (.iload 6, 2) := by decide +kernel
theorem d_w_law_391 : decode code 391 = .ok (.i2l, 1) := by decide +kernel
theorem d_w_law_392 : decode code 392 = .ok (.lcmp, 1) := by decide +kernel
theorem d_w_law_393 : decode code 393 = .ok (.ifCond .eq 5, 3) := by decide +kernel
theorem d_w_law_396 : decode code 396 = .ok (.iconst 0, 1) := by decide +kernel
theorem d_w_law_397 : decode code 397 = .ok (.ireturn, 1) := by decide +kernel
theorem d_w_law_398 : decode code 398 = .ok (.goto 365, 3) := by decide +kernel
theorem d_w_law_401 : decode code 401 = .ok (.aload_n 1, 1) := by decide +kernel
theorem d_w_law_402 : decode code 402 = .ok (.aload_n 0, 1) := by decide +kernel
theorem d_w_law_403 : decode code 403 = .ok (.iload 4, 2) := by decide +kernel
theorem d_w_law_405 : decode code 405 = .ok (.iconst 1, 1) := by decide +kernel
theorem d_w_law_406 : decode code 406 = .ok (.iadd, 1) := by decide +kernel
theorem d_w_law_407 : decode code 407 = .ok (.iaload, 1) := by decide +kernel
theorem d_w_law_408 : decode code 408 = .ok (.aload_n 0, 1) := by decide +kernel
theorem d_w_law_409 : decode code 409 = .ok (.iload 4, 2) := by decide +kernel
theorem d_w_law_411 : decode code 411 = .ok (.iconst 2, 1) := by decide +kernel
theorem d_w_law_412 : decode code 412 = .ok (.iadd, 1) := by decide +kernel
theorem d_w_law_413 : decode code 413 = .ok (.iaload, 1) := by decide +kernel
theorem d_w_law_414 : decode code 414 = .ok (.aload_n 3, 1) := by decide +kernel
theorem d_w_law_415 : decode code 415 = .ok (.invokestatic 69, 3) := by decide +kernel
theorem d_w_law_418 : decode code 418 = .ok (.istore 5, 2) := by decide +kernel
theorem d_w_law_420 : decode code 420 = .ok (.aload_n 2, 1) := by decide +kernel
theorem d_w_law_421 : decode code 421 = .ok (.aload_n 0, 1) := by decide +kernel
theorem d_w_law_422 : decode code 422 = .ok (.iload 4, 2) := by decide +kernel
theorem d_w_law_424 : decode code 424 = .ok (.iconst 1, 1) := by decide +kernel
theorem d_w_law_425 : decode code 425 = .ok (.iadd, 1) := by decide +kernel
theorem d_w_law_426 : decode code 426 = .ok (.iaload, 1) := by decide +kernel
theorem d_w_law_427 : decode code 427 = .ok (.aload_n 0, 1) := by decide +kernel
theorem d_w_law_428 : decode code 428 = .ok (.iload 4, 2) := by decide +kernel
theorem d_w_law_430 : decode code 430 = .ok (.iconst 2, 1) := by decide +kernel
theorem d_w_law_431 : decode code 431 = .ok (.iadd, 1) := by decide +kernel
theorem d_w_law_432 : decode code 432 = .ok (.iaload, 1) := by decide +kernel
theorem d_w_law_433 : decode code 433 = .ok (.invokevirtual 71, 3) := by decide +kernel
theorem d_w_law_436 : decode code 436 = .ok (.istore 6, 2) := by decide +kernel
theorem d_w_law_438 : decode code 438 = .ok (.aload_n 2, 1) := by decide +kernel
theorem d_w_law_439 : decode code 439 = .ok (.invokevirtual 49, 3) := by decide +kernel
theorem d_w_law_442 : decode code 442 = .ok (.iload 5, 2) := by decide +kernel
theorem d_w_law_444 : decode code 444 = .ok (.if_icmp .eq 5, 3) := by decide +kernel
theorem d_w_law_447 : decode code 447 = .ok (.iconst 0, 1) := by decide +kernel
theorem d_w_law_448 : decode code 448 = .ok (.ireturn, 1) := by decide +kernel
theorem d_w_law_449 : decode code 449 = .ok (.iload 5, 2) := by decide +kernel
theorem d_w_law_451 : decode code 451 = .ok (.ifCond .ne 15, 3) := by decide +kernel
theorem d_w_law_454 : decode code 454 = .ok (.aload_n 3, 1) := by decide +kernel
theorem d_w_law_455 : decode code 455 = .ok (.iconst 0, 1) := by decide +kernel
theorem d_w_law_456 : decode code 456 = .ok (.laload, 1) := by decide +kernel
theorem d_w_law_457 : decode code 457 = .ok (.iload 6, 2) := by decide +kernel
theorem d_w_law_459 : decode code 459 = .ok (.i2l, 1) := by decide +kernel
theorem d_w_law_460 : decode code 460 = .ok (.lcmp, 1) := by decide +kernel
theorem d_w_law_461 : decode code 461 = .ok (.ifCond .eq 5, 3) := by decide +kernel
theorem d_w_law_464 : decode code 464 = .ok (.iconst 0, 1) := by decide +kernel
theorem d_w_law_465 : decode code 465 = .ok (.ireturn, 1) := by decide +kernel
theorem d_w_law_466 : decode code 466 = .ok (.goto 297, 3) := by decide +kernel
theorem d_w_law_469 : decode code 469 = .ok (.aload_n 1, 1) := by decide +kernel
theorem d_w_law_470 : decode code 470 = .ok (.aload_n 0, 1) := by decide +kernel
theorem d_w_law_471 : decode code 471 = .ok (.iload 4, 2) := by decide +kernel
theorem d_w_law_473 : decode code 473 = .ok (.iconst 1, 1) := by decide +kernel
theorem d_w_law_474 : decode code 474 = .ok (.iadd, 1) := by decide +kernel
theorem d_w_law_475 : decode code 475 = .ok (.iaload, 1) := by decide +kernel
theorem d_w_law_476 : decode code 476 = .ok (.aload_n 0, 1) := by decide +kernel
theorem d_w_law_477 : decode code 477 = .ok (.iload 4, 2) := by decide +kernel
theorem d_w_law_479 : decode code 479 = .ok (.iconst 2, 1) := by decide +kernel
theorem d_w_law_480 : decode code 480 = .ok (.iadd, 1) := by decide +kernel
theorem d_w_law_481 : decode code 481 = .ok (.iaload, 1) := by decide +kernel
theorem d_w_law_482 : decode code 482 = .ok (.ifCond .eq 7, 3) := by decide +kernel
theorem d_w_law_485 : decode code 485 = .ok (.iconst 1, 1) := by decide +kernel
theorem d_w_law_486 : decode code 486 = .ok (.goto 4, 3) := by decide +kernel
theorem d_w_law_489 : decode code 489 = .ok (.iconst 0, 1) := by decide +kernel
theorem d_w_law_490 : decode code 490 = .ok (.aload_n 3, 1) := by decide +kernel
theorem d_w_law_491 : decode code 491 = .ok (.invokestatic 72, 3) := by decide +kernel
theorem d_w_law_494 : decode code 494 = .ok (.istore 5, 2) := by decide +kernel
theorem d_w_law_496 : decode code 496 = .ok (.aload_n 2, 1) := by decide +kernel
theorem d_w_law_497 : decode code 497 = .ok (.aload_n 0, 1) := by decide +kernel
theorem d_w_law_498 : decode code 498 = .ok (.iload 4, 2) := by decide +kernel
theorem d_w_law_500 : decode code 500 = .ok (.iconst 1, 1) := by decide +kernel
theorem d_w_law_501 : decode code 501 = .ok (.iadd, 1) := by decide +kernel
theorem d_w_law_502 : decode code 502 = .ok (.iaload, 1) := by decide +kernel
theorem d_w_law_503 : decode code 503 = .ok (.aload_n 0, 1) := by decide +kernel
theorem d_w_law_504 : decode code 504 = .ok (.iload 4, 2) := by decide +kernel
theorem d_w_law_506 : decode code 506 = .ok (.iconst 2, 1) := by decide +kernel
theorem d_w_law_507 : decode code 507 = .ok (.iadd, 1) := by decide +kernel
theorem d_w_law_508 : decode code 508 = .ok (.iaload, 1) := by decide +kernel
theorem d_w_law_509 : decode code 509 = .ok (.ifCond .eq 7, 3) := by decide +kernel
theorem d_w_law_512 : decode code 512 = .ok (.iconst 1, 1) := by decide +kernel
theorem d_w_law_513 : decode code 513 = .ok (.goto 4, 3) := by decide +kernel
theorem d_w_law_516 : decode code 516 = .ok (.iconst 0, 1) := by decide +kernel
theorem d_w_law_517 : decode code 517 = .ok (.invokevirtual 75, 3) := by decide +kernel
theorem d_w_law_520 : decode code 520 = .ok (.istore 6, 2) := by decide +kernel
theorem d_w_law_522 : decode code 522 = .ok (.aload_n 2, 1) := by decide +kernel
theorem d_w_law_523 : decode code 523 = .ok (.invokevirtual 49, 3) := by decide +kernel
theorem d_w_law_526 : decode code 526 = .ok (.iload 5, 2) := by decide +kernel
theorem d_w_law_528 : decode code 528 = .ok (.if_icmp .eq 5, 3) := by decide +kernel
theorem d_w_law_531 : decode code 531 = .ok (.iconst 0, 1) := by decide +kernel
theorem d_w_law_532 : decode code 532 = .ok (.ireturn, 1) := by decide +kernel
theorem d_w_law_533 : decode code 533 = .ok (.iload 5, 2) := by decide +kernel
theorem d_w_law_535 : decode code 535 = .ok (.ifCond .ne 15, 3) := by decide +kernel
theorem d_w_law_538 : decode code 538 = .ok (.aload_n 3, 1) := by decide +kernel
theorem d_w_law_539 : decode code 539 = .ok (.iconst 0, 1) := by decide +kernel
theorem d_w_law_540 : decode code 540 = .ok (.laload, 1) := by decide +kernel
theorem d_w_law_541 : decode code 541 = .ok (.iload 6, 2) := by decide +kernel
theorem d_w_law_543 : decode code 543 = .ok (.i2l, 1) := by decide +kernel
theorem d_w_law_544 : decode code 544 = .ok (.lcmp, 1) := by decide +kernel
theorem d_w_law_545 : decode code 545 = .ok (.ifCond .eq 5, 3) := by decide +kernel
theorem d_w_law_548 : decode code 548 = .ok (.iconst 0, 1) := by decide +kernel
theorem d_w_law_549 : decode code 549 = .ok (.ireturn, 1) := by decide +kernel
theorem d_w_law_550 : decode code 550 = .ok (.goto 213, 3) := by decide +kernel
theorem d_w_law_553 : decode code 553 = .ok (.aload_n 1, 1) := by decide +kernel
theorem d_w_law_554 : decode code 554 = .ok (.aload_n 0, 1) := by decide +kernel
theorem d_w_law_555 : decode code 555 = .ok (.iload 4, 2) := by decide +kernel
theorem d_w_law_557 : decode code 557 = .ok (.iconst 1, 1) := by decide +kernel
theorem d_w_law_558 : decode code 558 = .ok (.iadd, 1) := by decide +kernel
theorem d_w_law_559 : decode code 559 = .ok (.iaload, 1) := by decide +kernel
theorem d_w_law_560 : decode code 560 = .ok (.invokevirtual 76, 3) := by decide +kernel
theorem d_w_law_563 : decode code 563 = .ok (.aload_n 2, 1) := by decide +kernel
theorem d_w_law_564 : decode code 564 = .ok (.aload_n 0, 1) := by decide +kernel
theorem d_w_law_565 : decode code 565 = .ok (.iload 4, 2) := by decide +kernel
theorem d_w_law_567 : decode code 567 = .ok (.iconst 1, 1) := by decide +kernel
theorem d_w_law_568 : decode code 568 = .ok (.iadd, 1) := by decide +kernel
theorem d_w_law_569 : decode code 569 = .ok (.iaload, 1) := by decide +kernel
theorem d_w_law_570 : decode code 570 = .ok (.invokevirtual 79, 3) := by decide +kernel
theorem d_w_law_573 : decode code 573 = .ok (.if_icmp .eq 190, 3) := by decide +kernel
theorem d_w_law_576 : decode code 576 = .ok (.iconst 0, 1) := by decide +kernel
theorem d_w_law_577 : decode code 577 = .ok (.ireturn, 1) := by decide +kernel
theorem d_w_law_578 : decode code 578 = .ok (.aload_n 1, 1) := by decide +kernel
theorem d_w_law_579 : decode code 579 = .ok (.aload_n 0, 1) := by decide +kernel
theorem d_w_law_580 : decode code 580 = .ok (.iload 4, 2) := by decide +kernel
theorem d_w_law_582 : decode code 582 = .ok (.iconst 1, 1) := by decide +kernel
theorem d_w_law_583 : decode code 583 = .ok (.iadd, 1) := by decide +kernel
theorem d_w_law_584 : decode code 584 = .ok (.iaload, 1) := by decide +kernel
theorem d_w_law_585 : decode code 585 = .ok (.aload_n 3, 1) := by decide +kernel
theorem d_w_law_586 : decode code 586 = .ok (.invokestatic 80, 3) := by decide +kernel
theorem d_w_law_589 : decode code 589 = .ok (.istore 5, 2) := by decide +kernel
theorem d_w_law_591 : decode code 591 = .ok (.aload_n 2, 1) := by decide +kernel
theorem d_w_law_592 : decode code 592 = .ok (.aload_n 0, 1) := by decide +kernel
theorem d_w_law_593 : decode code 593 = .ok (.iload 4, 2) := by decide +kernel
theorem d_w_law_595 : decode code 595 = .ok (.iconst 1, 1) := by decide +kernel
theorem d_w_law_596 : decode code 596 = .ok (.iadd, 1) := by decide +kernel
theorem d_w_law_597 : decode code 597 = .ok (.iaload, 1) := by decide +kernel
theorem d_w_law_598 : decode code 598 = .ok (.invokevirtual 82, 3) := by decide +kernel
theorem d_w_law_601 : decode code 601 = .ok (.istore 6, 2) := by decide +kernel
theorem d_w_law_603 : decode code 603 = .ok (.aload_n 2, 1) := by decide +kernel
theorem d_w_law_604 : decode code 604 = .ok (.invokevirtual 49, 3) := by decide +kernel
theorem d_w_law_607 : decode code 607 = .ok (.iload 5, 2) := by decide +kernel
theorem d_w_law_609 : decode code 609 = .ok (.if_icmp .eq 5, 3) := by decide +kernel
theorem d_w_law_612 : decode code 612 = .ok (.iconst 0, 1) := by decide +kernel
theorem d_w_law_613 : decode code 613 = .ok (.ireturn, 1) := by decide +kernel
theorem d_w_law_614 : decode code 614 = .ok (.iload 5, 2) := by decide +kernel
theorem d_w_law_616 : decode code 616 = .ok (.ifCond .ne 15, 3) := by decide +kernel
theorem d_w_law_619 : decode code 619 = .ok (.aload_n 3, 1) := by decide +kernel
theorem d_w_law_620 : decode code 620 = .ok (.iconst 0, 1) := by decide +kernel
theorem d_w_law_621 : decode code 621 = .ok (.laload, 1) := by decide +kernel
theorem d_w_law_622 : decode code 622 = .ok (.iload 6, 2) := by decide +kernel
theorem d_w_law_624 : decode code 624 = .ok (.i2l, 1) := by decide +kernel
theorem d_w_law_625 : decode code 625 = .ok (.lcmp, 1) := by decide +kernel
theorem d_w_law_626 : decode code 626 = .ok (.ifCond .eq 5, 3) := by decide +kernel
theorem d_w_law_629 : decode code 629 = .ok (.iconst 0, 1) := by decide +kernel
theorem d_w_law_630 : decode code 630 = .ok (.ireturn, 1) := by decide +kernel
theorem d_w_law_631 : decode code 631 = .ok (.goto 132, 3) := by decide +kernel
theorem d_w_law_634 : decode code 634 = .ok (.aload_n 1, 1) := by decide +kernel
theorem d_w_law_635 : decode code 635 = .ok (.aload_n 0, 1) := by decide +kernel
theorem d_w_law_636 : decode code 636 = .ok (.iload 4, 2) := by decide +kernel
theorem d_w_law_638 : decode code 638 = .ok (.iconst 1, 1) := by decide +kernel
theorem d_w_law_639 : decode code 639 = .ok (.iadd, 1) := by decide +kernel
theorem d_w_law_640 : decode code 640 = .ok (.iaload, 1) := by decide +kernel
theorem d_w_law_641 : decode code 641 = .ok (.invokevirtual 83, 3) := by decide +kernel
theorem d_w_law_644 : decode code 644 = .ok (.aload_n 2, 1) := by decide +kernel
theorem d_w_law_645 : decode code 645 = .ok (.aload_n 0, 1) := by decide +kernel
theorem d_w_law_646 : decode code 646 = .ok (.iload 4, 2) := by decide +kernel
theorem d_w_law_648 : decode code 648 = .ok (.iconst 1, 1) := by decide +kernel
theorem d_w_law_649 : decode code 649 = .ok (.iadd, 1) := by decide +kernel
theorem d_w_law_650 : decode code 650 = .ok (.iaload, 1) := by decide +kernel
theorem d_w_law_651 : decode code 651 = .ok (.invokevirtual 86, 3) := by decide +kernel
theorem d_w_law_654 : decode code 654 = .ok (.if_icmp .eq 109, 3) := by decide +kernel
theorem d_w_law_657 : decode code 657 = .ok (.iconst 0, 1) := by decide +kernel
theorem d_w_law_658 : decode code 658 = .ok (.ireturn, 1) := by decide +kernel
theorem d_w_law_659 : decode code 659 = .ok (.aload_n 1, 1) := by decide +kernel
theorem d_w_law_660 : decode code 660 = .ok (.aload_n 0, 1) := by decide +kernel
theorem d_w_law_661 : decode code 661 = .ok (.iload 4, 2) := by decide +kernel
theorem d_w_law_663 : decode code 663 = .ok (.iconst 1, 1) := by decide +kernel
theorem d_w_law_664 : decode code 664 = .ok (.iadd, 1) := by decide +kernel
theorem d_w_law_665 : decode code 665 = .ok (.iaload, 1) := by decide +kernel
theorem d_w_law_666 : decode code 666 = .ok (.aload_n 0, 1) := by decide +kernel
theorem d_w_law_667 : decode code 667 = .ok (.iload 4, 2) := by decide +kernel
theorem d_w_law_669 : decode code 669 = .ok (.iconst 2, 1) := by decide +kernel
theorem d_w_law_670 : decode code 670 = .ok (.iadd, 1) := by decide +kernel
theorem d_w_law_671 : decode code 671 = .ok (.iaload, 1) := by decide +kernel
theorem d_w_law_672 : decode code 672 = .ok (.aload_n 3, 1) := by decide +kernel
theorem d_w_law_673 : decode code 673 = .ok (.invokestatic 87, 3) := by decide +kernel
theorem d_w_law_676 : decode code 676 = .ok (.istore 5, 2) := by decide +kernel
theorem d_w_law_678 : decode code 678 = .ok (.aload_n 2, 1) := by decide +kernel
theorem d_w_law_679 : decode code 679 = .ok (.aload_n 0, 1) := by decide +kernel
theorem d_w_law_680 : decode code 680 = .ok (.iload 4, 2) := by decide +kernel
theorem d_w_law_682 : decode code 682 = .ok (.iconst 1, 1) := by decide +kernel
theorem d_w_law_683 : decode code 683 = .ok (.iadd, 1) := by decide +kernel
theorem d_w_law_684 : decode code 684 = .ok (.iaload, 1) := by decide +kernel
theorem d_w_law_685 : decode code 685 = .ok (.aload_n 0, 1) := by decide +kernel
theorem d_w_law_686 : decode code 686 = .ok (.iload 4, 2) := by decide +kernel
theorem d_w_law_688 : decode code 688 = .ok (.iconst 2, 1) := by decide +kernel
theorem d_w_law_689 : decode code 689 = .ok (.iadd, 1) := by decide +kernel
theorem d_w_law_690 : decode code 690 = .ok (.iaload, 1) := by decide +kernel
theorem d_w_law_691 : decode code 691 = .ok (.invokevirtual 89, 3) := by decide +kernel
theorem d_w_law_694 : decode code 694 = .ok (.istore 6, 2) := by decide +kernel
theorem d_w_law_696 : decode code 696 = .ok (.aload_n 2, 1) := by decide +kernel
theorem d_w_law_697 : decode code 697 = .ok (.invokevirtual 49, 3) := by decide +kernel
theorem d_w_law_700 : decode code 700 = .ok (.iload 5, 2) := by decide +kernel
theorem d_w_law_702 : decode code 702 = .ok (.if_icmp .eq 5, 3) := by decide +kernel
theorem d_w_law_705 : decode code 705 = .ok (.iconst 0, 1) := by decide +kernel
theorem d_w_law_706 : decode code 706 = .ok (.ireturn, 1) := by decide +kernel
theorem d_w_law_707 : decode code 707 = .ok (.iload 5, 2) := by decide +kernel
theorem d_w_law_709 : decode code 709 = .ok (.ifCond .ne 15, 3) := by decide +kernel
theorem d_w_law_712 : decode code 712 = .ok (.aload_n 3, 1) := by decide +kernel
theorem d_w_law_713 : decode code 713 = .ok (.iconst 0, 1) := by decide +kernel
theorem d_w_law_714 : decode code 714 = .ok (.laload, 1) := by decide +kernel
theorem d_w_law_715 : decode code 715 = .ok (.iload 6, 2) := by decide +kernel
theorem d_w_law_717 : decode code 717 = .ok (.i2l, 1) := by decide +kernel
theorem d_w_law_718 : decode code 718 = .ok (.lcmp, 1) := by decide +kernel
theorem d_w_law_719 : decode code 719 = .ok (.ifCond .eq 5, 3) := by decide +kernel
theorem d_w_law_722 : decode code 722 = .ok (.iconst 0, 1) := by decide +kernel
theorem d_w_law_723 : decode code 723 = .ok (.ireturn, 1) := by decide +kernel
theorem d_w_law_724 : decode code 724 = .ok (.goto 39, 3) := by decide +kernel
theorem d_w_law_727 : decode code 727 = .ok (.aload_n 1, 1) := by decide +kernel
theorem d_w_law_728 : decode code 728 = .ok (.invokevirtual 90, 3) := by decide +kernel
theorem d_w_law_731 : decode code 731 = .ok (.aload_n 2, 1) := by decide +kernel
theorem d_w_law_732 : decode code 732 = .ok (.invokevirtual 93, 3) := by decide +kernel
theorem d_w_law_735 : decode code 735 = .ok (.goto 28, 3) := by decide +kernel
theorem d_w_law_738 : decode code 738 = .ok (.aload_n 1, 1) := by decide +kernel
theorem d_w_law_739 : decode code 739 = .ok (.aload_n 0, 1) := by decide +kernel
theorem d_w_law_740 : decode code 740 = .ok (.iload 4, 2) := by decide +kernel
theorem d_w_law_742 : decode code 742 = .ok (.iconst 1, 1) := by decide +kernel
theorem d_w_law_743 : decode code 743 = .ok (.iadd, 1) := by decide +kernel
theorem d_w_law_744 : decode code 744 = .ok (.iaload, 1) := by decide +kernel
theorem d_w_law_745 : decode code 745 = .ok (.invokevirtual 94, 3) := by decide +kernel
theorem d_w_law_748 : decode code 748 = .ok (.aload_n 2, 1) := by decide +kernel
theorem d_w_law_749 : decode code 749 = .ok (.aload_n 0, 1) := by decide +kernel
theorem d_w_law_750 : decode code 750 = .ok (.iload 4, 2) := by decide +kernel
theorem d_w_law_752 : decode code 752 = .ok (.iconst 1, 1) := by decide +kernel
theorem d_w_law_753 : decode code 753 = .ok (.iadd, 1) := by decide +kernel
theorem d_w_law_754 : decode code 754 = .ok (.iaload, 1) := by decide +kernel
theorem d_w_law_755 : decode code 755 = .ok (.invokevirtual 97, 3) := by decide +kernel
theorem d_w_law_758 : decode code 758 = .ok (.if_icmp .eq 5, 3) := by decide +kernel
theorem d_w_law_761 : decode code 761 = .ok (.iconst 0, 1) := by decide +kernel
theorem d_w_law_762 : decode code 762 = .ok (.ireturn, 1) := by decide +kernel
theorem d_w_law_763 : decode code 763 = .ok (.iinc 4 4, 3) := by decide +kernel
theorem d_w_law_766 : decode code 766 = .ok (.goto (-743), 3) := by decide +kernel
theorem d_w_law_769 : decode code 769 = .ok (.iconst 1, 1) := by decide +kernel
theorem d_w_law_770 : decode code 770 = .ok (.ireturn, 1) := by decide +kernel
end
section
/-! 05: OrderLine's world: its cells, its rows, how its methods begin, end and are called -/
def R_t : String := "OrderLine$Stamp"
def F_t : u_T := fun k => match k with
  | 0 => ("OrderLine$Stamp", "number", "I", true)
  | 1 => ("OrderLine$Stamp", "label", "J", false)
  | 2 => ("OrderLine$Stamp", "before", "LOrderLine$Stamp;", false)
  | 3 => ("OrderLine$Stamp", "next", "LOrderLine$Stamp;", false)
  | _ => ("OrderLine$Stamp", "there", "Z", false)
def t_t : Nat → FieldType := fun k => match k with
  | 0 => .int
  | 1 => .long
  | 2 => .object "OrderLine$Stamp"
  | 3 => .object "OrderLine$Stamp"
  | _ => .boolean
def R_o : String := "OrderLine"
def F_o : u_T := fun k => match k with
  | 0 => ("OrderLine", "stamps", "[LOrderLine$Stamp;", true)
  | 1 => ("OrderLine", "free", "[I", true)
  | 2 => ("OrderLine", "frees", "I", false)
  | 3 => ("OrderLine", "last", "LOrderLine$Stamp;", false)
  | _ => ("OrderLine", "many", "I", false)
def t_o : Nat → FieldType := fun k => match k with
  | 0 => .array (.object "OrderLine$Stamp")
  | 1 => .array .int
  | 2 => .int
  | 3 => .object "OrderLine$Stamp"
  | _ => .int
def R_m : String := "OrderLineModel"
def F_m : u_T := fun k => match k with
  | 0 => ("OrderLineModel", "thrown", "I", false)
  | 1 => ("OrderLineModel", "line", "[I", true)
  | 2 => ("OrderLineModel", "many", "I", false)
  | _ => ("OrderLineModel", "aside", "[I", true)
def t_m : Nat → FieldType := fun k => match k with
  | 0 => .int
  | 1 => .array .int
  | 2 => .int
  | _ => .array .int
theorem i_t : ∀ w ∈ u_ws R_t F_t 5, w ∈ GW := by decide +kernel
theorem i_o : ∀ w ∈ u_ws R_o F_o 5, w ∈ GW := by decide +kernel
theorem i_m : ∀ w ∈ u_ws R_m F_m 4, w ∈ GW := by decide +kernel
theorem n_t : ∀ a, a < 5 → ∀ b, b < 5 → a ≠ b → (F_t a).2.1 ≠ (F_t b).2.1 := by decide +kernel
theorem n_o : ∀ a, a < 5 → ∀ b, b < 5 → a ≠ b → (F_o a).2.1 ≠ (F_o b).2.1 := by decide +kernel
theorem n_m : ∀ a, a < 4 → ∀ b, b < 4 → a ≠ b → (F_m a).2.1 ≠ (F_m b).2.1 := by decide +kernel
theorem t_t_ok : ∀ k, k < 5 → parseFieldDescriptor (F_t k).2.2.1 = some (t_t k) := by decide +kernel
theorem t_o_ok : ∀ k, k < 5 → parseFieldDescriptor (F_o k).2.2.1 = some (t_o k) := by decide +kernel
theorem t_m_ok : ∀ k, k < 4 → parseFieldDescriptor (F_m k).2.2.1 = some (t_m k) := by decide +kernel
def ol_cl : List vw_C := [(R_t, F_t, 5), (R_o, F_o, 5), (R_m, F_m, 4)]
/-- where OrderLine's cells lie: the classes' numbers, the object, its two arrays, the stamps, the arrays' classes -/
abbrev OG : Type := va_G × Nat × Nat × Nat × (Nat → Nat) × ClassId × ClassId × List Nat
def ol_D (G : OG) : va_G := G.1
def ol_h (G : OG) : Nat := G.2.1
def ol_s (G : OG) : Nat := G.2.2.1
def ol_f (G : OG) : Nat := G.2.2.2.1
def ol_a (G : OG) : Nat → Nat := G.2.2.2.2.1
def ol_cs (G : OG) : ClassId := G.2.2.2.2.2.1
def ol_cf (G : OG) : ClassId := G.2.2.2.2.2.2.1
/-- the numbers below 1000 (kept as a variable, so that no check runs through them) -/
def ol_r (G : OG) : List Nat := G.2.2.2.2.2.2.2
/-- what they hold: labels, before, next, there; the heap of free numbers, how many; the last; how many stamps are there -/
abbrev OS : Type := (Nat → Nat) × (Nat → Option Nat) × (Nat → Option Nat) × (Nat → Bool) × (Nat → Nat) × Nat × Nat × Nat
def ol_rf (G : OG) (o : Option Nat) : Value := match o with
  | none => .null
  | some j => .ref (ol_a G j)
def ol_z (b : Bool) : Int32 := if b then 1 else 0
def ol_fs (G : OG) (L : Nat → Nat) (b n : Nat → Option Nat) (t : Nat → Bool) (k : Nat) : List Value := [.int (nI k), .long (lN (L k)), ol_rf G (b k), ol_rf G (n k), .int (ol_z (t k))]
def ol_st (G : OG) (L : Nat → Nat) (b n : Nat → Option Nat) (t : Nat → Bool) (k : Nat) : Nat × va_E := (ol_a G k, .inr (0, ol_fs G L b n t k))
def ol_os (G : OG) (nf la mn : Nat) : List Value := [.ref (ol_s G), .ref (ol_f G), .int (nI nf), .ref (ol_a G la), .int (nI mn)]
def ol_C (G : OG) (u : OS) : va_W := match u with
  | (L, b, n, t, F, nf, la, mn) => (ol_h G, .inr (1, ol_os G nf la mn)) :: (ol_s G, .inl (ol_cs G, 1000, .inr (.inr (.inr (.inr (fun k => some (ol_a G k))))))) :: (ol_f G, .inl (ol_cf G, 1000, .inl (fun i => nI (F i)))) :: (ol_r G).map (ol_st G L b n t)
def ol_ad (G : OG) : Nat → Nat := fun i => match i with
  | 0 => ol_h G
  | 1 => ol_s G
  | 2 => ol_f G
  | k + 3 => ol_a G k
def ol_A (G : OG) : Nat → Prop := fun q => ∃ i, i < 1003 ∧ ol_ad G i = q
def ol_ok (G : OG) : Prop := ol_r G = List.range 1000 ∧ ∀ i j, i < 1003 → j < 1003 → ol_ad G i = ol_ad G j → i = j
def ol_P (G : OG) (u : OS) (H : Heap) : Prop := va_P (ol_D G) ol_cl (ol_C G u) H
theorem rg_get {α : Type} (f : Nat → α) (n k : Nat) : ((List.range n).map f)[k]? = if k < n then some (f k) else none := by
  rw [List.getElem?_map]
  by_cases h : k < n
  · rw [List.getElem?_range h, if_pos h]; rfl
  · rw [List.getElem?_eq_none (by simp; omega), if_neg h]; rfl
theorem rg_set {α : Type} (f g : Nat → α) (n k : Nat) (v : α) (h1 : v = g k) (h2 : ∀ j, j ≠ k → g j = f j) : ((List.range n).map f).set k v = (List.range n).map g := by
  apply List.ext_getElem?
  intro j
  rw [List.getElem?_set, rg_get, rg_get]
  by_cases hj : k = j
  · subst hj
    by_cases hk : k < n
    · simp [hk, h1]
    · simp [hk]
  · simp only [hj, if_false]
    by_cases hk : j < n
    · simp [hk, h2 j (fun e => hj e.symm)]
    · simp [hk]
theorem ol_get {G : OG} {L : Nat → Nat} {b n : Nat → Option Nat} {t : Nat → Bool} {F : Nat → Nat} {nf la mn k : Nat} (hG : ol_ok G) (hk : k < 1000) : (ol_C G (L, b, n, t, F, nf, la, mn))[k + 3]? = some (ol_a G k, .inr (0, ol_fs G L b n t k)) := by
  show ((ol_r G).map (ol_st G L b n t))[k]? = _
  rw [hG.1, rg_get, if_pos hk]; rfl
theorem ol_key {G : OG} (hG : ol_ok G) {u : OS} {i : Nat} {q : Nat × va_E} (h : (ol_C G u)[i]? = some q) : i < 1003 ∧ q.1 = ol_ad G i := by
  obtain ⟨L, b, n, t, F, nf, la, mn⟩ := u
  match i, h with
  | 0, h => cases h; exact ⟨by decide, rfl⟩
  | 1, h => cases h; exact ⟨by decide, rfl⟩
  | 2, h => cases h; exact ⟨by decide, rfl⟩
  | k + 3, h =>
    have h : ((ol_r G).map (ol_st G L b n t))[k]? = some q := h
    rw [hG.1, rg_get] at h
    by_cases hk : k < 1000
    · rw [if_pos hk] at h
      cases h
      exact ⟨by omega, rfl⟩
    · rw [if_neg hk] at h; cases h
theorem ol_DD {G : OG} (hG : ol_ok G) (u : OS) : va_D (ol_A G) (ol_C G u) :=
  ⟨fun i j p q hi hj e => hG.2 i j (ol_key hG hi).1 (ol_key hG hj).1 (by rw [← (ol_key hG hi).2, ← (ol_key hG hj).2]; exact e), fun k q h => ⟨k, (ol_key hG h).1, (ol_key hG h).2.symm⟩⟩
theorem ol_set {G : OG} {L L' : Nat → Nat} {b b' n n' : Nat → Option Nat} {t t' : Nat → Bool} {F : Nat → Nat} {nf la mn k : Nat} {fs : List Value} (hG : ol_ok G) (h1 : fs = ol_fs G L' b' n' t' k) (h2 : ∀ j, j ≠ k → ol_fs G L' b' n' t' j = ol_fs G L b n t j) : (ol_C G (L, b, n, t, F, nf, la, mn)).set (k + 3) (ol_a G k, .inr (0, fs)) = ol_C G (L', b', n', t', F, nf, la, mn) := by
  show _ :: _ :: _ :: (((ol_r G).map (ol_st G L b n t)).set k (ol_a G k, .inr (0, fs))) = _ :: _ :: _ :: (ol_r G).map (ol_st G L' b' n' t')
  rw [hG.1, rg_set (ol_st G L b n t) (ol_st G L' b' n' t') 1000 k _ (by rw [h1]; rfl) (fun j hj => by show (_, _) = (_, _); rw [h2 j hj])]
theorem ol_inj {G : OG} (hG : ol_ok G) {i j : Nat} (hi : i < 1000) (hj : j < 1000) (h : ol_a G i = ol_a G j) : i = j := by
  have := hG.2 (i + 3) (j + 3) (by omega) (by omega) h
  omega
theorem ol_P.kept {G : OG} (hG : ol_ok G) {u : OS} {H H1 : Heap} (h : ol_P G u H) (hq : ∀ q, ol_A G q → H1[q]? = H[q]?) : ol_P G u H1 := va_P.kept h (fun k q hk => hq q.1 ⟨k, (ol_key hG hk).1, (ol_key hG hk).2.symm⟩)
theorem ol_P.lt {G : OG} (hG : ol_ok G) {u : OS} {H : Heap} (h : ol_P G u H) {q : Nat} (hq : ol_A G q) : q < H.size := by
  obtain ⟨i, hi, rfl⟩ := hq
  obtain ⟨L, b, n, t, F, nf, la, mn⟩ := u
  match i, hi with
  | 0, _ => exact (h 0 _ rfl).lt
  | 1, _ => exact (h 1 _ rfl).lt
  | 2, _ => exact (h 2 _ rfl).lt
  | k + 3, hi => exact (h (k + 3) _ (ol_get hG (by omega))).lt
/-- the nest's links, which no caller's words hand on -/
def ol_nest : List Cond := [.fieldLinkNest "OrderLine" 78 "OrderLine$Stamp" "number" "I" "OrderLine", .fieldLinkNest "OrderLine" 49 "OrderLine$Stamp" "label" "J" "OrderLine", .fieldLinkNest "OrderLine" 53 "OrderLine$Stamp" "before" "LOrderLine$Stamp;" "OrderLine", .fieldLinkNest "OrderLine" 44 "OrderLine$Stamp" "next" "LOrderLine$Stamp;" "OrderLine", .fieldLinkNest "OrderLine" 26 "OrderLine$Stamp" "there" "Z" "OrderLine"]
def ol_N (U : State) : Prop := ∀ w ∈ ol_nest, va_Nw w U
theorem ol_N.warm {s U : State} (hW : s.WarmedH U.vm) (h : ol_N s) : ol_N U := by
  intro w hw
  have hz := h w hw
  simp only [ol_nest, List.mem_cons, List.not_mem_nil, or_false] at hw
  rcases hw with rfl | rfl | rfl | rfl | rfl <;> exact va_Nw.warmF hW hz
theorem ol_N.same {u U : State} (e : u.vm = U.vm) (h : ol_N u) : ol_N U := by
  intro w hw
  have hz := h w hw
  simp only [ol_nest, List.mem_cons, List.not_mem_nil, or_false] at hw
  rcases hw with rfl | rfl | rfl | rfl | rfl <;> exact va_Nw.same rfl e hz
def ol_ty (G : OG) : List (ClassId × FieldType) := [(ol_cs G, .object "OrderLine$Stamp"), (ol_cf G, .int)]
/-- what holds all through a method of OrderLine -/
def ol_X (p : Program) (s : State) (m : MethodId) (args : Array Value) (c : Code) (cc : ByteArray) (G : OG) : Prop :=
  p.tables.exec = Jvm.exec ∧ c.code = cc ∧ s.vm.findClass "OrderLine" = some m.cls ∧ (∀ w ∈ GW, w.before args s = true) ∧ va_K (ol_D G) ol_cl (ol_ty G) s ∧ ol_N s ∧ ol_ok G
/-- a method's start -/
def ol_U (G : OG) (u : OS) (U : State) : Prop := va_K (ol_D G) ol_cl (ol_ty G) U ∧ ol_N U ∧ ol_P G u U.heap
section OLR
variable {p : Program} {l : Launch} {e : Env} {R : Room} {s : State} {m : MethodId} {args : Array Value} {below : List Frame} {meth : Method} {c : Code} {H : Heap} {locs : List Loc} {cells slots : Nat} {Q : State → Prop}
variable {cc : ByteArray} {pc : Nat} {ls : Array Slot} {rest : List Value} {G : OG} {L : Nat → Nat} {b n : Nat → Option Nat} {t : Nat → Bool} {F : Nat → Nat} {nf la mn k : Nat}
theorem ol_X.nw {w : Cond} (X : ol_X p s m args c cc G) (hw : w ∈ ol_nest) (ho : w.onTables = true) : w.before args s = true := va_Nw.use ho (X.2.2.2.2.2.1 w hw)
-- getfield of a stamp
theorem g_number (X : ol_X p s m args c cc G) (hP : ol_P G (L, b, n, t, F, nf, la, mn) H) (hk : k < 1000) (hd : decode cc pc = .ok (.getfield 78, 3))
    (kk : W p l e R s m args below meth c H locs cells slots Q (F0 m (pc + 3) ls (.int (nI k) :: rest))) : W p l e R s m args below meth c H locs cells slots Q (F0 m pc ls (.ref (ol_a G k) :: rest)) :=
  va_getN (own := "OrderLine") (ref := "OrderLine$Stamp") (host := "OrderLine") (D := ol_D G) (cl := ol_cl) (ci := 0) (C := R_t) (T := F_t) (N := 5) X.1 X.2.1 X.2.2.2.1 i_t X.2.2.1 X.2.2.2.2.1 hP (k + 3) (ol_get X.2.2.2.2.2.2 hk) rfl 0 (by decide) (X.nw (by decide) rfl) (fun _ h => h) rfl hd kk
theorem g_label (X : ol_X p s m args c cc G) (hP : ol_P G (L, b, n, t, F, nf, la, mn) H) (hk : k < 1000) (hd : decode cc pc = .ok (.getfield 49, 3))
    (kk : W p l e R s m args below meth c H locs cells slots Q (F0 m (pc + 3) ls (.long (lN (L k)) :: rest))) : W p l e R s m args below meth c H locs cells slots Q (F0 m pc ls (.ref (ol_a G k) :: rest)) :=
  va_getN (own := "OrderLine") (ref := "OrderLine$Stamp") (host := "OrderLine") (D := ol_D G) (cl := ol_cl) (ci := 0) (C := R_t) (T := F_t) (N := 5) X.1 X.2.1 X.2.2.2.1 i_t X.2.2.1 X.2.2.2.2.1 hP (k + 3) (ol_get X.2.2.2.2.2.2 hk) rfl 1 (by decide) (X.nw (by decide) rfl) (fun _ h => h) rfl hd kk
theorem g_before (X : ol_X p s m args c cc G) (hP : ol_P G (L, b, n, t, F, nf, la, mn) H) (hk : k < 1000) {o : Option Nat} (ho : b k = o) (hd : decode cc pc = .ok (.getfield 53, 3))
    (kk : W p l e R s m args below meth c H locs cells slots Q (F0 m (pc + 3) ls (ol_rf G o :: rest))) : W p l e R s m args below meth c H locs cells slots Q (F0 m pc ls (.ref (ol_a G k) :: rest)) := by
  subst ho
  exact va_getN (own := "OrderLine") (ref := "OrderLine$Stamp") (host := "OrderLine") (D := ol_D G) (cl := ol_cl) (ci := 0) (C := R_t) (T := F_t) (N := 5) X.1 X.2.1 X.2.2.2.1 i_t X.2.2.1 X.2.2.2.2.1 hP (k + 3) (ol_get X.2.2.2.2.2.2 hk) rfl 2 (by decide) (X.nw (by decide) rfl) (fun _ h => h) rfl hd kk
theorem g_next (X : ol_X p s m args c cc G) (hP : ol_P G (L, b, n, t, F, nf, la, mn) H) (hk : k < 1000) {o : Option Nat} (ho : n k = o) (hd : decode cc pc = .ok (.getfield 44, 3))
    (kk : W p l e R s m args below meth c H locs cells slots Q (F0 m (pc + 3) ls (ol_rf G o :: rest))) : W p l e R s m args below meth c H locs cells slots Q (F0 m pc ls (.ref (ol_a G k) :: rest)) := by
  subst ho
  exact va_getN (own := "OrderLine") (ref := "OrderLine$Stamp") (host := "OrderLine") (D := ol_D G) (cl := ol_cl) (ci := 0) (C := R_t) (T := F_t) (N := 5) X.1 X.2.1 X.2.2.2.1 i_t X.2.2.1 X.2.2.2.2.1 hP (k + 3) (ol_get X.2.2.2.2.2.2 hk) rfl 3 (by decide) (X.nw (by decide) rfl) (fun _ h => h) rfl hd kk
theorem g_there (X : ol_X p s m args c cc G) (hP : ol_P G (L, b, n, t, F, nf, la, mn) H) (hk : k < 1000) {o : Bool} (ho : t k = o) (hd : decode cc pc = .ok (.getfield 26, 3))
    (kk : W p l e R s m args below meth c H locs cells slots Q (F0 m (pc + 3) ls (.int (ol_z o) :: rest))) : W p l e R s m args below meth c H locs cells slots Q (F0 m pc ls (.ref (ol_a G k) :: rest)) := by
  subst ho
  exact va_getN (own := "OrderLine") (ref := "OrderLine$Stamp") (host := "OrderLine") (D := ol_D G) (cl := ol_cl) (ci := 0) (C := R_t) (T := F_t) (N := 5) X.1 X.2.1 X.2.2.2.1 i_t X.2.2.1 X.2.2.2.2.1 hP (k + 3) (ol_get X.2.2.2.2.2.2 hk) rfl 4 (by decide) (X.nw (by decide) rfl) (fun _ h => h) rfl hd kk
-- putfield of a stamp
theorem p_label (X : ol_X p s m args c cc G) (hP : ol_P G (L, b, n, t, F, nf, la, mn) H) (hS : va_S (ol_A G) s.heap H locs) (hk : k < 1000) {v : Nat} (hd : decode cc pc = .ok (.putfield 49, 3))
    (kk : ∀ (H1 : Heap) (locs1 : List Loc), ol_P G (va_up L k v, b, n, t, F, nf, la, mn) H1 → va_S (ol_A G) s.heap H1 locs1 → W p l e R s m args below meth c H1 locs1 cells slots Q (F0 m (pc + 3) ls rest)) : W p l e R s m args below meth c H locs cells slots Q (F0 m pc ls (.long (lN v) :: .ref (ol_a G k) :: rest)) := by
  refine va_putN (own := "OrderLine") (ref := "OrderLine$Stamp") (host := "OrderLine") (D := ol_D G) (cl := ol_cl) (ci := 0) (v := .long (lN v)) (ty := .long) (C := R_t) (T := F_t) (N := 5) X.1 X.2.1 X.2.2.2.1 i_t t_t t_t_ok n_t X.2.2.1 X.2.2.2.2.1 hP (ol_DD X.2.2.2.2.2.2 _) hS (k + 3) (ol_get X.2.2.2.2.2.2 hk) rfl 1 (by decide) (X.nw (by decide) rfl) (fun _ h => h) rfl (by decide +kernel) rfl rfl (Nat.le_of_ble_eq_true rfl) hd (fun H1 locs1 hP1 _ hS1 => kk H1 locs1 ?_ hS1)
  rw [ol_set X.2.2.2.2.2.2 (L' := va_up L k v) (b' := b) (n' := n) (t' := t) (by simp [ol_fs, va_up]) (fun j hj => by simp [ol_fs, va_up, hj])] at hP1
  exact hP1
theorem p_before (X : ol_X p s m args c cc G) (hP : ol_P G (L, b, n, t, F, nf, la, mn) H) (hS : va_S (ol_A G) s.heap H locs) (hk : k < 1000) {o : Option Nat} (hd : decode cc pc = .ok (.putfield 53, 3))
    (kk : ∀ (H1 : Heap) (locs1 : List Loc), ol_P G (L, va_up b k o, n, t, F, nf, la, mn) H1 → va_S (ol_A G) s.heap H1 locs1 → W p l e R s m args below meth c H1 locs1 cells slots Q (F0 m (pc + 3) ls rest)) : W p l e R s m args below meth c H locs cells slots Q (F0 m pc ls (ol_rf G o :: .ref (ol_a G k) :: rest)) := by
  refine va_putN (own := "OrderLine") (ref := "OrderLine$Stamp") (host := "OrderLine") (D := ol_D G) (cl := ol_cl) (ci := 0) (v := ol_rf G o) (ty := .object "OrderLine$Stamp") (C := R_t) (T := F_t) (N := 5) X.1 X.2.1 X.2.2.2.1 i_t t_t t_t_ok n_t X.2.2.1 X.2.2.2.2.1 hP (ol_DD X.2.2.2.2.2.2 _) hS (k + 3) (ol_get X.2.2.2.2.2.2 hk) rfl 2 (by decide) (X.nw (by decide) rfl) (fun _ h => h) rfl (by decide +kernel) (by cases o <;> rfl) (by cases o <;> rfl) (Nat.le_of_ble_eq_true rfl) hd (fun H1 locs1 hP1 _ hS1 => kk H1 locs1 ?_ hS1)
  rw [ol_set X.2.2.2.2.2.2 (L' := L) (b' := va_up b k o) (n' := n) (t' := t) (by simp [ol_fs, va_up]) (fun j hj => by simp [ol_fs, va_up, hj])] at hP1
  exact hP1
theorem p_next (X : ol_X p s m args c cc G) (hP : ol_P G (L, b, n, t, F, nf, la, mn) H) (hS : va_S (ol_A G) s.heap H locs) (hk : k < 1000) {o : Option Nat} (hd : decode cc pc = .ok (.putfield 44, 3))
    (kk : ∀ (H1 : Heap) (locs1 : List Loc), ol_P G (L, b, va_up n k o, t, F, nf, la, mn) H1 → va_S (ol_A G) s.heap H1 locs1 → W p l e R s m args below meth c H1 locs1 cells slots Q (F0 m (pc + 3) ls rest)) : W p l e R s m args below meth c H locs cells slots Q (F0 m pc ls (ol_rf G o :: .ref (ol_a G k) :: rest)) := by
  refine va_putN (own := "OrderLine") (ref := "OrderLine$Stamp") (host := "OrderLine") (D := ol_D G) (cl := ol_cl) (ci := 0) (v := ol_rf G o) (ty := .object "OrderLine$Stamp") (C := R_t) (T := F_t) (N := 5) X.1 X.2.1 X.2.2.2.1 i_t t_t t_t_ok n_t X.2.2.1 X.2.2.2.2.1 hP (ol_DD X.2.2.2.2.2.2 _) hS (k + 3) (ol_get X.2.2.2.2.2.2 hk) rfl 3 (by decide) (X.nw (by decide) rfl) (fun _ h => h) rfl (by decide +kernel) (by cases o <;> rfl) (by cases o <;> rfl) (Nat.le_of_ble_eq_true rfl) hd (fun H1 locs1 hP1 _ hS1 => kk H1 locs1 ?_ hS1)
  rw [ol_set X.2.2.2.2.2.2 (L' := L) (b' := b) (n' := va_up n k o) (t' := t) (by simp [ol_fs, va_up]) (fun j hj => by simp [ol_fs, va_up, hj])] at hP1
  exact hP1
theorem p_there (X : ol_X p s m args c cc G) (hP : ol_P G (L, b, n, t, F, nf, la, mn) H) (hS : va_S (ol_A G) s.heap H locs) (hk : k < 1000) (o : Bool) {x : Int32} (hx : x = ol_z o) (hd : decode cc pc = .ok (.putfield 26, 3))
    (kk : ∀ (H1 : Heap) (locs1 : List Loc), ol_P G (L, b, n, va_up t k o, F, nf, la, mn) H1 → va_S (ol_A G) s.heap H1 locs1 → W p l e R s m args below meth c H1 locs1 cells slots Q (F0 m (pc + 3) ls rest)) : W p l e R s m args below meth c H locs cells slots Q (F0 m pc ls (.int x :: .ref (ol_a G k) :: rest)) := by
  subst hx
  refine va_putN (own := "OrderLine") (ref := "OrderLine$Stamp") (host := "OrderLine") (D := ol_D G) (cl := ol_cl) (ci := 0) (v := .int (ol_z o)) (ty := .boolean) (C := R_t) (T := F_t) (N := 5) X.1 X.2.1 X.2.2.2.1 i_t t_t t_t_ok n_t X.2.2.1 X.2.2.2.2.1 hP (ol_DD X.2.2.2.2.2.2 _) hS (k + 3) (ol_get X.2.2.2.2.2.2 hk) rfl 4 (by decide) (X.nw (by decide) rfl) (fun _ h => h) rfl (by decide +kernel) (by cases o <;> rfl) (by cases o <;> rfl) (Nat.le_of_ble_eq_true rfl) hd (fun H1 locs1 hP1 _ hS1 => kk H1 locs1 ?_ hS1)
  rw [ol_set X.2.2.2.2.2.2 (L' := L) (b' := b) (n' := n) (t' := va_up t k o) (by simp [ol_fs, va_up]) (fun j hj => by simp [ol_fs, va_up, hj])] at hP1
  exact hP1
-- the object's own fields
theorem g_stamps (X : ol_X p s m args c cc G) (hP : ol_P G (L, b, n, t, F, nf, la, mn) H) (hd : decode cc pc = .ok (.getfield 11, 3))
    (kk : W p l e R s m args below meth c H locs cells slots Q (F0 m (pc + 3) ls (.ref (ol_s G) :: rest))) : W p l e R s m args below meth c H locs cells slots Q (F0 m pc ls (.ref (ol_h G) :: rest)) :=
  va_get (own := "OrderLine") (ref := "OrderLine") (D := ol_D G) (cl := ol_cl) (ci := 1) (C := R_o) (T := F_o) (N := 5) X.1 X.2.1 X.2.2.2.1 i_o X.2.2.1 X.2.2.2.2.1 hP 0 rfl rfl 0 (by decide) (X.2.2.2.1 _ fl_o_11) (fun _ h => h) rfl hd kk
theorem g_free (X : ol_X p s m args c cc G) (hP : ol_P G (L, b, n, t, F, nf, la, mn) H) (hd : decode cc pc = .ok (.getfield 15, 3))
    (kk : W p l e R s m args below meth c H locs cells slots Q (F0 m (pc + 3) ls (.ref (ol_f G) :: rest))) : W p l e R s m args below meth c H locs cells slots Q (F0 m pc ls (.ref (ol_h G) :: rest)) :=
  va_get (own := "OrderLine") (ref := "OrderLine") (D := ol_D G) (cl := ol_cl) (ci := 1) (C := R_o) (T := F_o) (N := 5) X.1 X.2.1 X.2.2.2.1 i_o X.2.2.1 X.2.2.2.2.1 hP 0 rfl rfl 1 (by decide) (X.2.2.2.1 _ fl_o_15) (fun _ h => h) rfl hd kk
theorem g_frees (X : ol_X p s m args c cc G) (hP : ol_P G (L, b, n, t, F, nf, la, mn) H) (hd : decode cc pc = .ok (.getfield 34, 3))
    (kk : W p l e R s m args below meth c H locs cells slots Q (F0 m (pc + 3) ls (.int (nI nf) :: rest))) : W p l e R s m args below meth c H locs cells slots Q (F0 m pc ls (.ref (ol_h G) :: rest)) :=
  va_get (own := "OrderLine") (ref := "OrderLine") (D := ol_D G) (cl := ol_cl) (ci := 1) (C := R_o) (T := F_o) (N := 5) X.1 X.2.1 X.2.2.2.1 i_o X.2.2.1 X.2.2.2.2.1 hP 0 rfl rfl 2 (by decide) (X.2.2.2.1 _ fl_o_34) (fun _ h => h) rfl hd kk
theorem g_last (X : ol_X p s m args c cc G) (hP : ol_P G (L, b, n, t, F, nf, la, mn) H) (hd : decode cc pc = .ok (.getfield 30, 3))
    (kk : W p l e R s m args below meth c H locs cells slots Q (F0 m (pc + 3) ls (.ref (ol_a G la) :: rest))) : W p l e R s m args below meth c H locs cells slots Q (F0 m pc ls (.ref (ol_h G) :: rest)) :=
  va_get (own := "OrderLine") (ref := "OrderLine") (D := ol_D G) (cl := ol_cl) (ci := 1) (C := R_o) (T := F_o) (N := 5) X.1 X.2.1 X.2.2.2.1 i_o X.2.2.1 X.2.2.2.2.1 hP 0 rfl rfl 3 (by decide) (X.2.2.2.1 _ fl_o_30) (fun _ h => h) rfl hd kk
theorem g_many (X : ol_X p s m args c cc G) (hP : ol_P G (L, b, n, t, F, nf, la, mn) H) (hd : decode cc pc = .ok (.getfield 19, 3))
    (kk : W p l e R s m args below meth c H locs cells slots Q (F0 m (pc + 3) ls (.int (nI mn) :: rest))) : W p l e R s m args below meth c H locs cells slots Q (F0 m pc ls (.ref (ol_h G) :: rest)) :=
  va_get (own := "OrderLine") (ref := "OrderLine") (D := ol_D G) (cl := ol_cl) (ci := 1) (C := R_o) (T := F_o) (N := 5) X.1 X.2.1 X.2.2.2.1 i_o X.2.2.1 X.2.2.2.2.1 hP 0 rfl rfl 4 (by decide) (X.2.2.2.1 _ fl_o_19) (fun _ h => h) rfl hd kk
theorem p_frees (X : ol_X p s m args c cc G) (hP : ol_P G (L, b, n, t, F, nf, la, mn) H) (hS : va_S (ol_A G) s.heap H locs) {v : Nat} (hd : decode cc pc = .ok (.putfield 34, 3))
    (kk : ∀ (H1 : Heap) (locs1 : List Loc), ol_P G (L, b, n, t, F, v, la, mn) H1 → va_S (ol_A G) s.heap H1 locs1 → W p l e R s m args below meth c H1 locs1 cells slots Q (F0 m (pc + 3) ls rest)) : W p l e R s m args below meth c H locs cells slots Q (F0 m pc ls (.int (nI v) :: .ref (ol_h G) :: rest)) :=
  va_put (own := "OrderLine") (ref := "OrderLine") (D := ol_D G) (cl := ol_cl) (ci := 1) (v := .int (nI v)) (ty := .int) (C := R_o) (T := F_o) (N := 5) X.1 X.2.1 X.2.2.2.1 i_o t_o t_o_ok n_o X.2.2.1 X.2.2.2.2.1 hP (ol_DD X.2.2.2.2.2.2 _) hS 0 rfl rfl 2 (by decide) (X.2.2.2.1 _ fl_o_34) (fun _ h => h) rfl (by decide +kernel) rfl rfl (Nat.le_of_ble_eq_true rfl) hd (fun H1 locs1 hP1 _ hS1 => kk H1 locs1 hP1 hS1)
theorem p_last (X : ol_X p s m args c cc G) (hP : ol_P G (L, b, n, t, F, nf, la, mn) H) (hS : va_S (ol_A G) s.heap H locs) {v : Nat} (hd : decode cc pc = .ok (.putfield 30, 3))
    (kk : ∀ (H1 : Heap) (locs1 : List Loc), ol_P G (L, b, n, t, F, nf, v, mn) H1 → va_S (ol_A G) s.heap H1 locs1 → W p l e R s m args below meth c H1 locs1 cells slots Q (F0 m (pc + 3) ls rest)) : W p l e R s m args below meth c H locs cells slots Q (F0 m pc ls (.ref (ol_a G v) :: .ref (ol_h G) :: rest)) :=
  va_put (own := "OrderLine") (ref := "OrderLine") (D := ol_D G) (cl := ol_cl) (ci := 1) (v := .ref (ol_a G v)) (ty := .object "OrderLine$Stamp") (C := R_o) (T := F_o) (N := 5) X.1 X.2.1 X.2.2.2.1 i_o t_o t_o_ok n_o X.2.2.1 X.2.2.2.2.1 hP (ol_DD X.2.2.2.2.2.2 _) hS 0 rfl rfl 3 (by decide) (X.2.2.2.1 _ fl_o_30) (fun _ h => h) rfl (by decide +kernel) rfl rfl (Nat.le_of_ble_eq_true rfl) hd (fun H1 locs1 hP1 _ hS1 => kk H1 locs1 hP1 hS1)
theorem p_many (X : ol_X p s m args c cc G) (hP : ol_P G (L, b, n, t, F, nf, la, mn) H) (hS : va_S (ol_A G) s.heap H locs) {v : Nat} (hd : decode cc pc = .ok (.putfield 19, 3))
    (kk : ∀ (H1 : Heap) (locs1 : List Loc), ol_P G (L, b, n, t, F, nf, la, v) H1 → va_S (ol_A G) s.heap H1 locs1 → W p l e R s m args below meth c H1 locs1 cells slots Q (F0 m (pc + 3) ls rest)) : W p l e R s m args below meth c H locs cells slots Q (F0 m pc ls (.int (nI v) :: .ref (ol_h G) :: rest)) :=
  va_put (own := "OrderLine") (ref := "OrderLine") (D := ol_D G) (cl := ol_cl) (ci := 1) (v := .int (nI v)) (ty := .int) (C := R_o) (T := F_o) (N := 5) X.1 X.2.1 X.2.2.2.1 i_o t_o t_o_ok n_o X.2.2.1 X.2.2.2.2.1 hP (ol_DD X.2.2.2.2.2.2 _) hS 0 rfl rfl 4 (by decide) (X.2.2.2.1 _ fl_o_19) (fun _ h => h) rfl (by decide +kernel) rfl rfl (Nat.le_of_ble_eq_true rfl) hd (fun H1 locs1 hP1 _ hS1 => kk H1 locs1 hP1 hS1)
-- its arrays
theorem a_stamps (X : ol_X p s m args c cc G) (hP : ol_P G (L, b, n, t, F, nf, la, mn) H) (hk : k < 1000) (hd : decode cc pc = .ok (.aaload, 1))
    (kk : W p l e R s m args below meth c H locs cells slots Q (F0 m (pc + 1) ls (.ref (ol_a G k) :: rest))) : W p l e R s m args below meth c H locs cells slots Q (F0 m pc ls (.int (nI k) :: .ref (ol_s G) :: rest)) :=
  va_aldq (D := ol_D G) (cl := ol_cl) (C := "OrderLine$Stamp") X.1 X.2.1 X.2.2.2.2.1 hP 1 0 rfl rfl (vp_in_nI hk (by decide)) hd (by rw [nI_clamp (by omega)]; exact kk)
theorem a_free (X : ol_X p s m args c cc G) (hP : ol_P G (L, b, n, t, F, nf, la, mn) H) (hk : k < 1000) (hd : decode cc pc = .ok (.iaload, 1))
    (kk : W p l e R s m args below meth c H locs cells slots Q (F0 m (pc + 1) ls (.int (nI (F k)) :: rest))) : W p l e R s m args below meth c H locs cells slots Q (F0 m pc ls (.int (nI k) :: .ref (ol_f G) :: rest)) :=
  va_iald (D := ol_D G) (cl := ol_cl) X.1 X.2.1 X.2.2.2.2.1 hP 2 1 rfl rfl (vp_in_nI hk (by decide)) hd (by rw [nI_clamp (by omega)]; exact kk)
theorem s_free (X : ol_X p s m args c cc G) (hP : ol_P G (L, b, n, t, F, nf, la, mn) H) (hS : va_S (ol_A G) s.heap H locs) (hk : k < 1000) {v : Nat} (hd : decode cc pc = .ok (.iastore, 1))
    (kk : ∀ (H1 : Heap) (locs1 : List Loc), ol_P G (L, b, n, t, va_up F k v, nf, la, mn) H1 → va_S (ol_A G) s.heap H1 locs1 → W p l e R s m args below meth c H1 locs1 cells slots Q (F0 m (pc + 1) ls rest)) : W p l e R s m args below meth c H locs cells slots Q (F0 m pc ls (.int (nI v) :: .int (nI k) :: .ref (ol_f G) :: rest)) := by
  refine va_iast (D := ol_D G) (cl := ol_cl) X.1 X.2.1 X.2.2.2.2.1 hP (ol_DD X.2.2.2.2.2.2 _) hS 2 1 rfl rfl (vp_in_nI hk (by decide)) hd (fun H1 locs1 hP1 _ hS1 => kk H1 locs1 ?_ hS1)
  rw [nI_clamp (by omega), show upd (fun i => nI (F i)) k (nI v) = (fun i => nI (va_up F k v i)) from funext fun j => by by_cases hj : j = k <;> simp [upd, va_up, hj]] at hP1
  exact hP1
theorem o_acmp_ne (X : ol_X p s m args c cc G) {i j : Nat} (hi : i < 1000) (hj : j < 1000) {off : Int} {tgt : Nat} (hd : decode cc pc = .ok (.if_acmp .ne off, 3)) (ht : (pc : Int) + off = (tgt : Int))
    (kt : i ≠ j → W p l e R s m args below meth c H locs cells slots Q (F0 m tgt ls rest)) (kf : i = j → W p l e R s m args below meth c H locs cells slots Q (F0 m (pc + 3) ls rest)) : W p l e R s m args below meth c H locs cells slots Q (F0 m pc ls (.ref (ol_a G j) :: .ref (ol_a G i) :: rest)) :=
  lv_acmp_ne (rx := some (ol_a G i)) (ry := some (ol_a G j)) X.1 X.2.1 hd ht (fun h => kt (fun e => h (by rw [e]))) (fun h => kf (ol_inj X.2.2.2.2.2.2 hi hj (Option.some.inj h)))
theorem o_acmp_eq (X : ol_X p s m args c cc G) {i j : Nat} (hi : i < 1000) (hj : j < 1000) {off : Int} {tgt : Nat} (hd : decode cc pc = .ok (.if_acmp .eq off, 3)) (ht : (pc : Int) + off = (tgt : Int))
    (kt : i = j → W p l e R s m args below meth c H locs cells slots Q (F0 m tgt ls rest)) (kf : i ≠ j → W p l e R s m args below meth c H locs cells slots Q (F0 m (pc + 3) ls rest)) : W p l e R s m args below meth c H locs cells slots Q (F0 m pc ls (.ref (ol_a G j) :: .ref (ol_a G i) :: rest)) :=
  lv_acmp_eq (rx := some (ol_a G i)) (ry := some (ol_a G j)) X.1 X.2.1 hd ht (fun h => kt (ol_inj X.2.2.2.2.2.2 hi hj (Option.some.inj h))) (fun h => kf (fun e => h (by rw [e])))
end OLR
end
section
/-! 06: rows on small numbers; how a method of OrderLine begins, ends, and calls another -/
section NRW
variable {p : Program} {l : Launch} {e : Env} {R : Room} {s : State} {m : MethodId} {args : Array Value} {below : List Frame} {meth : Method} {c : Code} {H : Heap} {locs : List Loc} {cells slots : Nat} {Q : State → Prop}
variable {cc : ByteArray} {pc : Nat} {ls : Array Slot} {rest : List Value}
theorem tp_i {x : Int32} (y : Int32) (h : x = y) (kk : W p l e R s m args below meth c H locs cells slots Q (F0 m pc ls (.int y :: rest))) : W p l e R s m args below meth c H locs cells slots Q (F0 m pc ls (.int x :: rest)) := h ▸ kk
theorem tp_l {x : Int64} (y : Int64) (h : x = y) (kk : W p l e R s m args below meth c H locs cells slots Q (F0 m pc ls (.long y :: rest))) : W p l e R s m args below meth c H locs cells slots Q (F0 m pc ls (.long x :: rest)) := h ▸ kk
theorem tp_s {st : List Value} (st' : List Value) (h : st = st') (kk : W p l e R s m args below meth c H locs cells slots Q (F0 m pc ls st')) : W p l e R s m args below meth c H locs cells slots Q (F0 m pc ls st) := h ▸ kk
variable {a b : Nat} {off : Int} {tgt : Nat}
theorem nb_ge (hx : p.tables.exec = Jvm.exec) (hb : c.code = cc) (ha : a < 2 ^ 31) (hbb : b < 2 ^ 31) (hd : decode cc pc = .ok (.if_icmp .ge off, 3)) (ht : (pc : Int) + off = (tgt : Int))
    (kt : b ≤ a → W p l e R s m args below meth c H locs cells slots Q (F0 m tgt ls rest)) (kf : a < b → W p l e R s m args below meth c H locs cells slots Q (F0 m (pc + 3) ls rest)) : W p l e R s m args below meth c H locs cells slots Q (F0 m pc ls (.int (nI b) :: .int (nI a) :: rest)) :=
  lv_icmp_ge hx hb hd ht (fun q => kt ((nI_leI hbb ha).mp q)) (fun q => kf (Nat.not_le.mp fun z => q ((nI_leI hbb ha).mpr z)))
theorem nb_lt (hx : p.tables.exec = Jvm.exec) (hb : c.code = cc) (ha : a < 2 ^ 31) (hbb : b < 2 ^ 31) (hd : decode cc pc = .ok (.if_icmp .lt off, 3)) (ht : (pc : Int) + off = (tgt : Int))
    (kt : a < b → W p l e R s m args below meth c H locs cells slots Q (F0 m tgt ls rest)) (kf : b ≤ a → W p l e R s m args below meth c H locs cells slots Q (F0 m (pc + 3) ls rest)) : W p l e R s m args below meth c H locs cells slots Q (F0 m pc ls (.int (nI b) :: .int (nI a) :: rest)) :=
  lv_icmp_lt hx hb hd ht (fun q => kt ((nI_ltI ha hbb).mp q)) (fun q => kf (Nat.not_lt.mp fun z => q ((nI_ltI ha hbb).mpr z)))
theorem nb_gt (hx : p.tables.exec = Jvm.exec) (hb : c.code = cc) (ha : a < 2 ^ 31) (hbb : b < 2 ^ 31) (hd : decode cc pc = .ok (.if_icmp .gt off, 3)) (ht : (pc : Int) + off = (tgt : Int))
    (kt : b < a → W p l e R s m args below meth c H locs cells slots Q (F0 m tgt ls rest)) (kf : a ≤ b → W p l e R s m args below meth c H locs cells slots Q (F0 m (pc + 3) ls rest)) : W p l e R s m args below meth c H locs cells slots Q (F0 m pc ls (.int (nI b) :: .int (nI a) :: rest)) :=
  lv_icmp_gt hx hb hd ht (fun q => kt ((nI_ltI hbb ha).mp q)) (fun q => kf (Nat.not_lt.mp fun z => q ((nI_ltI hbb ha).mpr z)))
theorem nb_le (hx : p.tables.exec = Jvm.exec) (hb : c.code = cc) (ha : a < 2 ^ 31) (hbb : b < 2 ^ 31) (hd : decode cc pc = .ok (.if_icmp .le off, 3)) (ht : (pc : Int) + off = (tgt : Int))
    (kt : a ≤ b → W p l e R s m args below meth c H locs cells slots Q (F0 m tgt ls rest)) (kf : b < a → W p l e R s m args below meth c H locs cells slots Q (F0 m (pc + 3) ls rest)) : W p l e R s m args below meth c H locs cells slots Q (F0 m pc ls (.int (nI b) :: .int (nI a) :: rest)) :=
  lv_icmp_le hx hb hd ht (fun q => kt ((nI_leI ha hbb).mp q)) (fun q => kf (Nat.not_le.mp fun z => q ((nI_leI ha hbb).mpr z)))
theorem nb_ne (hx : p.tables.exec = Jvm.exec) (hb : c.code = cc) (ha : a < 2 ^ 31) (hbb : b < 2 ^ 31) (hd : decode cc pc = .ok (.if_icmp .ne off, 3)) (ht : (pc : Int) + off = (tgt : Int))
    (kt : a ≠ b → W p l e R s m args below meth c H locs cells slots Q (F0 m tgt ls rest)) (kf : a = b → W p l e R s m args below meth c H locs cells slots Q (F0 m (pc + 3) ls rest)) : W p l e R s m args below meth c H locs cells slots Q (F0 m pc ls (.int (nI b) :: .int (nI a) :: rest)) :=
  lv_icmp_ne hx hb hd ht (fun q => kt (fun z => q ((nI_eq ha hbb).mpr z))) (fun q => kf ((nI_eq ha hbb).mp q))
theorem nb_eq (hx : p.tables.exec = Jvm.exec) (hb : c.code = cc) (ha : a < 2 ^ 31) (hbb : b < 2 ^ 31) (hd : decode cc pc = .ok (.if_icmp .eq off, 3)) (ht : (pc : Int) + off = (tgt : Int))
    (kt : a = b → W p l e R s m args below meth c H locs cells slots Q (F0 m tgt ls rest)) (kf : a ≠ b → W p l e R s m args below meth c H locs cells slots Q (F0 m (pc + 3) ls rest)) : W p l e R s m args below meth c H locs cells slots Q (F0 m pc ls (.int (nI b) :: .int (nI a) :: rest)) :=
  lv_icmp_eq hx hb hd ht (fun q => kt ((nI_eq ha hbb).mp q)) (fun q => kf (fun z => q ((nI_eq ha hbb).mpr z)))
theorem nz_eq (hx : p.tables.exec = Jvm.exec) (hb : c.code = cc) (ha : a < 2 ^ 31) (hd : decode cc pc = .ok (.ifCond .eq off, 3)) (ht : (pc : Int) + off = (tgt : Int))
    (kt : a = 0 → W p l e R s m args below meth c H locs cells slots Q (F0 m tgt ls rest)) (kf : a ≠ 0 → W p l e R s m args below meth c H locs cells slots Q (F0 m (pc + 3) ls rest)) : W p l e R s m args below meth c H locs cells slots Q (F0 m pc ls (.int (nI a) :: rest)) :=
  lv_if_eq hx hb hd ht (fun q => kt ((nI_eq ha (by decide)).mp (q.trans nI_0.symm))) (fun q => kf (fun z => q (by rw [z]; exact nI_0)))
theorem nz_ne (hx : p.tables.exec = Jvm.exec) (hb : c.code = cc) (ha : a < 2 ^ 31) (hd : decode cc pc = .ok (.ifCond .ne off, 3)) (ht : (pc : Int) + off = (tgt : Int))
    (kt : a ≠ 0 → W p l e R s m args below meth c H locs cells slots Q (F0 m tgt ls rest)) (kf : a = 0 → W p l e R s m args below meth c H locs cells slots Q (F0 m (pc + 3) ls rest)) : W p l e R s m args below meth c H locs cells slots Q (F0 m pc ls (.int (nI a) :: rest)) :=
  lv_if_ne hx hb hd ht (fun q => kt (fun z => q (by rw [z]; exact nI_0))) (fun q => kf ((nI_eq ha (by decide)).mp (q.trans nI_0.symm)))
theorem nz_lt (hx : p.tables.exec = Jvm.exec) (hb : c.code = cc) (ha : a < 2 ^ 31) (hd : decode cc pc = .ok (.ifCond .lt off, 3)) (ht : (pc : Int) + off = (tgt : Int))
    (kf : W p l e R s m args below meth c H locs cells slots Q (F0 m (pc + 3) ls rest)) : W p l e R s m args below meth c H locs cells slots Q (F0 m pc ls (.int (nI a) :: rest)) :=
  lv_if_lt hx hb hd ht (fun q => absurd q (nI_pos ha)) (fun _ => kf)
theorem nz_ge (hx : p.tables.exec = Jvm.exec) (hb : c.code = cc) (ha : a < 2 ^ 31) (hd : decode cc pc = .ok (.ifCond .ge off, 3)) (ht : (pc : Int) + off = (tgt : Int))
    (kt : W p l e R s m args below meth c H locs cells slots Q (F0 m tgt ls rest)) : W p l e R s m args below meth c H locs cells slots Q (F0 m pc ls (.int (nI a) :: rest)) :=
  lv_if_ge hx hb hd ht (fun _ => kt) (fun q => absurd (nI_pos' ha) q)
theorem nz_gt (hx : p.tables.exec = Jvm.exec) (hb : c.code = cc) (ha : a < 2 ^ 31) (hd : decode cc pc = .ok (.ifCond .gt off, 3)) (ht : (pc : Int) + off = (tgt : Int))
    (kt : 0 < a → W p l e R s m args below meth c H locs cells slots Q (F0 m tgt ls rest)) (kf : a = 0 → W p l e R s m args below meth c H locs cells slots Q (F0 m (pc + 3) ls rest)) : W p l e R s m args below meth c H locs cells slots Q (F0 m pc ls (.int (nI a) :: rest)) :=
  lv_if_gt hx hb hd ht (fun q => kt ((nI_ltI (by decide) ha).mp (by rw [nI_0]; exact q))) (fun q => kf (Nat.eq_zero_of_not_pos fun z => q (by rw [← nI_0]; exact nI_lt z ha)))
theorem nz_le (hx : p.tables.exec = Jvm.exec) (hb : c.code = cc) (ha : a < 2 ^ 31) (hd : decode cc pc = .ok (.ifCond .le off, 3)) (ht : (pc : Int) + off = (tgt : Int))
    (kt : a = 0 → W p l e R s m args below meth c H locs cells slots Q (F0 m tgt ls rest)) (kf : 0 < a → W p l e R s m args below meth c H locs cells slots Q (F0 m (pc + 3) ls rest)) : W p l e R s m args below meth c H locs cells slots Q (F0 m pc ls (.int (nI a) :: rest)) :=
  lv_if_le hx hb hd ht (fun q => kt (Nat.le_zero.mp ((nI_leI ha (by decide)).mp (by rw [nI_0]; exact q)))) (fun q => kf (Nat.pos_of_ne_zero fun z => q (by rw [z, nI_0]; decide)))
-- a bool on the stack
theorem z_eq (hx : p.tables.exec = Jvm.exec) (hb : c.code = cc) {o : Bool} (hd : decode cc pc = .ok (.ifCond .eq off, 3)) (ht : (pc : Int) + off = (tgt : Int))
    (kt : o = false → W p l e R s m args below meth c H locs cells slots Q (F0 m tgt ls rest)) (kf : o = true → W p l e R s m args below meth c H locs cells slots Q (F0 m (pc + 3) ls rest)) : W p l e R s m args below meth c H locs cells slots Q (F0 m pc ls (.int (ol_z o) :: rest)) :=
  lv_if_eq hx hb hd ht (fun q => kt (by cases o <;> first | rfl | (exact absurd q (by decide)))) (fun q => kf (by cases o <;> first | rfl | (exact absurd rfl q)))
theorem z_ne (hx : p.tables.exec = Jvm.exec) (hb : c.code = cc) {o : Bool} (hd : decode cc pc = .ok (.ifCond .ne off, 3)) (ht : (pc : Int) + off = (tgt : Int))
    (kt : o = true → W p l e R s m args below meth c H locs cells slots Q (F0 m tgt ls rest)) (kf : o = false → W p l e R s m args below meth c H locs cells slots Q (F0 m (pc + 3) ls rest)) : W p l e R s m args below meth c H locs cells slots Q (F0 m pc ls (.int (ol_z o) :: rest)) :=
  lv_if_ne hx hb hd ht (fun q => kt (by cases o <;> first | rfl | (exact absurd rfl q))) (fun q => kf (by cases o <;> first | rfl | (exact absurd q (by decide))))
-- lcmp and the branch behind it
theorem lb_lt (hx : p.tables.exec = Jvm.exec) (hb : c.code = cc) (ha : a < 2 ^ 63) (hbb : b < 2 ^ 63) (hd : decode cc pc = .ok (.lcmp, 1)) (hd2 : decode cc (pc + 1) = .ok (.ifCond .lt off, 3)) (ht : ((pc + 1 : Nat) : Int) + off = (tgt : Int))
    (kt : a < b → W p l e R s m args below meth c H locs cells slots Q (F0 m tgt ls rest)) (kf : b ≤ a → W p l e R s m args below meth c H locs cells slots Q (F0 m (pc + 4) ls rest)) : W p l e R s m args below meth c H locs cells slots Q (F0 m pc ls (.long (lN b) :: .long (lN a) :: rest)) :=
  W.lcmp hx hb hd (lv_if_lt hx hb hd2 ht (fun q => kt ((pk_lLT ha hbb).mp ((lg_cmp_lt _ _).mp q))) (fun q => kf (Nat.not_lt.mp fun z => q ((lg_cmp_lt _ _).mpr ((pk_lLT ha hbb).mpr z)))))
theorem lb_ge (hx : p.tables.exec = Jvm.exec) (hb : c.code = cc) (ha : a < 2 ^ 63) (hbb : b < 2 ^ 63) (hd : decode cc pc = .ok (.lcmp, 1)) (hd2 : decode cc (pc + 1) = .ok (.ifCond .ge off, 3)) (ht : ((pc + 1 : Nat) : Int) + off = (tgt : Int))
    (kt : b ≤ a → W p l e R s m args below meth c H locs cells slots Q (F0 m tgt ls rest)) (kf : a < b → W p l e R s m args below meth c H locs cells slots Q (F0 m (pc + 4) ls rest)) : W p l e R s m args below meth c H locs cells slots Q (F0 m pc ls (.long (lN b) :: .long (lN a) :: rest)) :=
  W.lcmp hx hb hd (lv_if_ge hx hb hd2 ht (fun q => kt ((pk_lLE hbb ha).mp ((lg_cmp_ge _ _).mp q))) (fun q => kf (Nat.not_le.mp fun z => q ((lg_cmp_ge _ _).mpr ((pk_lLE hbb ha).mpr z)))))
theorem lb_gt (hx : p.tables.exec = Jvm.exec) (hb : c.code = cc) (ha : a < 2 ^ 63) (hbb : b < 2 ^ 63) (hd : decode cc pc = .ok (.lcmp, 1)) (hd2 : decode cc (pc + 1) = .ok (.ifCond .gt off, 3)) (ht : ((pc + 1 : Nat) : Int) + off = (tgt : Int))
    (kt : b < a → W p l e R s m args below meth c H locs cells slots Q (F0 m tgt ls rest)) (kf : a ≤ b → W p l e R s m args below meth c H locs cells slots Q (F0 m (pc + 4) ls rest)) : W p l e R s m args below meth c H locs cells slots Q (F0 m pc ls (.long (lN b) :: .long (lN a) :: rest)) :=
  W.lcmp hx hb hd (lv_if_gt hx hb hd2 ht (fun q => kt ((pk_lLT hbb ha).mp ((lg_cmp_gt _ _).mp q))) (fun q => kf (Nat.not_lt.mp fun z => q ((lg_cmp_gt _ _).mpr ((pk_lLT hbb ha).mpr z)))))
theorem lb_le (hx : p.tables.exec = Jvm.exec) (hb : c.code = cc) (ha : a < 2 ^ 63) (hbb : b < 2 ^ 63) (hd : decode cc pc = .ok (.lcmp, 1)) (hd2 : decode cc (pc + 1) = .ok (.ifCond .le off, 3)) (ht : ((pc + 1 : Nat) : Int) + off = (tgt : Int))
    (kt : a ≤ b → W p l e R s m args below meth c H locs cells slots Q (F0 m tgt ls rest)) (kf : b < a → W p l e R s m args below meth c H locs cells slots Q (F0 m (pc + 4) ls rest)) : W p l e R s m args below meth c H locs cells slots Q (F0 m pc ls (.long (lN b) :: .long (lN a) :: rest)) :=
  W.lcmp hx hb hd (lv_if_le hx hb hd2 ht (fun q => kt ((pk_lLE ha hbb).mp ((lg_cmp_le _ _).mp q))) (fun q => kf (Nat.not_le.mp fun z => q ((lg_cmp_le _ _).mpr ((pk_lLE ha hbb).mpr z)))))
end NRW
theorem gw_in {y : MethodName} {bytes : ByteArray} {maxL : Nat} {ret : Option FieldType} (h4 : Cond.code y bytes maxL ret ∈ GW) : GoodIn GW (.code y bytes maxL ret :: GW) := by
  intro w hw
  rcases List.mem_cons.mp hw with rfl | h
  · exact ⟨h4, GW_good h4⟩
  · exact ⟨h, GW_good h⟩
theorem gw_B {R : Room} {s : State} {args : Array Value} {own : String} {y : MethodName} {bytes : ByteArray} {maxL n index mc ms : Nat} {ret : Option FieldType} {rm : Room} (hts : ∀ w ∈ GW, w.before args s = true) (h1 : Cond.methodLink own index y ∈ GW) (h4 : Cond.code y bytes maxL ret ∈ GW) (h5 : Cond.initialized y.cls ∈ GW)
    (hd : y.cls ≠ "java/lang/invoke/MethodHandle" ∧ y.cls ≠ "java/lang/invoke/VarHandle" ∧ (parseMethodDescriptor y.desc).map (fun d => d.parameters.length) = some n) (hrc : rm.cells = mc) (hrs : rm.slots = ms) (hR : rm.frames + 1 ≤ R.frames ∧ 8 + (maxL + 11) + rm.locals ≤ R.locals) :
    CallB R s args own index y bytes maxL ret (.code y bytes maxL ret :: GW) rm mc ms n :=
  callB_of n hts (gw_in h4) rfl hrc hrs (hts _ h5) (hts _ h1) hd hR
theorem gw_W {R : Room} {s : State} {args : Array Value} {own C : String} {y : MethodName} {bytes : ByteArray} {maxL n index mc ms : Nat} {ret : Option FieldType} {rm : Room} (hts : ∀ w ∈ GW, w.before args s = true) (h1 : Cond.methodLink own index y ∈ GW) (h2 : Cond.instanceMethod y ∈ GW) (h3 : Cond.selects C y y ∈ GW) (h4 : Cond.code y bytes maxL ret ∈ GW) (h5 : Cond.initialized y.cls ∈ GW)
    (hd : y.cls ≠ "java/lang/invoke/MethodHandle" ∧ y.cls ≠ "java/lang/invoke/VarHandle" ∧ (parseMethodDescriptor y.desc).map (fun d => d.parameters.length) = some n) (hrc : rm.cells = mc) (hrs : rm.slots = ms) (hR : rm.frames + 1 ≤ R.frames ∧ 8 + (maxL + 11) + rm.locals ≤ R.locals) :
    CallW R s args own C index y bytes maxL ret (.code y bytes maxL ret :: GW) rm mc ms n :=
  ⟨gw_B hts h1 h4 h5 hd hrc hrs hR, hts _ h2, hts _ h3⟩
section OLM
variable {l : Launch} {y : MethodName} {cc : ByteArray} {maxL : Nat} {rm : Room} {As : List Value} {G : OG} {u : OS}
/-- a method's body, from its entry -/
def ol_body (l : Launch) (cc : ByteArray) (maxL : Nat) (rm : Room) (As : List Value) (G : OG) (u : OS) (ends : (p : Program) → (e : Env) → (R : Room) → (s : State) → (m : MethodId) → (args : Array Value) → (below : List Frame) → (meth : Method) → (c : Code) → (Q : State → Prop) → Prop) : Prop :=
  ∀ (p : Program) (e : Env) (R : Room) (s : State) (m : MethodId) (args : Array Value) (below : List Frame) (meth : Method) (c : Code) (Q : State → Prop) (ls : Array Slot), R = rm → ol_X p s m args c cc G → c.maxLocals = maxL → ol_P G u s.heap → va_S (ol_A G) s.heap s.heap [] → lv_has ls maxL (lv_args 0 (.ref (ol_h G) :: As)) → ends p e R s m args below meth c Q → W p l e R s m args below meth c s.heap [] 0 0 Q (F0 m 0 ls [])
theorem ol_met {ret : Option FieldType} {Qc : Array Value → State → Outcome → State → Prop} {ends : (p : Program) → (e : Env) → (R : Room) → (s : State) → (m : MethodId) → (args : Array Value) → (below : List Frame) → (meth : Method) → (c : Code) → (Q : State → Prop) → Prop} (hy : plainName y.cls = true) (hyc : y.cls = "OrderLine") (hG : ol_ok G) (hn : (lg_sl (.ref (ol_h G) :: As)).length ≤ maxL)
    (he : ∀ p e s m args below meth c, p.tables.exec = Jvm.exec → c.code = cc → meth.sig.returnType = ret → meth.locks = false → ends p e rm s m args below meth c (MQ below Qc args s 0 0 (ol_A G))) (body : ol_body l cc maxL rm As G u ends) :
    Met l y (.code y cc maxL ret :: GW) rm (va_Pc (.ref (ol_h G) :: As) (ol_U G u)) Qc 0 0 (ol_A G) := by
  refine Met.ofW (cc := cc) (maxL := maxL) (ret := ret) hy rfl ?_
  intro p e s m args below meth c s₁ B hml hv
  obtain ⟨rfl, hK, hN, hP⟩ := hv
  have hts := atoms_spec (ws := .code y cc maxL ret :: GW) B.pre
  have hown : s.vm.findClass "OrderLine" = some m.cls := by rw [← hyc]; exact findClass_of_methodNamed B.named
  have hl := lv_entry (.ref (ol_h G) :: As) (n := maxL) hn
  rw [lg_entry_eq]
  exact body p e _ s m _ below meth c _ _ rfl ⟨B.exec, B.bytes, hown, fun w hw => hts w (List.mem_cons_of_mem _ hw), hK, hN, hG⟩ hml hP va_S.rf hl (he p e s m _ below meth c B.exec B.bytes B.returns B.notSynchronized)
/-- the ends: an int, a bool, nothing, a long, a stamp -/
def ol_ei (l : Launch) (cc : ByteArray) (G : OG) (post : Int32 → OS → Prop) (p : Program) (e : Env) (R : Room) (s : State) (m : MethodId) (args : Array Value) (below : List Frame) (meth : Method) (c : Code) (Q : State → Prop) : Prop :=
  ∀ (v : Int32) (u' : OS) (H : Heap) (locs : List Loc) (pc : Nat) (ls : Array Slot), ol_P G u' H → va_S (ol_A G) s.heap H locs → decode cc pc = .ok (.ireturn, 1) → post v u' → W p l e R s m args below meth c H locs 0 0 Q (F0 m pc ls [.int v])
def ol_ez (l : Launch) (cc : ByteArray) (G : OG) (post : Bool → OS → Prop) (p : Program) (e : Env) (R : Room) (s : State) (m : MethodId) (args : Array Value) (below : List Frame) (meth : Method) (c : Code) (Q : State → Prop) : Prop :=
  ∀ (v : Bool) (x : Int32) (u' : OS) (H : Heap) (locs : List Loc) (pc : Nat) (ls : Array Slot), x = ol_z v → ol_P G u' H → va_S (ol_A G) s.heap H locs → decode cc pc = .ok (.ireturn, 1) → post v u' → W p l e R s m args below meth c H locs 0 0 Q (F0 m pc ls [.int x])
def ol_ev (l : Launch) (cc : ByteArray) (G : OG) (post : OS → Prop) (p : Program) (e : Env) (R : Room) (s : State) (m : MethodId) (args : Array Value) (below : List Frame) (meth : Method) (c : Code) (Q : State → Prop) : Prop :=
  ∀ (u' : OS) (H : Heap) (locs : List Loc) (pc : Nat) (ls : Array Slot), ol_P G u' H → va_S (ol_A G) s.heap H locs → decode cc pc = .ok (.return_, 1) → post u' → W p l e R s m args below meth c H locs 0 0 Q (F0 m pc ls [])
def ol_el (l : Launch) (cc : ByteArray) (G : OG) (post : Int64 → OS → Prop) (p : Program) (e : Env) (R : Room) (s : State) (m : MethodId) (args : Array Value) (below : List Frame) (meth : Method) (c : Code) (Q : State → Prop) : Prop :=
  ∀ (v : Int64) (u' : OS) (H : Heap) (locs : List Loc) (pc : Nat) (ls : Array Slot), ol_P G u' H → va_S (ol_A G) s.heap H locs → decode cc pc = .ok (.lreturn, 1) → post v u' → W p l e R s m args below meth c H locs 0 0 Q (F0 m pc ls [.long v])
def ol_er (l : Launch) (cc : ByteArray) (G : OG) (post : Nat → OS → Prop) (p : Program) (e : Env) (R : Room) (s : State) (m : MethodId) (args : Array Value) (below : List Frame) (meth : Method) (c : Code) (Q : State → Prop) : Prop :=
  ∀ (k : Nat) (u' : OS) (H : Heap) (locs : List Loc) (pc : Nat) (ls : Array Slot), ol_P G u' H → va_S (ol_A G) s.heap H locs → decode cc pc = .ok (.areturn, 1) → post k u' → W p l e R s m args below meth c H locs 0 0 Q (F0 m pc ls [.ref (ol_a G k)])
abbrev ol_Qi (G : OG) (post : Int32 → OS → Prop) : Array Value → State → Outcome → State → Prop := va_Qi post (fun u' t => ol_P G u' t.heap) (ol_A G)
abbrev ol_Qz (G : OG) (post : Bool → OS → Prop) : Array Value → State → Outcome → State → Prop := va_Qi (fun x (q : Bool × OS) => x = ol_z q.1 ∧ post q.1 q.2) (fun q t => ol_P G q.2 t.heap) (ol_A G)
abbrev ol_Qv (G : OG) (post : OS → Prop) : Array Value → State → Outcome → State → Prop := va_Qv post (fun u' t => ol_P G u' t.heap) (ol_A G)
abbrev ol_Ql (G : OG) (post : Int64 → OS → Prop) : Array Value → State → Outcome → State → Prop := va_Ql post (fun u' t => ol_P G u' t.heap) (ol_A G)
abbrev ol_Qr (G : OG) (post : Nat → OS → Prop) : Array Value → State → Outcome → State → Prop := va_Qr (fun (q : Nat × OS) => post q.1 q.2) (fun q a t => a = ol_a G q.1 ∧ ol_P G q.2 t.heap) (ol_A G)
abbrev ol_M (l : Launch) (y : MethodName) (cc : ByteArray) (maxL : Nat) (ret : Option FieldType) (rm : Room) (G : OG) (As : List Value) (u : OS) (Qc : Array Value → State → Outcome → State → Prop) : Prop := Met l y (.code y cc maxL ret :: GW) rm (va_Pc (.ref (ol_h G) :: As) (ol_U G u)) Qc 0 0 (ol_A G)
theorem ol_mi {post : Int32 → OS → Prop} (hy : plainName y.cls = true) (hyc : y.cls = "OrderLine") (hG : ol_ok G) (hn : (lg_sl (.ref (ol_h G) :: As)).length ≤ maxL) (body : ol_body l cc maxL rm As G u (ol_ei l cc G post)) : ol_M l y cc maxL (some .int) rm G As u (ol_Qi G post) :=
  ol_met hy hyc hG hn (fun p e s m args below meth c hx hb hr hk v u' H locs pc ls hP hS hd hpo => W.iret hx hb hr (fun t ht hW => ⟨⟨v, u', rfl, hpo, by subst ht; exact hP⟩, hS.F ht⟩) hS.2.2 hd hk) body
theorem ol_mz {post : Bool → OS → Prop} (hy : plainName y.cls = true) (hyc : y.cls = "OrderLine") (hG : ol_ok G) (hn : (lg_sl (.ref (ol_h G) :: As)).length ≤ maxL) (body : ol_body l cc maxL rm As G u (ol_ez l cc G post)) : ol_M l y cc maxL (some .boolean) rm G As u (ol_Qz G post) :=
  ol_met hy hyc hG hn (fun p e s m args below meth c hx hb hr hk v x u' H locs pc ls hxv hP hS hd hpo => W.zret hx hb hr (by subst hxv; cases v <;> rfl) (fun t ht hW => ⟨⟨x, (v, u'), rfl, ⟨hxv, hpo⟩, by subst ht; exact hP⟩, hS.F ht⟩) hS.2.2 hd hk) body
theorem ol_mv {post : OS → Prop} (hy : plainName y.cls = true) (hyc : y.cls = "OrderLine") (hG : ol_ok G) (hn : (lg_sl (.ref (ol_h G) :: As)).length ≤ maxL) (body : ol_body l cc maxL rm As G u (ol_ev l cc G post)) : ol_M l y cc maxL none rm G As u (ol_Qv G post) :=
  ol_met hy hyc hG hn (fun p e s m args below meth c hx hb hr hk u' H locs pc ls hP hS hd hpo => W.vret hx hb hr (fun t ht hW => ⟨⟨u', rfl, hpo, by subst ht; exact hP⟩, hS.F ht⟩) hS.2.2 hd hk) body
theorem ol_ml {post : Int64 → OS → Prop} (hy : plainName y.cls = true) (hyc : y.cls = "OrderLine") (hG : ol_ok G) (hn : (lg_sl (.ref (ol_h G) :: As)).length ≤ maxL) (body : ol_body l cc maxL rm As G u (ol_el l cc G post)) : ol_M l y cc maxL (some .long) rm G As u (ol_Ql G post) :=
  ol_met hy hyc hG hn (fun p e s m args below meth c hx hb hr hk v u' H locs pc ls hP hS hd hpo => W.lret hx hb hr (fun t ht hW => ⟨⟨v, u', rfl, hpo, by subst ht; exact hP⟩, hS.F ht⟩) hS.2.2 hd hk) body
theorem ol_mr {post : Nat → OS → Prop} {C : String} (hy : plainName y.cls = true) (hyc : y.cls = "OrderLine") (hG : ol_ok G) (hn : (lg_sl (.ref (ol_h G) :: As)).length ≤ maxL) (body : ol_body l cc maxL rm As G u (ol_er l cc G post)) : ol_M l y cc maxL (some (.object C)) rm G As u (ol_Qr G post) :=
  ol_met hy hyc hG hn (fun p e s m args below meth c hx hb hr hk k u' H locs pc ls hP hS hd hpo => W.aret hx hb hr (Or.inl ⟨_, rfl⟩) (Or.inr ⟨_, rfl⟩) (fun t ht hW => ⟨⟨(k, u'), ol_a G k, rfl, hpo, rfl, by subst ht; exact hP⟩, hS.F ht⟩) hS.2.2 hd hk) body
end OLM
section OLC
variable {p : Program} {l : Launch} {e : Env} {R : Room} {s : State} {m : MethodId} {args : Array Value} {below : List Frame} {meth : Method} {c : Code} {H : Heap} {locs : List Loc} {Q : State → Prop}
variable {cc bytes : ByteArray} {pc nL maxL n index : Nat} {ls : Array Slot} {rest st0 : List Value} {G : OG} {u : OS} {y : MethodName} {As : List Value} {rm : Room} {ret : Option FieldType}
theorem ol_pre (X : ol_X p s m args c cc G) (hP : ol_P G u H) : PreV s H "OrderLine" (ol_h G) (va_Pc (.ref (ol_h G) :: As) (ol_U G u)) As :=
  ⟨fun a U g mk q => ⟨q.1, va_K.moved (u := U) (U := U.calling g mk a) (Vm.Alike.refl U.vm) q.2.1, ol_N.same (u := U) (U := U.calling g mk a) rfl q.2.2.1, q.2.2.2⟩, by obtain ⟨L, b, n, t, F, nf, la, mn⟩ := u; exact va_recv X.2.2.2.2.1 hP (ci := 1) (q0 := 0) rfl rfl, fun U hU hW => ⟨rfl, va_K.moved hW.alike X.2.2.2.2.1, X.2.2.2.2.2.1.warm hW, by rw [hU]; exact hP⟩⟩
theorem ol_run {Qc : Array Value → State → Outcome → State → Prop} (X : ol_X p s m args c cc G) (hml : c.maxLocals = nL) (hM : ol_M l y bytes maxL ret rm G As u Qc) (cw : CallW R s args "OrderLine" "OrderLine" index y bytes maxL ret (.code y bytes maxL ret :: GW) rm 0 0 n) (hP : ol_P G u H) (hsz : ls.size = nL) (hn : As.length = n) (hst : st0 = As.reverse ++ .ref (ol_h G) :: rest) (hro : (rest.map fun v => v.category).sum ≤ 8) (hd : decode cc pc = .ok (.invokevirtual index, 3)) : va_Run p l e R s m args below meth c H locs 0 0 0 0 (F0 m pc ls st0) rest (Qc (.ref (ol_h G) :: As).toArray) (ol_A G) :=
  va_runV (C := "OrderLine") ⟨X.1, X.2.1, hml, X.2.2.1, X.2.2.2.1⟩ hM cw (ol_pre X hP) rfl hn hsz hst (lv_room hro) hd ⟨Nat.zero_le _, Nat.zero_le _⟩
theorem ol_ci {post : Int32 → OS → Prop} (X : ol_X p s m args c cc G) (hml : c.maxLocals = nL) (hM : ol_M l y bytes maxL ret rm G As u (ol_Qi G post)) (cw : CallW R s args "OrderLine" "OrderLine" index y bytes maxL ret (.code y bytes maxL ret :: GW) rm 0 0 n) (hP : ol_P G u H) (hS : va_S (ol_A G) s.heap H locs) (hsz : ls.size = nL) (hn : As.length = n) (hst : st0 = As.reverse ++ .ref (ol_h G) :: rest) (hro : (rest.map fun v => v.category).sum ≤ 8) (hd : decode cc pc = .ok (.invokevirtual index, 3))
    (kk : ∀ (r : Int32) (u' : OS) (H1 : Heap) (locs1 : List Loc), post r u' → ol_P G u' H1 → va_S (ol_A G) s.heap H1 locs1 → W p l e R s m args below meth c H1 locs1 0 0 Q (F0 m (pc + 3) ls (.int r :: rest))) : W p l e R s m args below meth c H locs 0 0 Q (F0 m pc ls st0) :=
  va_calli (ol_run X hml hM cw hP hsz hn hst hro hd) hS (fun q _ h => h) (fun q h => h) (fun r u' t H1 locs1 ht hvm hpo hB hz hk hS1 => kk r u' H1 locs1 hpo (by rw [← ht]; exact hB) hS1)
theorem ol_cz {post : Bool → OS → Prop} (X : ol_X p s m args c cc G) (hml : c.maxLocals = nL) (hM : ol_M l y bytes maxL ret rm G As u (ol_Qz G post)) (cw : CallW R s args "OrderLine" "OrderLine" index y bytes maxL ret (.code y bytes maxL ret :: GW) rm 0 0 n) (hP : ol_P G u H) (hS : va_S (ol_A G) s.heap H locs) (hsz : ls.size = nL) (hn : As.length = n) (hst : st0 = As.reverse ++ .ref (ol_h G) :: rest) (hro : (rest.map fun v => v.category).sum ≤ 8) (hd : decode cc pc = .ok (.invokevirtual index, 3))
    (kk : ∀ (r : Bool) (u' : OS) (H1 : Heap) (locs1 : List Loc), post r u' → ol_P G u' H1 → va_S (ol_A G) s.heap H1 locs1 → W p l e R s m args below meth c H1 locs1 0 0 Q (F0 m (pc + 3) ls (.int (ol_z r) :: rest))) : W p l e R s m args below meth c H locs 0 0 Q (F0 m pc ls st0) :=
  va_calli (ol_run X hml hM cw hP hsz hn hst hro hd) hS (fun q _ h => h) (fun q h => h) (fun r u' t H1 locs1 ht hvm hpo hB hz hk hS1 => by rw [hpo.1]; exact kk u'.1 u'.2 H1 locs1 hpo.2 (by rw [← ht]; exact hB) hS1)
theorem ol_cv {post : OS → Prop} (X : ol_X p s m args c cc G) (hml : c.maxLocals = nL) (hM : ol_M l y bytes maxL ret rm G As u (ol_Qv G post)) (cw : CallW R s args "OrderLine" "OrderLine" index y bytes maxL ret (.code y bytes maxL ret :: GW) rm 0 0 n) (hP : ol_P G u H) (hS : va_S (ol_A G) s.heap H locs) (hsz : ls.size = nL) (hn : As.length = n) (hst : st0 = As.reverse ++ .ref (ol_h G) :: rest) (hro : (rest.map fun v => v.category).sum ≤ 8) (hd : decode cc pc = .ok (.invokevirtual index, 3))
    (kk : ∀ (u' : OS) (H1 : Heap) (locs1 : List Loc), post u' → ol_P G u' H1 → va_S (ol_A G) s.heap H1 locs1 → W p l e R s m args below meth c H1 locs1 0 0 Q (F0 m (pc + 3) ls rest)) : W p l e R s m args below meth c H locs 0 0 Q (F0 m pc ls st0) :=
  va_callv (ol_run X hml hM cw hP hsz hn hst hro hd) hS (fun q _ h => h) (fun q h => h) (fun u' t H1 locs1 ht hvm hpo hB hz hk hS1 => kk u' H1 locs1 hpo (by rw [← ht]; exact hB) hS1)
theorem ol_cL {post : Int64 → OS → Prop} (X : ol_X p s m args c cc G) (hml : c.maxLocals = nL) (hM : ol_M l y bytes maxL ret rm G As u (ol_Ql G post)) (cw : CallW R s args "OrderLine" "OrderLine" index y bytes maxL ret (.code y bytes maxL ret :: GW) rm 0 0 n) (hP : ol_P G u H) (hS : va_S (ol_A G) s.heap H locs) (hsz : ls.size = nL) (hn : As.length = n) (hst : st0 = As.reverse ++ .ref (ol_h G) :: rest) (hro : (rest.map fun v => v.category).sum ≤ 8) (hd : decode cc pc = .ok (.invokevirtual index, 3))
    (kk : ∀ (r : Int64) (u' : OS) (H1 : Heap) (locs1 : List Loc), post r u' → ol_P G u' H1 → va_S (ol_A G) s.heap H1 locs1 → W p l e R s m args below meth c H1 locs1 0 0 Q (F0 m (pc + 3) ls (.long r :: rest))) : W p l e R s m args below meth c H locs 0 0 Q (F0 m pc ls st0) :=
  va_calll (ol_run X hml hM cw hP hsz hn hst hro hd) hS (fun q _ h => h) (fun q h => h) (fun r u' t H1 locs1 ht hvm hpo hB hz hk hS1 => kk r u' H1 locs1 hpo (by rw [← ht]; exact hB) hS1)
theorem ol_cr {post : Nat → OS → Prop} (X : ol_X p s m args c cc G) (hml : c.maxLocals = nL) (hM : ol_M l y bytes maxL ret rm G As u (ol_Qr G post)) (cw : CallW R s args "OrderLine" "OrderLine" index y bytes maxL ret (.code y bytes maxL ret :: GW) rm 0 0 n) (hP : ol_P G u H) (hS : va_S (ol_A G) s.heap H locs) (hsz : ls.size = nL) (hn : As.length = n) (hst : st0 = As.reverse ++ .ref (ol_h G) :: rest) (hro : (rest.map fun v => v.category).sum ≤ 8) (hd : decode cc pc = .ok (.invokevirtual index, 3))
    (kk : ∀ (r : Nat) (u' : OS) (H1 : Heap) (locs1 : List Loc), post r u' → ol_P G u' H1 → va_S (ol_A G) s.heap H1 locs1 → W p l e R s m args below meth c H1 locs1 0 0 Q (F0 m (pc + 3) ls (.ref (ol_a G r) :: rest))) : W p l e R s m args below meth c H locs 0 0 Q (F0 m pc ls st0) :=
  va_callr (ol_run X hml hM cw hP hsz hn hst hro hd) hS (fun q _ h => h) (fun q h => h) (fun u' ra t H1 locs1 ht hvm hpo hB hz hk hS1 => by rw [hB.1]; exact kk u'.1 u'.2 H1 locs1 hpo (by rw [← ht]; exact hB.2) hS1)
end OLC
end
section
/-! 07: plain laws: the line as a list, the chain that holds it; the heap of free numbers -/
def nd (Z : List Nat) : Prop := ∀ i j x : Nat, Z[i]? = some x → Z[j]? = some x → i = j
/-- the chain holds the line Z -/
def Ln (L : Nat → Nat) (b n : Nat → Option Nat) (t : Nat → Bool) (la mn : Nat) (Z : List Nat) : Prop :=
  Z[0]? = some 0 ∧ nd Z ∧ (∀ i x : Nat, Z[i]? = some x → x < 1000) ∧ (∀ i x : Nat, Z[i]? = some x → n x = Z[i + 1]?) ∧ (∀ i x : Nat, Z[i + 1]? = some x → b x = Z[i]?) ∧ b 0 = none ∧
  (∀ i x y : Nat, Z[i]? = some x → Z[i + 1]? = some y → L x < L y) ∧ (∀ i x : Nat, Z[i]? = some x → L x < 2 ^ 40) ∧ (∀ k, k < 1000 → (t k = true ↔ ∃ i : Nat, Z[i]? = some k)) ∧ Z[Z.length - 1]? = some la ∧ mn = Z.length
theorem gt_lt {Z : List Nat} {i x : Nat} (h : Z[i]? = some x) : i < Z.length := (List.getElem?_eq_some_iff.mp h).1
theorem gt_ex {Z : List Nat} {i : Nat} (h : i < Z.length) : ∃ x, Z[i]? = some x := ⟨_, List.getElem?_eq_getElem h⟩
theorem Ln.mono {L : Nat → Nat} {b n : Nat → Option Nat} {t : Nat → Bool} {la mn : Nat} {Z : List Nat} (h : Ln L b n t la mn Z) : ∀ (d i x y : Nat), Z[i]? = some x → Z[i + 1 + d]? = some y → L x < L y := by
  intro d
  induction d with
  | zero => intro i x y h1 h2; exact h.2.2.2.2.2.2.1 i x y h1 h2
  | succ d ih =>
    intro i x y h1 h2
    obtain ⟨z, hz⟩ := gt_ex (Z := Z) (i := i + 1) (by have := gt_lt h2; omega)
    exact Nat.lt_trans (h.2.2.2.2.2.2.1 i x z h1 hz) (ih (i + 1) z y hz (by rw [show i + 1 + 1 + d = i + 1 + (d + 1) by omega]; exact h2))
theorem Ln.lt {L : Nat → Nat} {b n : Nat → Option Nat} {t : Nat → Bool} {la mn : Nat} {Z : List Nat} (h : Ln L b n t la mn Z) {i j x y : Nat} (h1 : Z[i]? = some x) (h2 : Z[j]? = some y) : L x < L y ↔ i < j := by
  have key : ∀ {i j x y : Nat}, Z[i]? = some x → Z[j]? = some y → i < j → L x < L y := by
    intro i j x y h1 h2 hij
    exact h.mono (j - i - 1) i x y h1 (by rw [show i + 1 + (j - i - 1) = j by omega]; exact h2)
  refine ⟨fun q => ?_, key h1 h2⟩
  rcases Nat.lt_trichotomy i j with a | a | a
  · exact a
  · subst a
    cases h1.symm.trans h2
    omega
  · have := key h2 h1 a
    omega
theorem Ln.ndc {L : Nat → Nat} {b n : Nat → Option Nat} {t : Nat → Bool} {la mn : Nat} {Z : List Nat} (h : Ln L b n t la mn Z) : nd Z := h.2.1
theorem ins_get {Z : List Nat} {i k : Nat} (hi : i ≤ Z.length) (j : Nat) : (Z.insertIdx i k)[j]? = if j < i then Z[j]? else if j = i then some k else Z[j - 1]? := by
  rw [List.getElem?_insertIdx]
  by_cases h1 : j < i
  · simp [h1]
  · by_cases h2 : j = i
    · subst h2; simp [hi]
    · simp [h1, h2]
theorem up_s {α : Type} {f : Nat → α} {k : Nat} {v : α} : va_up f k v k = v := va_up_self f k v
theorem up_n {α : Type} {f : Nat → α} {k j : Nat} {v : α} (h : j ≠ k) : va_up f k v j = f j := va_up_ne f v h
theorem nd_ins {Z : List Nat} (h : nd Z) {p k : Nat} (hp : p ≤ Z.length) (hk : ∀ i : Nat, Z[i]? ≠ some k) : nd (Z.insertIdx p k) := by
  intro i j x hi hj
  rw [ins_get hp] at hi hj
  split at hi <;> split at hj
  · exact h i j x hi hj
  · split at hj
    · cases hj; exact absurd hi (hk i)
    · have := h _ _ x hi hj; omega
  · split at hi
    · cases hi; exact absurd hj (hk j)
    · have := h _ _ x hi hj; omega
  · split at hi <;> split at hj
    · omega
    · cases hi; exact absurd hj (hk _)
    · cases hj; exact absurd hi (hk _)
    · have := h _ _ x hi hj; omega
/-- a stamp k is put behind the one at p: at the end, or ahead of y -/
theorem Ln.ins {L : Nat → Nat} {b n : Nat → Option Nat} {t : Nat → Bool} {la mn : Nat} {Z : List Nat} (h : Ln L b n t la mn Z) {p x k v : Nat} (hx : Z[p]? = some x) (hk : k < 1000) (hn : ∀ i : Nat, Z[i]? ≠ some k)
    (hv : L x < v) (hv2 : v < 2 ^ 40) (hv3 : ∀ y : Nat, Z[p + 1]? = some y → v < L y) {b' : Nat → Option Nat} {la' : Nat} (hbk : b' k = some x) (hby : ∀ y : Nat, Z[p + 1]? = some y → b' y = some k) (hbo : ∀ z, z ≠ k → Z[p + 1]? ≠ some z → b' z = b z)
    (hla : la' = if p + 1 = Z.length then k else la) :
    Ln (va_up L k v) b' (va_up (va_up n k (n x)) x (some k)) (va_up t k true) la' (mn + 1) (Z.insertIdx (p + 1) k) := by
  have hpl := gt_lt hx
  have hp1 : p + 1 ≤ Z.length := hpl
  have hlen : (Z.insertIdx (p + 1) k).length = Z.length + 1 := List.length_insertIdx_of_le_length hp1 k
  have hxk : x ≠ k := fun e => hn p (by rw [hx, e])
  have hnk : ∀ {i z : Nat}, Z[i]? = some z → z ≠ k := fun {i z} hz e => hn i (by rw [hz, e])
  obtain ⟨h1, h2, h3, h4, h5, h6, h7, h8, h9, h10, h11⟩ := h
  refine ⟨?_, nd_ins h2 hp1 hn, ?_, ?_, ?_, ?_, ?_, ?_, ?_, ?_, by rw [h11, hlen]⟩
  · rw [ins_get hp1, if_pos (by omega)]; exact h1
  · intro i z hz
    rw [ins_get hp1] at hz
    split at hz
    · exact h3 i z hz
    · split at hz
      · cases hz; exact hk
      · exact h3 _ z hz
  · intro i z hz
    rw [ins_get hp1] at hz ⊢
    by_cases c1 : i < p + 1
    · rw [if_pos c1] at hz
      by_cases c2 : i = p
      · subst c2
        cases hx.symm.trans hz
        rw [up_s, if_neg (by omega), if_pos rfl]
      · have hzx : z ≠ x := fun e => c2 (h2 i p z hz (by rw [hx, e]))
        rw [up_n hzx, up_n (hnk hz), if_pos (by omega)]
        exact h4 i z hz
    · rw [if_neg c1] at hz
      by_cases c2 : i = p + 1
      · rw [if_pos c2] at hz
        cases hz
        rw [up_n hxk.symm, up_s, if_neg (by omega), if_neg (by omega), h4 p x hx, c2]; rfl
      · rw [if_neg c2] at hz
        have hzx : z ≠ x := fun e => by have := h2 (i - 1) p z hz (by rw [hx, e]); omega
        rw [up_n hzx, up_n (hnk hz), if_neg (by omega), if_neg (by omega), h4 (i - 1) z hz]
        rw [show i - 1 + 1 = i by omega, show i + 1 - 1 = i by omega]
  · intro i z hz
    rw [ins_get hp1] at hz
    by_cases c1 : i + 1 < p + 1
    · rw [if_pos c1] at hz
      rw [ins_get hp1, if_pos (by omega), hbo z (hnk hz) (fun q => by have := h2 _ _ z hz q; omega)]
      exact h5 i z hz
    · rw [if_neg c1] at hz
      by_cases c2 : i + 1 = p + 1
      · rw [if_pos c2] at hz
        cases hz
        rw [hbk, ins_get hp1, if_pos (by omega), show i = p by omega, hx]
      · rw [if_neg c2] at hz
        rw [ins_get hp1, if_neg (by omega)]
        by_cases c3 : i = p + 1
        · rw [if_pos c3]
          exact hby z (by rw [← c3]; exact hz)
        · rw [if_neg c3, hbo z (hnk hz) (fun q => by have := h2 _ _ z hz q; omega)]
          exact h5 (i - 1) z (by rw [show i - 1 + 1 = i + 1 - 1 by omega]; exact hz)
  · rw [hbo 0 (hnk h1) (fun q => by have := h2 _ _ 0 h1 q; omega)]; exact h6
  · intro i z w hz hw
    rw [ins_get hp1] at hz hw
    by_cases c1 : i + 1 < p + 1
    · rw [if_pos (by omega)] at hz
      rw [if_pos c1] at hw
      rw [up_n (hnk hz), up_n (hnk hw)]
      exact h7 i z w hz hw
    · rw [if_neg c1] at hw
      by_cases c2 : i + 1 = p + 1
      · rw [if_pos c2] at hw
        rw [if_pos (by omega), show i = p by omega] at hz
        cases hw
        cases hx.symm.trans hz
        rw [up_s, up_n hxk]; exact hv
      · rw [if_neg c2] at hw
        rw [if_neg (by omega)] at hz
        by_cases c3 : i = p + 1
        · rw [if_pos c3] at hz
          cases hz
          rw [up_s, up_n (hnk hw)]
          exact hv3 w (by rw [← c3]; exact hw)
        · rw [if_neg c3] at hz
          rw [up_n (hnk hz), up_n (hnk hw)]
          exact h7 (i - 1) z w hz (by rw [show i - 1 + 1 = i + 1 - 1 by omega]; exact hw)
  · intro i z hz
    rw [ins_get hp1] at hz
    split at hz
    · rw [up_n (hnk hz)]; exact h8 i z hz
    · split at hz
      · cases hz; rw [up_s]; exact hv2
      · rw [up_n (hnk hz)]; exact h8 _ z hz
  · intro z hz
    by_cases c : z = k
    · subst c
      rw [up_s]
      exact ⟨fun _ => ⟨p + 1, by rw [ins_get hp1, if_neg (by omega), if_pos rfl]⟩, fun _ => rfl⟩
    · rw [up_n c, h9 z hz]
      constructor
      · rintro ⟨i, hi⟩
        by_cases c1 : i < p + 1
        · exact ⟨i, by rw [ins_get hp1, if_pos c1]; exact hi⟩
        · exact ⟨i + 1, by rw [ins_get hp1, if_neg (by omega), if_neg (by omega)]; exact hi⟩
      · rintro ⟨i, hi⟩
        rw [ins_get hp1] at hi
        split at hi
        · exact ⟨i, hi⟩
        · split at hi
          · cases hi; exact absurd rfl c
          · exact ⟨_, hi⟩
  · rw [hlen, ins_get hp1]
    by_cases c : p + 1 = Z.length
    · rw [if_neg (by omega), if_pos (by omega), hla, if_pos c]
    · rw [if_neg (by omega), if_neg (by omega), hla, if_neg c]
      exact h10
theorem era_get {Z : List Nat} (i j : Nat) : (Z.eraseIdx i)[j]? = if j < i then Z[j]? else Z[j + 1]? := List.getElem?_eraseIdx
/-- the stamp x at p + 1 is taken out; w is ahead of it -/
theorem Ln.del {L : Nat → Nat} {b n : Nat → Option Nat} {t : Nat → Bool} {la mn : Nat} {Z : List Nat} (h : Ln L b n t la mn Z) {p x w : Nat} (hx : Z[p + 1]? = some x) (hw : Z[p]? = some w)
    {b' : Nat → Option Nat} {la' : Nat} (hby : ∀ y : Nat, Z[p + 2]? = some y → b' y = some w) (hbo : ∀ z, Z[p + 2]? ≠ some z → b' z = b z) (hla : la' = if p + 2 = Z.length then w else la) :
    Ln L b' (va_up n w (n x)) (va_up t x false) la' (mn - 1) (Z.eraseIdx (p + 1)) := by
  have hpl := gt_lt hx
  have hlen : (Z.eraseIdx (p + 1)).length = Z.length - 1 := List.length_eraseIdx_of_lt hpl
  obtain ⟨h1, h2, h3, h4, h5, h6, h7, h8, h9, h10, h11⟩ := h
  refine ⟨?_, ?_, ?_, ?_, ?_, ?_, ?_, ?_, ?_, ?_, by rw [h11, hlen]⟩
  · rw [era_get, if_pos (by omega)]; exact h1
  · intro i j z hi hj
    rw [era_get] at hi hj
    split at hi <;> split at hj
    · exact h2 i j z hi hj
    · have := h2 _ _ z hi hj; omega
    · have := h2 _ _ z hi hj; omega
    · have := h2 _ _ z hi hj; omega
  · intro i z hz
    rw [era_get] at hz
    split at hz
    · exact h3 _ z hz
    · exact h3 _ z hz
  · intro i z hz
    rw [era_get] at hz ⊢
    by_cases c1 : i < p + 1
    · rw [if_pos c1] at hz
      by_cases c2 : i = p
      · subst c2
        cases hw.symm.trans hz
        rw [up_s, if_neg (by omega), h4 _ x hx]
      · rw [up_n (fun e => c2 (h2 i p z hz (by rw [hw, e]))), if_pos (by omega)]
        exact h4 i z hz
    · rw [if_neg c1] at hz
      rw [up_n (fun e => by have := h2 _ _ z hz (by rw [e]; exact hw); omega), if_neg (by omega)]
      exact h4 _ z hz
  · intro i z hz
    rw [era_get] at hz ⊢
    by_cases c1 : i + 1 < p + 1
    · rw [if_pos c1] at hz
      rw [if_pos (by omega), hbo z (fun q => by have := h2 _ _ z hz q; omega)]
      exact h5 i z hz
    · rw [if_neg c1] at hz
      by_cases c2 : i = p
      · subst c2
        rw [if_pos (by omega), hw]
        exact hby z hz
      · rw [if_neg (by omega), hbo z (fun q => by have := h2 _ _ z hz q; omega)]
        exact h5 _ z hz
  · rw [hbo 0 (fun q => by have := h2 _ _ 0 h1 q; omega)]; exact h6
  · intro i z y hz hy
    rw [era_get] at hz hy
    by_cases c1 : i + 1 < p + 1
    · rw [if_pos (by omega)] at hz
      rw [if_pos c1] at hy
      exact h7 i z y hz hy
    · rw [if_neg c1] at hy
      by_cases c2 : i = p
      · subst c2
        rw [if_pos (by omega)] at hz
        exact Nat.lt_trans (h7 i z x hz hx) (h7 _ x y hx hy)
      · rw [if_neg (by omega)] at hz
        exact h7 _ z y hz hy
  · intro i z hz
    rw [era_get] at hz
    split at hz
    · exact h8 _ z hz
    · exact h8 _ z hz
  · intro z hz
    by_cases c : z = x
    · subst c
      rw [up_s]
      refine ⟨fun q => (by cases q), ?_⟩
      rintro ⟨i, hi⟩
      rw [era_get] at hi
      split at hi
      · have := h2 _ _ z hi hx; omega
      · have := h2 _ _ z hi hx; omega
    · rw [up_n c, h9 z hz]
      constructor
      · rintro ⟨i, hi⟩
        by_cases c1 : i < p + 1
        · exact ⟨i, by rw [era_get, if_pos c1]; exact hi⟩
        · have hne : i ≠ p + 1 := fun e => c (by rw [e] at hi; exact Option.some.inj (hi.symm.trans hx))
          exact ⟨i - 1, by rw [era_get, if_neg (by omega), show i - 1 + 1 = i by omega]; exact hi⟩
      · rintro ⟨i, hi⟩
        rw [era_get] at hi
        split at hi
        · exact ⟨_, hi⟩
        · exact ⟨_, hi⟩
  · rw [hlen, era_get]
    by_cases c : p + 2 = Z.length
    · rw [if_pos (by omega), hla, if_pos c, show Z.length - 1 - 1 = p by omega, hw]
    · rw [if_neg (by omega), hla, if_neg c, show Z.length - 1 - 1 + 1 = Z.length - 1 by omega]
      exact h10
/-- other labels, that rise too -/
theorem Ln.lab {L L' : Nat → Nat} {b n : Nat → Option Nat} {t : Nat → Bool} {la mn : Nat} {Z : List Nat} (h : Ln L b n t la mn Z) (h1 : ∀ i x y : Nat, Z[i]? = some x → Z[i + 1]? = some y → L' x < L' y) (h2 : ∀ i x : Nat, Z[i]? = some x → L' x < 2 ^ 40) : Ln L' b n t la mn Z :=
  ⟨h.1, h.2.1, h.2.2.1, h.2.2.2.1, h.2.2.2.2.1, h.2.2.2.2.2.1, h1, h2, h.2.2.2.2.2.2.2.2⟩
end
section
/-! 08: plain laws: the heap of free numbers -/
/-- what a row of n numbers holds -/
def Ct (F : Nat → Nat) (n : Nat) (S : Nat → Prop) : Prop := (∀ i, i < n → F i < 1000 ∧ S (F i)) ∧ (∀ x, x < 1000 → S x → ∃ i, i < n ∧ F i = x) ∧ ∀ i j, i < n → j < n → F i = F j → i = j
def Hp (F : Nat → Nat) (n : Nat) (S : Nat → Prop) : Prop := Ct F n S ∧ ∀ i, 0 < i → i < n → F ((i - 1) / 2) ≤ F i
theorem Ct.congr {F : Nat → Nat} {n : Nat} {S S' : Nat → Prop} (h : Ct F n S) (hs : ∀ x, x < 1000 → (S x ↔ S' x)) : Ct F n S' :=
  ⟨fun i hi => ⟨(h.1 i hi).1, (hs _ (h.1 i hi).1).mp (h.1 i hi).2⟩, fun x hx hS => h.2.1 x hx ((hs x hx).mpr hS), h.2.2⟩
theorem Hp.congr {F : Nat → Nat} {n : Nat} {S S' : Nat → Prop} (h : Hp F n S) (hs : ∀ x, x < 1000 → (S x ↔ S' x)) : Hp F n S' := ⟨h.1.congr hs, h.2⟩
theorem Ct.fun {F F' : Nat → Nat} {n : Nat} {S : Nat → Prop} (h : Ct F n S) (hf : ∀ i, i < n → F' i = F i) : Ct F' n S := by
  refine ⟨fun i hi => by rw [hf i hi]; exact h.1 i hi, fun x hx hS => ?_, fun i j hi hj e => h.2.2 i j hi hj (by rw [← hf i hi, ← hf j hj]; exact e)⟩
  obtain ⟨i, hi, e⟩ := h.2.1 x hx hS
  exact ⟨i, hi, by rw [hf i hi]; exact e⟩
/-- two places change their numbers -/
theorem Ct.swap {F F' : Nat → Nat} {n a b : Nat} {S : Nat → Prop} (h : Ct F n S) (ha : a < n) (hb : b < n) (e1 : F' a = F b) (e2 : F' b = F a) (e3 : ∀ i, i ≠ a → i ≠ b → F' i = F i) : Ct F' n S := by
  have key : ∀ i, i < n → ∃ j, j < n ∧ F' i = F j ∧ ((i = a ∧ j = b) ∨ (i = b ∧ j = a) ∨ (i ≠ a ∧ i ≠ b ∧ j = i)) := by
    intro i hi
    by_cases c1 : i = a
    · exact ⟨b, hb, by rw [c1, e1], Or.inl ⟨c1, rfl⟩⟩
    · by_cases c2 : i = b
      · exact ⟨a, ha, by rw [c2, e2], Or.inr (Or.inl ⟨c2, rfl⟩)⟩
      · exact ⟨i, hi, e3 i c1 c2, Or.inr (Or.inr ⟨c1, c2, rfl⟩)⟩
  refine ⟨fun i hi => ?_, fun x hx hS => ?_, fun i j hi hj e => ?_⟩
  · obtain ⟨j, hj, e, -⟩ := key i hi
    rw [e]; exact h.1 j hj
  · obtain ⟨i, hi, e⟩ := h.2.1 x hx hS
    by_cases c1 : i = a
    · exact ⟨b, hb, by rw [e2, ← c1]; exact e⟩
    · by_cases c2 : i = b
      · exact ⟨a, ha, by rw [e1, ← c2]; exact e⟩
      · exact ⟨i, hi, by rw [e3 i c1 c2]; exact e⟩
  · obtain ⟨i', hi', ei, ci⟩ := key i hi
    obtain ⟨j', hj', ej, cj⟩ := key j hj
    have := h.2.2 i' j' hi' hj' (by rw [← ei, ← ej]; exact e)
    omega
theorem Hp.least {F : Nat → Nat} {n : Nat} {S : Nat → Prop} (h : Hp F n S) : ∀ i, i < n → F 0 ≤ F i := by
  intro i
  induction i using Nat.strongRecOn with
  | ind i ih =>
    intro hi
    by_cases c : i = 0
    · rw [c]; exact Nat.le_refl _
    · exact Nat.le_trans (ih ((i - 1) / 2) (by omega) (by omega)) (h.2 i (by omega) hi)
theorem Hp.min {F : Nat → Nat} {n : Nat} {S : Nat → Prop} (h : Hp F n S) {x : Nat} (hx : x < 1000) (hS : S x) : F 0 ≤ x := by
  obtain ⟨i, hi, e⟩ := h.1.2.1 x hx hS
  rw [← e]; exact h.least i hi
/-- sifting down: v is held out, the hole is at k -/
def Sd (F : Nat → Nat) (k v n : Nat) (S : Nat → Prop) : Prop :=
  Ct (va_up F k v) n S ∧ (∀ i, 0 < i → i < n → (i - 1) / 2 ≠ k → va_up F k v ((i - 1) / 2) ≤ va_up F k v i) ∧ (∀ i, 0 < i → i < n → (i - 1) / 2 = k → 0 < k → va_up F k v ((k - 1) / 2) ≤ va_up F k v i)
theorem Sd.start {F : Nat → Nat} {n : Nat} {S : Nat → Prop} (h : Hp F (n + 1) S) : Sd F 0 (F n) n (fun x => S x ∧ x ≠ F 0) := by
  refine ⟨⟨fun i hi => ?_, fun x hx hS => ?_, fun i j hi hj e => ?_⟩, fun i h0 hi hp => ?_, fun i _ _ _ h0 => absurd h0 (Nat.lt_irrefl 0)⟩
  · by_cases c : i = 0
    · rw [c, up_s]
      refine ⟨(h.1.1 n (by omega)).1, (h.1.1 n (by omega)).2, fun e => ?_⟩
      have := h.1.2.2 n 0 (by omega) (by omega) e
      omega
    · rw [up_n c]
      refine ⟨(h.1.1 i (by omega)).1, (h.1.1 i (by omega)).2, fun e => ?_⟩
      have := h.1.2.2 i 0 (by omega) (by omega) e
      omega
  · obtain ⟨i, hi, e⟩ := h.1.2.1 x hx hS.1
    have hi0 : i ≠ 0 := fun c => hS.2 (by rw [← e, c])
    by_cases c : i = n
    · exact ⟨0, by omega, by rw [up_s, ← c]; exact e⟩
    · exact ⟨i, by omega, by rw [up_n hi0]; exact e⟩
  · by_cases c1 : i = 0 <;> by_cases c2 : j = 0
    · omega
    · rw [c1, up_s, up_n c2] at e
      have := h.1.2.2 n j (by omega) (by omega) e; omega
    · rw [c2, up_s, up_n c1] at e
      have := h.1.2.2 i n (by omega) (by omega) e; omega
    · rw [up_n c1, up_n c2] at e
      exact h.1.2.2 i j (by omega) (by omega) e
  · rw [up_n hp, up_n (by omega)]
    exact h.2 i h0 (by omega)
theorem Sd.step {F : Nat → Nat} {k v n c : Nat} {S : Nat → Prop} (h : Sd F k v n S) (hc0 : 0 < c) (hc : c < n) (hck : (c - 1) / 2 = k) (hcv : F c < v) (hsib : ∀ d, 0 < d → d < n → (d - 1) / 2 = k → F c ≤ F d) : Sd (va_up F k (F c)) c v n S := by
  have hne : c ≠ k := by omega
  have g1 : va_up (va_up F k (F c)) c v k = F c := by rw [up_n hne.symm, up_s]
  have g2 : va_up (va_up F k (F c)) c v c = v := up_s
  have g3 : ∀ i, i ≠ k → i ≠ c → va_up (va_up F k (F c)) c v i = F i := fun i h1 h2 => by rw [up_n h2, up_n h1]
  have f1 : va_up F k v k = v := up_s
  have f3 : ∀ i, i ≠ k → va_up F k v i = F i := fun i h1 => up_n h1
  refine ⟨h.1.swap (a := k) (b := c) (by omega) hc (by rw [g1, f3 c hne]) (by rw [g2, f1]) (fun i h1 h2 => by rw [g3 i h1 h2, f3 i h1]), fun i h0 hi hp => ?_, fun i h0 hi hp hk0 => ?_⟩
  · by_cases a1 : i = c
    · rw [a1, hck, g1, g2]; omega
    · by_cases a2 : (i - 1) / 2 = k
      · rw [a2, g1, g3 i (by omega) a1]
        exact hsib i h0 hi a2
      · by_cases a3 : i = k
        · rw [g3 _ (by omega) hp, a3, g1]
          have := h.2.2 c hc0 hc hck (by omega)
          rw [f3 _ (by omega), f3 c hne] at this
          exact this
        · rw [g3 _ a2 hp, g3 i a3 a1]
          have := h.2.1 i h0 hi a2
          rw [f3 _ a2, f3 i a3] at this
          exact this
  · rw [hck, g1, g3 i (by omega) (by omega)]
    have := h.2.1 i h0 hi (by omega)
    rw [hp, f3 c hne, f3 i (by omega)] at this
    exact this
theorem Sd.stop {F : Nat → Nat} {k v n : Nat} {S : Nat → Prop} (h : Sd F k v n S) (hs : ∀ d, 0 < d → d < n → (d - 1) / 2 = k → v ≤ F d) : Hp (va_up F k v) n S := by
  refine ⟨h.1, fun i h0 hi => ?_⟩
  by_cases a : (i - 1) / 2 = k
  · rw [a, up_s, up_n (by omega)]
    exact hs i h0 hi a
  · exact h.2.1 i h0 hi a
/-- sifting up -/
def Su (F : Nat → Nat) (k v n : Nat) (S : Nat → Prop) : Prop :=
  k < n ∧ Ct (va_up F k v) n S ∧ (∀ i, 0 < i → i < n → i ≠ k → va_up F k v ((i - 1) / 2) ≤ va_up F k v i) ∧ (∀ i, 0 < i → i < n → (i - 1) / 2 = k → 0 < k → va_up F k v ((k - 1) / 2) ≤ va_up F k v i)
theorem Su.start {F : Nat → Nat} {n v : Nat} {S : Nat → Prop} (h : Hp F n S) (hv : v < 1000) (hS : ¬ S v) : Su F n v (n + 1) (fun x => S x ∨ x = v) := by
  refine ⟨by omega, ⟨fun i hi => ?_, fun x hx hx2 => ?_, fun i j hi hj e => ?_⟩, fun i h0 hi hne => ?_, fun i h0 hi hp _ => ?_⟩
  · by_cases c : i = n
    · rw [c, up_s]; exact ⟨hv, Or.inr rfl⟩
    · rw [up_n c]; exact ⟨(h.1.1 i (by omega)).1, Or.inl (h.1.1 i (by omega)).2⟩
  · by_cases c : x = v
    · exact ⟨n, by omega, by rw [up_s, c]⟩
    · obtain ⟨i, hi, e⟩ := h.1.2.1 x hx (hx2.resolve_right c)
      exact ⟨i, by omega, by rw [up_n (by omega)]; exact e⟩
  · by_cases c1 : i = n <;> by_cases c2 : j = n
    · omega
    · rw [c1, up_s, up_n c2] at e
      exact absurd (by rw [e]; exact (h.1.1 j (by omega)).2) hS
    · rw [c2, up_s, up_n c1] at e
      exact absurd (by rw [← e]; exact (h.1.1 i (by omega)).2) hS
    · rw [up_n c1, up_n c2] at e
      exact h.1.2.2 i j (by omega) (by omega) e
  · rw [up_n (by omega), up_n hne]
    exact h.2 i h0 (by omega)
  · omega
theorem Su.step {F : Nat → Nat} {k v n : Nat} {S : Nat → Prop} (h : Su F k v n S) (h0 : 0 < k) (hv : v < F ((k - 1) / 2)) : Su (va_up F k (F ((k - 1) / 2))) ((k - 1) / 2) v n S := by
  obtain ⟨hk, hC, hA, hB⟩ := h
  generalize hq : (k - 1) / 2 = q at *
  have hqk : q ≠ k := by omega
  have g1 : va_up (va_up F k (F q)) q v k = F q := by rw [up_n hqk.symm, up_s]
  have g2 : va_up (va_up F k (F q)) q v q = v := up_s
  have g3 : ∀ i, i ≠ k → i ≠ q → va_up (va_up F k (F q)) q v i = F i := fun i h1 h2 => by rw [up_n h2, up_n h1]
  have f1 : va_up F k v k = v := up_s
  have f3 : ∀ i, i ≠ k → va_up F k v i = F i := fun i h1 => up_n h1
  refine ⟨by omega, hC.swap (a := k) (b := q) hk (by omega) (by rw [g1, f3 q hqk]) (by rw [g2, f1]) (fun i h1 h2 => by rw [g3 i h1 h2, f3 i h1]), fun i i0 hi hne => ?_, fun i i0 hi hp q0 => ?_⟩
  · by_cases a1 : i = k
    · rw [a1, hq, g1, g2]; omega
    · by_cases a2 : (i - 1) / 2 = k
      · rw [a2, g1, g3 i a1 hne]
        have := hB i i0 hi a2 h0
        rw [f3 q hqk, f3 i a1] at this
        exact this
      · by_cases a3 : (i - 1) / 2 = q
        · rw [a3, g2, g3 i a1 hne]
          have := hA i i0 hi a1
          rw [a3, f3 q hqk, f3 i a1] at this
          omega
        · rw [g3 _ a2 a3, g3 i a1 hne]
          have := hA i i0 hi a1
          rw [f3 _ a2, f3 i a1] at this
          exact this
  · have hqq := hA q q0 (by omega) hqk
    rw [f3 q hqk, f3 _ (by omega)] at hqq
    rw [g3 _ (by omega) (by omega)]
    by_cases a1 : i = k
    · rw [a1, g1]; exact hqq
    · rw [g3 i a1 (by omega)]
      have := hA i i0 hi a1
      rw [hp, f3 q hqk, f3 i a1] at this
      omega
theorem Su.stop {F : Nat → Nat} {k v n : Nat} {S : Nat → Prop} (h : Su F k v n S) (hs : k = 0 ∨ F ((k - 1) / 2) ≤ v) : Hp (va_up F k v) n S := by
  obtain ⟨hk, hC, hA, hB⟩ := h
  refine ⟨hC, fun i i0 hi => ?_⟩
  by_cases a : i = k
  · rw [a, up_s, up_n (by omega)]
    omega
  · exact hA i i0 hi a
end
section
/-! 09: shifts of longs; small numbers (wb_tb .. wb_shl: out of the kit's BITS.to-paste) -/
theorem wb_tb (n : Nat) : (lN n).toBitVec = BitVec.ofNat 64 n := rfl
theorem wb_inj {a b : Int64} (h : a.toBitVec = b.toBitVec) : a = b := Int64.toBitVec_inj.mp h
theorem wb_c : ∀ k, k < 64 → ((nI k).toInt64 &&& 63) = lN k := by decide +kernel
theorem wb_sm : ∀ k, k < 64 → (BitVec.ofNat 64 k).smod 64 = BitVec.ofNat 64 k := by decide +kernel
theorem sh_l {n k : Nat} (hk : k < 64) : lN n <<< ((nI k).toInt64 &&& 63) = lN (n * 2 ^ k) := by
  rw [wb_c k hk]
  apply wb_inj
  rw [Int64.toBitVec_shiftLeft, wb_tb, wb_tb, wb_tb, wb_sm k hk]
  apply BitVec.eq_of_toNat_eq
  rw [BitVec.shiftLeft_eq', BitVec.toNat_shiftLeft, BitVec.toNat_ofNat, BitVec.toNat_ofNat, BitVec.toNat_ofNat, Nat.mod_eq_of_lt (show k < 2 ^ 64 by omega), Nat.shiftLeft_eq, Nat.mul_mod, Nat.mod_mod, ← Nat.mul_mod]
theorem sh_r {n k : Nat} (hn : n < 2 ^ 63) (hk : k < 64) : lN n >>> ((nI k).toInt64 &&& 63) = lN (n / 2 ^ k) := by
  rw [wb_c k hk]
  apply Int64.toInt_inj.mp
  have h2 : n / 2 ^ k ≤ n := Nat.div_le_self _ _
  rw [pk_lT (by omega)]
  show ((lN n).toBitVec.sshiftRight ((lN k).toBitVec.smod 64).toNat).toInt = _
  rw [wb_tb k, wb_sm k hk, BitVec.toNat_ofNat, Nat.mod_eq_of_lt (by omega), BitVec.toInt_sshiftRight]
  have h3 : (lN n).toBitVec.toInt = (n : Int) := pk_lT hn
  rw [h3, Int.shiftRight_eq_div_pow]
  rfl
end
section
/-! 10: OrderLine's leaves: has, labelBehind, giveNumber, takeNumber (by program: gen/o1.py) -/
set_option maxHeartbeats 4000000 in
set_option maxRecDepth 100000 in
/-- has(x), x the number k of a stamp -/
theorem c_o_has (l : Launch) (G : OG) (hG : ol_ok G) {L : Nat → Nat} {b n : Nat → Option Nat} {t : Nat → Bool} {F : Nat → Nat} {nf la mn : Nat} {k : Nat} (hk : k < 1000) : ol_M l y_o_has b_o_has 2 (some .boolean) ({ frames := 0, cells := 0, slots := 0, locals := 0 }) G [.int (nI k)] (L, b, n, t, F, nf, la, mn) (ol_Qz G (fun r u => r = t k ∧ u = (L, b, n, t, F, nf, la, mn))) := by
  refine ol_mz (by decide) rfl hG (Nat.le_of_ble_eq_true rfl) (fun p e R s m args below meth c Q ls hR X hml hP hS hl hend => ?_)
  have hx := X.1
  have hb := X.2.1
  have hl : lv_has ls 2 [(0, .ref (ol_h G)), (1, .int (nI k))] := hl
  refine lv_iload_n hx hb d_o_has_0 rfl (lv_at hl 1 rfl) ?_
  refine nz_lt (tgt := 27) hx hb (by omega) d_o_has_1 (by decide) ?_
  refine lv_iload_n hx hb d_o_has_4 rfl (lv_at hl 1 rfl) ?_
  refine lv_sipush (v := (nI 1000)) hx hb d_o_has_5 (by decide) ?_
  refine nb_ge (tgt := 27) hx hb (by omega) (by omega) d_o_has_8 (by decide) (fun q => ?_) (fun q => ?_)
  · exact absurd q (by omega)
  · refine lv_aload_n hx hb d_o_has_11 rfl (lv_at hl 0 rfl) ?_
    refine g_stamps X hP d_o_has_12 ?_
    refine lv_iload_n hx hb d_o_has_15 rfl (lv_at hl 1 rfl) ?_
    refine a_stamps X hP hk d_o_has_16 ?_
    refine g_there (o := (t k)) X hP hk rfl d_o_has_17 ?_
    refine z_eq (tgt := 27) hx hb d_o_has_20 (by decide) (fun q2 => ?_) (fun q2 => ?_)
    · refine lv_iconst (v := (nI 0)) hx hb d_o_has_27 (by decide) ?_
      exact hend false _ _ _ _ _ _ (by decide) hP hS d_o_has_28 ⟨q2.symm, rfl⟩
    · refine lv_iconst (v := (nI 1)) hx hb d_o_has_23 (by decide) ?_
      refine lv_goto (tgt := 28) hx hb d_o_has_24 (by decide) ?_
      exact hend true _ _ _ _ _ _ (by decide) hP hS d_o_has_28 ⟨q2.symm, rfl⟩
set_option maxHeartbeats 4000000 in
set_option maxRecDepth 100000 in
/-- has(x), x no number of a stamp -/
theorem c_o_hasN (l : Launch) (G : OG) (hG : ol_ok G) {L : Nat → Nat} {b n : Nat → Option Nat} {t : Nat → Bool} {F : Nat → Nat} {nf la mn : Nat} {x : Int32} (hx0 : x < 0 ∨ nI 1000 ≤ x) : ol_M l y_o_has b_o_has 2 (some .boolean) ({ frames := 0, cells := 0, slots := 0, locals := 0 }) G [.int x] (L, b, n, t, F, nf, la, mn) (ol_Qz G (fun r u => r = false ∧ u = (L, b, n, t, F, nf, la, mn))) := by
  refine ol_mz (by decide) rfl hG (Nat.le_of_ble_eq_true rfl) (fun p e R s m args below meth c Q ls hR X hml hP hS hl hend => ?_)
  have hx := X.1
  have hb := X.2.1
  have hl : lv_has ls 2 [(0, .ref (ol_h G)), (1, .int x)] := hl
  refine lv_iload_n hx hb d_o_has_0 rfl (lv_at hl 1 rfl) ?_
  refine lv_if_lt (tgt := 27) hx hb d_o_has_1 (by decide) (fun q => ?_) (fun q => ?_)
  · refine lv_iconst (v := (nI 0)) hx hb d_o_has_27 (by decide) ?_
    exact hend false _ _ _ _ _ _ (by decide) hP hS d_o_has_28 ⟨rfl, rfl⟩
  · refine lv_iload_n hx hb d_o_has_4 rfl (lv_at hl 1 rfl) ?_
    refine lv_sipush (v := (nI 1000)) hx hb d_o_has_5 (by decide) ?_
    refine lv_icmp_ge (tgt := 27) hx hb d_o_has_8 (by decide) (fun q2 => ?_) (fun q2 => ?_)
    · refine lv_iconst (v := (nI 0)) hx hb d_o_has_27 (by decide) ?_
      exact hend false _ _ _ _ _ _ (by decide) hP hS d_o_has_28 ⟨rfl, rfl⟩
    · exact absurd (hx0.resolve_left q) q2
def lbh (L : Nat → Nat) (o : Option Nat) : Nat := match o with
  | some y => L y
  | none => 1099511627776
set_option maxHeartbeats 4000000 in
set_option maxRecDepth 100000 in
/-- the label behind a stamp -/
theorem c_o_labelBehind (l : Launch) (G : OG) (hG : ol_ok G) {L : Nat → Nat} {b n : Nat → Option Nat} {t : Nat → Bool} {F : Nat → Nat} {nf la mn : Nat} {x : Nat} (hx0 : x < 1000) (hn : ∀ y, n x = some y → y < 1000) : ol_M l y_o_labelBehind b_o_labelBehind 2 (some .long) ({ frames := 0, cells := 0, slots := 0, locals := 0 }) G [.ref (ol_a G x)] (L, b, n, t, F, nf, la, mn) (ol_Ql G (fun r u => r = lN (lbh L (n x)) ∧ u = (L, b, n, t, F, nf, la, mn))) := by
  refine ol_ml (by decide) rfl hG (Nat.le_of_ble_eq_true rfl) (fun p e R s m args below meth c Q ls hR X hml hP hS hl hend => ?_)
  have hx := X.1
  have hb := X.2.1
  have hl : lv_has ls 2 [(0, .ref (ol_h G)), (1, .ref (ol_a G x))] := hl
  rcases hnx : n x with _ | y
  · refine lv_aload_n hx hb d_o_labelBehind_0 rfl (lv_at hl 1 rfl) ?_
    refine g_next (o := none) X hP hx0 hnx d_o_labelBehind_1 ?_
    refine lv_ifnonnullN hx hb d_o_labelBehind_4 ?_
    refine lv_ldc2 (v := (lN 1099511627776)) hx hb X.2.2.1 (X.2.2.2.1 _ kl_o_47) d_o_labelBehind_7 ?_
    refine lv_goto (tgt := 20) hx hb d_o_labelBehind_10 (by decide) ?_
    exact hend _ _ _ _ _ _ hP hS d_o_labelBehind_20 ⟨by rw [hnx]; rfl, rfl⟩
  · refine lv_aload_n hx hb d_o_labelBehind_0 rfl (lv_at hl 1 rfl) ?_
    refine g_next (o := (some y)) X hP hx0 hnx d_o_labelBehind_1 ?_
    refine lv_ifnonnull (tgt := 13) hx hb d_o_labelBehind_4 (by decide) ?_
    refine lv_aload_n hx hb d_o_labelBehind_13 rfl (lv_at hl 1 rfl) ?_
    refine g_next (o := (some y)) X hP hx0 hnx d_o_labelBehind_14 ?_
    refine g_label X hP (hn y hnx) d_o_labelBehind_17 ?_
    exact hend _ _ _ _ _ _ hP hS d_o_labelBehind_20 ⟨by rw [hnx]; rfl, rfl⟩
set_option maxHeartbeats 4000000 in
set_option maxRecDepth 100000 in
/-- giveNumber(v) -/
theorem c_o_giveNumber (l : Launch) (G : OG) (hG : ol_ok G) {L : Nat → Nat} {b n : Nat → Option Nat} {t : Nat → Bool} {F : Nat → Nat} {nf la mn : Nat} {S : Nat → Prop} {v : Nat} (hH : Hp F nf S) (hnf : nf < 1000) (hv : v < 1000) (hS0 : ¬ S v) : ol_M l y_o_giveNumber b_o_giveNumber 3 none ({ frames := 0, cells := 0, slots := 0, locals := 0 }) G [.int (nI v)] (L, b, n, t, F, nf, la, mn) (ol_Qv G (fun u => ∃ F', u = (L, b, n, t, F', nf + 1, la, mn) ∧ Hp F' (nf + 1) (fun x => S x ∨ x = v))) := by
  refine ol_mv (by decide) rfl hG (Nat.le_of_ble_eq_true rfl) (fun p e R s m args below meth c Q ls hR X hml hP hS hl hend => ?_)
  have hx := X.1
  have hb := X.2.1
  have hl : lv_has ls 3 [(0, .ref (ol_h G)), (1, .int (nI v))] := hl
  have loop : ∀ (d k : Nat) (F' : Nat → Nat), k < d → Su F' k v (nf + 1) (fun x => S x ∨ x = v) → ∀ (H : Heap) (locs : List Loc), ol_P G (L, b, n, t, F', nf + 1, la, mn) H → va_S (ol_A G) s.heap H locs → ∀ (ls : Array Slot), lv_has ls 3 [(2, .int (nI k)), (0, .ref (ol_h G)), (1, .int (nI v))] → W p l e R s m args below meth c H locs 0 0 Q (F0 m 15 ls []) := by
    intro d
    induction d with
    | zero => intro k F' hd; exact absurd hd (Nat.not_lt_zero _)
    | succ d ih =>
      intro k F' hd hSu H locs hP hS ls hl
      have hkn : k < nf + 1 := hSu.1
      refine lv_iload_n hx hb d_o_giveNumber_15 rfl (lv_at hl 0 rfl) ?_
      refine nz_le (tgt := 58) hx hb (by omega) d_o_giveNumber_16 (by decide) (fun q => ?_) (fun q => ?_)
      · refine lv_aload_n hx hb d_o_giveNumber_58 rfl (lv_at hl 1 rfl) ?_
        refine g_free X hP d_o_giveNumber_59 ?_
        refine lv_iload_n hx hb d_o_giveNumber_62 rfl (lv_at hl 0 rfl) ?_
        refine lv_iload_n hx hb d_o_giveNumber_63 rfl (lv_at hl 2 rfl) ?_
        refine s_free X hP hS (by omega) d_o_giveNumber_64 (fun H locs hP hS => ?_)
        exact hend _ _ _ _ _ hP hS d_o_giveNumber_65 ⟨_, rfl, hSu.stop (Or.inl q)⟩
      · have hFp : F' ((k - 1) / 2) < 1000 := by
          have := (hSu.2.1.1 ((k - 1) / 2) (by omega)).1
          rw [up_n (by omega)] at this
          exact this
        refine lv_aload_n hx hb d_o_giveNumber_19 rfl (lv_at hl 1 rfl) ?_
        refine g_free X hP d_o_giveNumber_20 ?_
        refine lv_iload_n hx hb d_o_giveNumber_23 rfl (lv_at hl 0 rfl) ?_
        refine lv_iconst (v := (nI 1)) hx hb d_o_giveNumber_24 (by decide) ?_
        refine lv_isub hx hb d_o_giveNumber_25 ?_
        refine tp_i (nI (k - 1)) (pk_sub (by omega)) ?_
        refine lv_iconst (v := (nI 2)) hx hb d_o_giveNumber_26 (by decide) ?_
        refine lv_idiv hx hb d_o_giveNumber_27 (by decide) ?_
        refine tp_i (nI ((k - 1) / 2)) (pk_div (by omega) (by omega) (by omega)) ?_
        refine a_free X hP (by omega) d_o_giveNumber_28 ?_
        refine lv_iload_n hx hb d_o_giveNumber_29 rfl (lv_at hl 2 rfl) ?_
        refine nb_le (tgt := 58) hx hb (by omega) (by omega) d_o_giveNumber_30 (by decide) (fun q2 => ?_) (fun q2 => ?_)
        · refine lv_aload_n hx hb d_o_giveNumber_58 rfl (lv_at hl 1 rfl) ?_
          refine g_free X hP d_o_giveNumber_59 ?_
          refine lv_iload_n hx hb d_o_giveNumber_62 rfl (lv_at hl 0 rfl) ?_
          refine lv_iload_n hx hb d_o_giveNumber_63 rfl (lv_at hl 2 rfl) ?_
          refine s_free X hP hS (by omega) d_o_giveNumber_64 (fun H locs hP hS => ?_)
          exact hend _ _ _ _ _ hP hS d_o_giveNumber_65 ⟨_, rfl, hSu.stop (Or.inr q2)⟩
        · refine lv_aload_n hx hb d_o_giveNumber_33 rfl (lv_at hl 1 rfl) ?_
          refine g_free X hP d_o_giveNumber_34 ?_
          refine lv_iload_n hx hb d_o_giveNumber_37 rfl (lv_at hl 0 rfl) ?_
          refine lv_aload_n hx hb d_o_giveNumber_38 rfl (lv_at hl 1 rfl) ?_
          refine g_free X hP d_o_giveNumber_39 ?_
          refine lv_iload_n hx hb d_o_giveNumber_42 rfl (lv_at hl 0 rfl) ?_
          refine lv_iconst (v := (nI 1)) hx hb d_o_giveNumber_43 (by decide) ?_
          refine lv_isub hx hb d_o_giveNumber_44 ?_
          refine tp_i (nI (k - 1)) (pk_sub (by omega)) ?_
          refine lv_iconst (v := (nI 2)) hx hb d_o_giveNumber_45 (by decide) ?_
          refine lv_idiv hx hb d_o_giveNumber_46 (by decide) ?_
          refine tp_i (nI ((k - 1) / 2)) (pk_div (by omega) (by omega) (by omega)) ?_
          refine a_free X hP (by omega) d_o_giveNumber_47 ?_
          refine s_free X hP hS (by omega) d_o_giveNumber_48 (fun H locs hP hS => ?_)
          refine lv_iload_n hx hb d_o_giveNumber_49 rfl (lv_at hl 0 rfl) ?_
          refine lv_iconst (v := (nI 1)) hx hb d_o_giveNumber_50 (by decide) ?_
          refine lv_isub hx hb d_o_giveNumber_51 ?_
          refine tp_i (nI (k - 1)) (pk_sub (by omega)) ?_
          refine lv_iconst (v := (nI 2)) hx hb d_o_giveNumber_52 (by decide) ?_
          refine lv_idiv hx hb d_o_giveNumber_53 (by decide) ?_
          refine tp_i (nI ((k - 1) / 2)) (pk_div (by omega) (by omega) (by omega)) ?_
          refine lv_istore_n (lv' := [(2, .int (nI ((k - 1) / 2))), (0, .ref (ol_h G)), (1, .int (nI v))]) hx hb d_o_giveNumber_54 rfl hl (by decide) rfl (fun ls hl => ?_)
          refine lv_goto (tgt := 15) hx hb d_o_giveNumber_55 (by decide) ?_
          exact ih _ _ (by omega) (hSu.step q q2) _ _ hP hS ls (lv_sub hl [0, 1, 2] rfl)
  refine lv_aload_n hx hb d_o_giveNumber_0 rfl (lv_at hl 0 rfl) ?_
  refine g_frees X hP d_o_giveNumber_1 ?_
  refine lv_istore_n (lv' := [(2, .int (nI nf)), (0, .ref (ol_h G)), (1, .int (nI v))]) hx hb d_o_giveNumber_4 rfl hl (by decide) rfl (fun ls hl => ?_)
  refine lv_aload_n hx hb d_o_giveNumber_5 rfl (lv_at hl 1 rfl) ?_
  refine lv_dup hx hb d_o_giveNumber_6 rfl ?_
  refine g_frees X hP d_o_giveNumber_7 ?_
  refine lv_iconst (v := (nI 1)) hx hb d_o_giveNumber_10 (by decide) ?_
  refine lv_iadd hx hb d_o_giveNumber_11 ?_
  refine tp_i (nI (nf + 1)) (nI_add _ _) ?_
  refine p_frees X hP hS d_o_giveNumber_12 (fun H locs hP hS => ?_)
  exact loop (nf + 1) nf F (by omega) (Su.start hH hv hS0) _ _ hP hS ls (lv_sub hl [0, 1, 2] rfl)
set_option maxHeartbeats 4000000 in
set_option maxRecDepth 100000 in
/-- takeNumber() -/
theorem c_o_takeNumber (l : Launch) (G : OG) (hG : ol_ok G) {L : Nat → Nat} {b n : Nat → Option Nat} {t : Nat → Bool} {F : Nat → Nat} {nq la mn : Nat} {S : Nat → Prop} (hH : Hp F (nq + 1) S) (hnf : nq < 1000) : ol_M l y_o_takeNumber b_o_takeNumber 5 (some .int) ({ frames := 0, cells := 0, slots := 0, locals := 0 }) G [] (L, b, n, t, F, nq + 1, la, mn) (ol_Qi G (fun r u => ∃ F', r = nI (F 0) ∧ u = (L, b, n, t, F', nq, la, mn) ∧ Hp F' nq (fun x => S x ∧ x ≠ F 0))) := by
  refine ol_mi (by decide) rfl hG (Nat.le_of_ble_eq_true rfl) (fun p e R s m args below meth c Q ls hR X hml hP hS hl hend => ?_)
  have hx := X.1
  have hb := X.2.1
  have hl : lv_has ls 5 [(0, .ref (ol_h G))] := hl
  have loop : ∀ (d k : Nat) (F' : Nat → Nat), nq < k + d → Sd F' k (F nq) nq (fun x => S x ∧ x ≠ F 0) → (nq = 0 → k = 0) → (0 < nq → k < nq) → ∀ (H : Heap) (locs : List Loc), ol_P G (L, b, n, t, F', nq, la, mn) H → va_S (ol_A G) s.heap H locs → ∀ (ls : Array Slot), lv_has ls 5 [(3, .int (nI k)), (0, .ref (ol_h G)), (1, .int (nI (F 0))), (2, .int (nI (F nq)))] → W p l e R s m args below meth c H locs 0 0 Q (F0 m 29 ls []) := by
    intro d
    induction d with
    | zero => intro k F' hd hSd hk0 hk1; exact absurd hd (by omega)
    | succ d ih =>
      intro k F' hd hSd hk0 hk1 H locs hP hS ls hl
      have hFn : F nq < 1000 := (hH.1.1 nq (by omega)).1
      have hb0 : ∀ i, i < nq → i ≠ k → F' i < 1000 := fun i hi hne => by
        have := (hSd.1.1 i hi).1
        rw [up_n hne] at this
        exact this
      have hk2 : k < 1000 := by omega
      have fin : (∀ d, 0 < d → d < nq → (d - 1) / 2 = k → F nq ≤ F' d) → ∀ (ls : Array Slot) (j : Int32), lv_has ls 5 [(4, .int j), (3, .int (nI k)), (0, .ref (ol_h G)), (1, .int (nI (F 0))), (2, .int (nI (F nq)))] → W p l e R s m args below meth c H locs 0 0 Q (F0 m 121 ls []) := by
        intro hs ls j hl
        refine lv_aload_n hx hb d_o_takeNumber_121 rfl (lv_at hl 2 rfl) ?_
        refine g_free X hP d_o_takeNumber_122 ?_
        refine lv_iload_n hx hb d_o_takeNumber_125 rfl (lv_at hl 1 rfl) ?_
        refine lv_iload_n hx hb d_o_takeNumber_126 rfl (lv_at hl 4 rfl) ?_
        refine s_free X hP hS (by omega) d_o_takeNumber_127 (fun H locs hP hS => ?_)
        refine lv_iload_n hx hb d_o_takeNumber_128 rfl (lv_at hl 3 rfl) ?_
        exact hend _ _ _ _ _ _ hP hS d_o_takeNumber_129 ⟨_, rfl, rfl, hSd.stop hs⟩
      have mid : ∀ (j : Nat), j < 2 → 2 * k + 1 + j < nq → (∀ d, 0 < d → d < nq → (d - 1) / 2 = k → F' (2 * k + 1 + j) ≤ F' d) → ∀ (ls : Array Slot), lv_has ls 5 [(4, .int (nI (2 * k + 1))), (3, .int (nI k)), (0, .ref (ol_h G)), (1, .int (nI (F 0))), (2, .int (nI (F nq)))] → W p l e R s m args below meth c H locs 0 0 Q (F0 m 85 ls [.int (nI j), .int (nI (2 * k + 1))]) := by
        intro j hj hjn hmin ls hl
        have hFc : F' (2 * k + 1 + j) < 1000 := hb0 _ hjn (by omega)
        refine lv_iadd hx hb d_o_takeNumber_85 ?_
        refine tp_i (nI (2 * k + 1 + j)) (nI_add _ _) ?_
        refine lv_istore (lv' := [(4, .int (nI (2 * k + 1 + j))), (3, .int (nI k)), (0, .ref (ol_h G)), (1, .int (nI (F 0))), (2, .int (nI (F nq)))]) hx hb d_o_takeNumber_86 hl (by decide) rfl (fun ls hl => ?_)
        refine lv_aload_n hx hb d_o_takeNumber_88 rfl (lv_at hl 2 rfl) ?_
        refine g_free X hP d_o_takeNumber_89 ?_
        refine lv_iload hx hb d_o_takeNumber_92 (lv_at hl 0 rfl) ?_
        refine a_free X hP (by omega) d_o_takeNumber_94 ?_
        refine lv_iload_n hx hb d_o_takeNumber_95 rfl (lv_at hl 4 rfl) ?_
        refine nb_lt (tgt := 102) hx hb (by omega) (by omega) d_o_takeNumber_96 (by decide) (fun q2 => ?_) (fun q2 => ?_)
        · refine lv_aload_n hx hb d_o_takeNumber_102 rfl (lv_at hl 2 rfl) ?_
          refine g_free X hP d_o_takeNumber_103 ?_
          refine lv_iload_n hx hb d_o_takeNumber_106 rfl (lv_at hl 1 rfl) ?_
          refine lv_aload_n hx hb d_o_takeNumber_107 rfl (lv_at hl 2 rfl) ?_
          refine g_free X hP d_o_takeNumber_108 ?_
          refine lv_iload hx hb d_o_takeNumber_111 (lv_at hl 0 rfl) ?_
          refine a_free X hP (by omega) d_o_takeNumber_113 ?_
          refine s_free X hP hS (by omega) d_o_takeNumber_114 (fun H locs hP hS => ?_)
          refine lv_iload hx hb d_o_takeNumber_115 (lv_at hl 0 rfl) ?_
          refine lv_istore_n (lv' := [(3, .int (nI (2 * k + 1 + j))), (4, .int (nI (2 * k + 1 + j))), (0, .ref (ol_h G)), (1, .int (nI (F 0))), (2, .int (nI (F nq)))]) hx hb d_o_takeNumber_117 rfl hl (by decide) rfl (fun ls hl => ?_)
          refine lv_goto (tgt := 29) hx hb d_o_takeNumber_118 (by decide) ?_
          exact ih _ _ (by omega) (hSd.step (c := 2 * k + 1 + j) (by omega) hjn (by omega) q2 hmin) (by omega) (by omega) _ _ hP hS ls (lv_sub hl [0, 2, 3, 4] rfl)
        · refine lv_goto (tgt := 121) hx hb d_o_takeNumber_99 (by decide) ?_
          exact fin (fun d h0 hd hp => Nat.le_trans q2 (hmin d h0 hd hp)) ls _ (lv_sub hl [0, 1, 2, 3, 4] rfl)
      refine lv_iconst (v := (nI 2)) hx hb d_o_takeNumber_29 (by decide) ?_
      refine lv_iload_n hx hb d_o_takeNumber_30 rfl (lv_at hl 0 rfl) ?_
      refine lv_imul hx hb d_o_takeNumber_31 ?_
      refine tp_i (nI (2 * k)) (pk_mul _ _) ?_
      refine lv_iconst (v := (nI 1)) hx hb d_o_takeNumber_32 (by decide) ?_
      refine lv_iadd hx hb d_o_takeNumber_33 ?_
      refine tp_i (nI ((2 * k) + 1)) (nI_add _ _) ?_
      refine lv_aload_n hx hb d_o_takeNumber_34 rfl (lv_at hl 1 rfl) ?_
      refine g_frees X hP d_o_takeNumber_35 ?_
      refine nb_ge (tgt := 121) hx hb (by omega) (by omega) d_o_takeNumber_38 (by decide) (fun q => ?_) (fun q => ?_)
      · refine lv_aload_n hx hb d_o_takeNumber_121 rfl (lv_at hl 1 rfl) ?_
        refine g_free X hP d_o_takeNumber_122 ?_
        refine lv_iload_n hx hb d_o_takeNumber_125 rfl (lv_at hl 0 rfl) ?_
        refine lv_iload_n hx hb d_o_takeNumber_126 rfl (lv_at hl 3 rfl) ?_
        refine s_free X hP hS (by omega) d_o_takeNumber_127 (fun H locs hP hS => ?_)
        refine lv_iload_n hx hb d_o_takeNumber_128 rfl (lv_at hl 2 rfl) ?_
        exact hend _ _ _ _ _ _ hP hS d_o_takeNumber_129 ⟨_, rfl, rfl, hSd.stop (fun d h0 hd hp => by omega)⟩
      · refine lv_iconst (v := (nI 2)) hx hb d_o_takeNumber_41 (by decide) ?_
        refine lv_iload_n hx hb d_o_takeNumber_42 rfl (lv_at hl 0 rfl) ?_
        refine lv_imul hx hb d_o_takeNumber_43 ?_
        refine tp_i (nI (2 * k)) (pk_mul _ _) ?_
        refine lv_iconst (v := (nI 1)) hx hb d_o_takeNumber_44 (by decide) ?_
        refine lv_iadd hx hb d_o_takeNumber_45 ?_
        refine tp_i (nI ((2 * k) + 1)) (nI_add _ _) ?_
        refine lv_istore (lv' := [(4, .int (nI ((2 * k) + 1))), (3, .int (nI k)), (0, .ref (ol_h G)), (1, .int (nI (F 0))), (2, .int (nI (F nq)))]) hx hb d_o_takeNumber_46 hl (by decide) rfl (fun ls hl => ?_)
        refine lv_iload hx hb d_o_takeNumber_48 (lv_at hl 0 rfl) ?_
        refine lv_iload hx hb d_o_takeNumber_50 (lv_at hl 0 rfl) ?_
        refine lv_iconst (v := (nI 1)) hx hb d_o_takeNumber_52 (by decide) ?_
        refine lv_iadd hx hb d_o_takeNumber_53 ?_
        refine tp_i (nI (((2 * k) + 1) + 1)) (nI_add _ _) ?_
        refine lv_aload_n hx hb d_o_takeNumber_54 rfl (lv_at hl 2 rfl) ?_
        refine g_frees X hP d_o_takeNumber_55 ?_
        refine nb_ge (tgt := 84) hx hb (by omega) (by omega) d_o_takeNumber_58 (by decide) (fun q2 => ?_) (fun q2 => ?_)
        · refine lv_iconst (v := (nI 0)) hx hb d_o_takeNumber_84 (by decide) ?_
          exact mid 0 (by omega) (by omega) (fun d h0 hd hp => by
            have : d = 2 * k + 1 + 0 := by omega
            rw [this]; exact Nat.le_refl _) ls (lv_sub hl [0, 1, 2, 3, 4] rfl)
        · have hF1 : F' (2 * k + 1 + 1) < 1000 := hb0 _ q2 (by omega)
          have hF0 : F' (2 * k + 1) < 1000 := hb0 _ q (by omega)
          refine lv_aload_n hx hb d_o_takeNumber_61 rfl (lv_at hl 2 rfl) ?_
          refine g_free X hP d_o_takeNumber_62 ?_
          refine lv_iload hx hb d_o_takeNumber_65 (lv_at hl 0 rfl) ?_
          refine lv_iconst (v := (nI 1)) hx hb d_o_takeNumber_67 (by decide) ?_
          refine lv_iadd hx hb d_o_takeNumber_68 ?_
          refine tp_i (nI (((2 * k) + 1) + 1)) (nI_add _ _) ?_
          refine a_free X hP (by omega) d_o_takeNumber_69 ?_
          refine lv_aload_n hx hb d_o_takeNumber_70 rfl (lv_at hl 2 rfl) ?_
          refine g_free X hP d_o_takeNumber_71 ?_
          refine lv_iload hx hb d_o_takeNumber_74 (lv_at hl 0 rfl) ?_
          refine a_free X hP (by omega) d_o_takeNumber_76 ?_
          refine nb_ge (tgt := 84) hx hb (by omega) (by omega) d_o_takeNumber_77 (by decide) (fun q3 => ?_) (fun q3 => ?_)
          · refine lv_iconst (v := (nI 0)) hx hb d_o_takeNumber_84 (by decide) ?_
            exact mid 0 (by omega) (by omega) (fun d h0 hd hp => by
              have : d = 2 * k + 1 ∨ d = 2 * k + 1 + 1 := by omega
              rcases this with rfl | rfl
              · exact Nat.le_refl _
              · exact q3) ls (lv_sub hl [0, 1, 2, 3, 4] rfl)
          · refine lv_iconst (v := (nI 1)) hx hb d_o_takeNumber_80 (by decide) ?_
            refine lv_goto (tgt := 85) hx hb d_o_takeNumber_81 (by decide) ?_
            exact mid 1 (by omega) (by omega) (fun d h0 hd hp => by
              have : d = 2 * k + 1 ∨ d = 2 * k + 1 + 1 := by omega
              rcases this with rfl | rfl
              · exact Nat.le_of_lt q3
              · exact Nat.le_refl _) ls (lv_sub hl [0, 1, 2, 3, 4] rfl)
  have hF0 : F 0 < 1000 := (hH.1.1 0 (by omega)).1
  have hFn : F nq < 1000 := (hH.1.1 nq (by omega)).1
  refine lv_aload_n hx hb d_o_takeNumber_0 rfl (lv_at hl 0 rfl) ?_
  refine g_free X hP d_o_takeNumber_1 ?_
  refine lv_iconst (v := (nI 0)) hx hb d_o_takeNumber_4 (by decide) ?_
  refine a_free X hP (by omega) d_o_takeNumber_5 ?_
  refine lv_istore_n (lv' := [(1, .int (nI (F 0))), (0, .ref (ol_h G))]) hx hb d_o_takeNumber_6 rfl hl (by decide) rfl (fun ls hl => ?_)
  refine lv_aload_n hx hb d_o_takeNumber_7 rfl (lv_at hl 1 rfl) ?_
  refine lv_dup hx hb d_o_takeNumber_8 rfl ?_
  refine g_frees X hP d_o_takeNumber_9 ?_
  refine lv_iconst (v := (nI 1)) hx hb d_o_takeNumber_12 (by decide) ?_
  refine lv_isub hx hb d_o_takeNumber_13 ?_
  refine tp_i (nI ((nq + 1) - 1)) (pk_sub (by omega)) ?_
  refine tp_i (nI nq) (by rw [Nat.add_sub_cancel]) ?_
  refine p_frees X hP hS d_o_takeNumber_14 (fun H locs hP hS => ?_)
  refine lv_aload_n hx hb d_o_takeNumber_17 rfl (lv_at hl 1 rfl) ?_
  refine g_free X hP d_o_takeNumber_18 ?_
  refine lv_aload_n hx hb d_o_takeNumber_21 rfl (lv_at hl 1 rfl) ?_
  refine g_frees X hP d_o_takeNumber_22 ?_
  refine a_free X hP (by omega) d_o_takeNumber_25 ?_
  refine lv_istore_n (lv' := [(2, .int (nI (F nq))), (1, .int (nI (F 0))), (0, .ref (ol_h G))]) hx hb d_o_takeNumber_26 rfl hl (by decide) rfl (fun ls hl => ?_)
  refine lv_iconst (v := (nI 0)) hx hb d_o_takeNumber_27 (by decide) ?_
  refine lv_istore_n (lv' := [(3, .int (nI 0)), (2, .int (nI (F nq))), (1, .int (nI (F 0))), (0, .ref (ol_h G))]) hx hb d_o_takeNumber_28 rfl hl (by decide) rfl (fun ls hl => ?_)
  exact loop (nq + 1) 0 F (by omega) (Sd.start hH) (fun _ => rfl) (fun h => h) _ _ hP hS ls (lv_sub hl [0, 3, 2, 1] rfl)
end
section
/-! 11: plain law of thin: the new labels rise, and there is room behind the stamp -/
theorem th_step {N bt P : Nat} (hP : P = 2 ^ bt) (hN : 1 ≤ N) (hN2 : N ≤ 1000) (hb : 1 ≤ bt) (h : bt = 40 ∨ N * (2 + bt * bt) ≤ P) : 2 ≤ P / (N + 1) ∧ (N + 1) * (P / (N + 1)) ≤ P := by
  refine ⟨?_, Nat.mul_div_le _ _⟩
  rw [Nat.le_div_iff_mul_le (by omega)]
  rcases h with h | h
  · rw [hP, h]; omega
  · by_cases h1 : bt = 1
    · subst h1; rw [hP] at h; omega
    · have h2 : 2 * 2 ≤ bt * bt := Nat.mul_le_mul (by omega) (by omega)
      have h3 : N * 6 ≤ N * (2 + bt * bt) := Nat.mul_le_mul_left N (by omega)
      omega
theorem th_low {a bt : Nat} (ha : a < 2 ^ 40) (hb : bt ≤ 40) : a / 2 ^ bt * 2 ^ bt + 2 ^ bt ≤ 2 ^ 40 := by
  have e : 2 ^ 40 = 2 ^ (40 - bt) * 2 ^ bt := by rw [← Nat.pow_add]; congr 1; omega
  have h1 : a / 2 ^ bt < 2 ^ (40 - bt) := by
    rw [Nat.div_lt_iff_lt_mul (Nat.two_pow_pos bt), ← e]; exact ha
  have h2 : (a / 2 ^ bt + 1) * 2 ^ bt ≤ 2 ^ (40 - bt) * 2 ^ bt := Nat.mul_le_mul_right _ h1
  rw [Nat.add_mul, Nat.one_mul, ← e] at h2
  exact h2
theorem th_lab {L L' : Nat → Nat} {b n : Nat → Option Nat} {t : Nat → Bool} {la mn : Nat} {Z : List Nat} (h : Ln L b n t la mn Z) {pp x f g lo P stp : Nat} (hx : Z[pp]? = some x) (hf : f ≤ pp) (hg : pp ≤ g) (hgl : g < Z.length)
    (hs : 2 ≤ stp) (hsP : (g - f + 1 + 1) * stp ≤ P) (hlo : lo + P ≤ 2 ^ 40) (c1 : ∀ i y : Nat, f = i + 1 → Z[i]? = some y → L y < lo) (c2 : ∀ y : Nat, Z[g + 1]? = some y → lo + P - 1 < L y)
    (hL : ∀ i z : Nat, Z[i]? = some z → L' z = if f ≤ i ∧ i < g + 1 then lo + (i - f) * stp else L z) :
    Ln L' b n t la mn Z ∧ (∀ y : Nat, Z[pp + 1]? = some y → L' x + 2 ≤ L' y) ∧ L' x + 2 ≤ 2 ^ 40 := by
  have top : (g - f) * stp + 4 ≤ P := by
    have : (g - f + 1 + 1) * stp = (g - f) * stp + stp + stp := by rw [Nat.add_mul, Nat.add_mul, Nat.one_mul]
    omega
  have le : ∀ i, i ≤ g → (i - f) * stp ≤ (g - f) * stp := fun i hi => Nat.mul_le_mul_right _ (by omega)
  have nx : ∀ i, f ≤ i → (i + 1 - f) * stp = (i - f) * stp + stp := fun i hi => by
    rw [show i + 1 - f = i - f + 1 by omega, Nat.add_mul, Nat.one_mul]
  have gap : ∀ i z y : Nat, f ≤ i → i ≤ g → Z[i]? = some z → Z[i + 1]? = some y → L' z + 2 ≤ L' y := by
    intro i z y h1 h2 hz hy
    rw [hL i z hz, if_pos ⟨h1, by omega⟩, hL (i + 1) y hy]
    by_cases c : i = g
    · rw [if_neg (by omega), c]
      have := c2 y (by rw [← c]; exact hy)
      omega
    · rw [if_pos ⟨by omega, by omega⟩, nx i h1]
      omega
  refine ⟨h.lab (fun i z y hz hy => ?_) (fun i z hz => ?_), fun y hy => gap pp x y hf hg hx hy, ?_⟩
  · by_cases a1 : f ≤ i ∧ i ≤ g
    · have := gap i z y a1.1 a1.2 hz hy
      omega
    · rw [hL i z hz, if_neg (by omega), hL (i + 1) y hy]
      by_cases a2 : i + 1 = f
      · rw [if_pos ⟨by omega, by omega⟩, a2, Nat.sub_self, Nat.zero_mul]
        exact c1 i z a2.symm hz
      · rw [if_neg (by omega)]
        exact h.2.2.2.2.2.2.1 i z y hz hy
  · rw [hL i z hz]
    by_cases a1 : f ≤ i ∧ i < g + 1
    · rw [if_pos a1]
      have := le i (by omega)
      omega
    · rw [if_neg a1]
      exact h.2.2.2.2.2.2.2.1 i z hz
  · rw [hL pp x hx, if_pos ⟨hf, by omega⟩]
    have := le pp hg
    omega
end
section
/-! 12: OrderLine.thin (by program: gen/o2.py) -/
set_option maxHeartbeats 4000000 in
set_option maxRecDepth 100000 in
/-- thin(s): other labels for the same line, with room behind s -/
theorem c_o_thin (l : Launch) (G : OG) (hG : ol_ok G) {L : Nat → Nat} {b n : Nat → Option Nat} {t : Nat → Bool} {F : Nat → Nat} {nf la mn : Nat} {Z : List Nat} {pp x : Nat} (h : Ln L b n t la mn Z) (hlen : Z.length ≤ 1000) (hx0 : Z[pp]? = some x) : ol_M l y_o_thin b_o_thin 16 none ({ frames := 0, cells := 0, slots := 0, locals := 0 }) G [.ref (ol_a G x)] (L, b, n, t, F, nf, la, mn) (ol_Qv G (fun u => ∃ L', u = (L', b, n, t, F, nf, la, mn) ∧ Ln L' b n t la mn Z ∧ (∀ y : Nat, Z[pp + 1]? = some y → L' x + 2 ≤ L' y) ∧ L' x + 2 ≤ 2 ^ 40)) := by
  refine ol_mv (by decide) rfl hG (Nat.le_of_ble_eq_true rfl) (fun p e R s m args below meth c Q ls hR X hml hP hS hl hend => ?_)
  have hx := X.1
  have hb := X.2.1
  have hl : lv_has ls 16 [(0, .ref (ol_h G)), (1, .ref (ol_a G x))] := hl
  have hb3 : ∀ {i z : Nat}, Z[i]? = some z → z < 1000 := fun {i z} hz => h.2.2.1 i z hz
  have hLx : L x < 2 ^ 40 := h.2.2.2.2.2.2.2.1 pp x hx0
  have hpl := gt_lt hx0
  have fin : ∀ (bt f g lo P2 a z : Nat), 1 ≤ bt → bt ≤ 40 → f ≤ pp → pp ≤ g → Z[f]? = some a → Z[g]? = some z → P2 = 2 ^ bt → lo = L x / 2 ^ bt * 2 ^ bt → (∀ i y : Nat, f = i + 1 → Z[i]? = some y → L y < lo) → (∀ y : Nat, Z[g + 1]? = some y → lo + P2 - 1 < L y) → (bt = 40 ∨ (g - f + 1) * (2 + bt * bt) ≤ P2) → ∀ (ls : Array Slot), lv_has ls 16 [(0, .ref (ol_h G)), (1, .ref (ol_a G x)), (3, .long (lN lo)), (5, .long (lN (lo + P2 - 1))), (7, .int (nI (g - f + 1))), (8, .ref (ol_a G a)), (9, .ref (ol_a G z))] → W p l e R s m args below meth c s.heap [] 0 0 Q (F0 m 153 ls []) := by
    intro bt f g lo P2 a z hb1 hb2 hf hg hfa hgz eP elo c1 c2 c3 ls hl
    have hgl := gt_lt hgz
    obtain ⟨hst, hsP⟩ := th_step (N := g - f + 1) eP (by omega) (by omega) hb1 c3
    have hlo : lo + P2 ≤ 2 ^ 40 := by rw [elo, eP]; exact th_low hLx hb2
    have hP1 : 1 ≤ P2 := by rw [eP]; exact Nat.two_pow_pos bt
    obtain ⟨stp, es⟩ : ∃ y, y = P2 / (g - f + 1 + 1) := ⟨_, rfl⟩
    rw [← es] at hst hsP
    refine lv_lload hx hb d_o_thin_153 (lv_at hl 3 rfl) ?_
    refine lv_lload_n hx hb d_o_thin_155 rfl (lv_at hl 2 rfl) ?_
    refine lv_lsub hx hb d_o_thin_156 ?_
    refine tp_l (lN ((lo + P2 - 1) - lo)) (lN_sub (by omega)) ?_
    refine tp_l (lN (P2 - 1)) (congrArg lN (by omega)) ?_
    refine lv_lconst (v := (lN 1)) hx hb d_o_thin_157 (by decide) ?_
    refine lv_ladd hx hb d_o_thin_158 ?_
    refine tp_l (lN ((P2 - 1) + 1)) (lN_add _ _) ?_
    refine tp_l (lN P2) (congrArg lN (by omega)) ?_
    refine lv_iload hx hb d_o_thin_159 (lv_at hl 4 rfl) ?_
    refine lv_iconst (v := (nI 1)) hx hb d_o_thin_161 (by decide) ?_
    refine lv_iadd hx hb d_o_thin_162 ?_
    refine tp_i (nI ((g - f + 1) + 1)) (nI_add _ _) ?_
    refine lv_i2l (v := lN ((g - f + 1) + 1)) hx hb d_o_thin_163 (nI_l (by omega)) ?_
    refine lv_ldiv hx hb d_o_thin_164 (fun q => by have := (pk_lEQ (a := g - f + 1 + 1) (b := 0) (by omega) (by omega)).mp q; omega) ?_
    refine tp_l (lN (P2 / ((g - f + 1) + 1))) (pk_lDiv (by omega) (by omega) (by omega)) ?_
    refine tp_l (lN stp) (congrArg lN es.symm) ?_
    refine lv_lstore (lv' := [(11, .long (lN stp)), (0, .ref (ol_h G)), (1, .ref (ol_a G x)), (3, .long (lN lo)), (5, .long (lN (lo + P2 - 1))), (7, .int (nI (g - f + 1))), (8, .ref (ol_a G a)), (9, .ref (ol_a G z))]) hx hb d_o_thin_165 hl (by decide) rfl (fun ls hl => ?_)
    refine lv_lload_n hx hb d_o_thin_167 rfl (lv_at hl 3 rfl) ?_
    refine lv_lstore (lv' := [(13, .long (lN lo)), (11, .long (lN stp)), (0, .ref (ol_h G)), (1, .ref (ol_a G x)), (3, .long (lN lo)), (5, .long (lN (lo + P2 - 1))), (7, .int (nI (g - f + 1))), (8, .ref (ol_a G a)), (9, .ref (ol_a G z))]) hx hb d_o_thin_168 hl (by decide) rfl (fun ls hl => ?_)
    refine lv_aload hx hb d_o_thin_170 (lv_at hl 7 rfl) ?_
    refine lv_astore (lv' := [(15, .ref (ol_a G a)), (13, .long (lN lo)), (11, .long (lN stp)), (0, .ref (ol_h G)), (1, .ref (ol_a G x)), (3, .long (lN lo)), (5, .long (lN (lo + P2 - 1))), (7, .int (nI (g - f + 1))), (8, .ref (ol_a G a)), (9, .ref (ol_a G z))]) hx hb d_o_thin_172 hl (by decide) rfl (fun ls hl => ?_)
    have rl : ∀ (d j tt : Nat) (L' : Nat → Nat), g - f < j + d → f + j ≤ g → Z[f + j]? = some tt → (∀ i y : Nat, Z[i]? = some y → L' y = if f ≤ i ∧ i < f + j then lo + (i - f) * stp else L y) → ∀ (H : Heap) (locs : List Loc), ol_P G (L', b, n, t, F, nf, la, mn) H → va_S (ol_A G) s.heap H locs → ∀ (ls : Array Slot), lv_has ls 16 [(15, .ref (ol_a G tt)), (13, .long (lN (lo + j * stp))), (0, .ref (ol_h G)), (9, .ref (ol_a G z)), (11, .long (lN stp))] → W p l e R s m args below meth c H locs 0 0 Q (F0 m 174 ls []) := by
      intro d
      induction d with
      | zero => intro j tt L' hd hj; exact absurd hd (by omega)
      | succ d ih =>
        intro j tt L' hd hj htt hL H locs hP hS ls hl
        refine lv_aload hx hb d_o_thin_174 (lv_at hl 0 rfl) ?_
        refine lv_lload hx hb d_o_thin_176 (lv_at hl 1 rfl) ?_
        refine p_label X hP hS (hb3 htt) d_o_thin_178 (fun H locs hP hS => ?_)
        refine lv_lload hx hb d_o_thin_181 (lv_at hl 1 rfl) ?_
        refine lv_lload hx hb d_o_thin_183 (lv_at hl 4 rfl) ?_
        refine lv_ladd hx hb d_o_thin_185 ?_
        refine tp_l (lN ((lo + j * stp) + stp)) (lN_add _ _) ?_
        refine tp_l (lN (lo + (j + 1) * stp)) (congrArg lN (by rw [Nat.add_mul, Nat.one_mul]; omega)) ?_
        refine lv_lstore (lv' := [(13, .long (lN (lo + (j + 1) * stp))), (15, .ref (ol_a G tt)), (0, .ref (ol_h G)), (9, .ref (ol_a G z)), (11, .long (lN stp))]) hx hb d_o_thin_186 hl (by decide) rfl (fun ls hl => ?_)
        refine lv_aload hx hb d_o_thin_188 (lv_at hl 1 rfl) ?_
        refine lv_aload hx hb d_o_thin_190 (lv_at hl 3 rfl) ?_
        have hL2 : ∀ i y : Nat, Z[i]? = some y → va_up L' tt (lo + j * stp) y = if f ≤ i ∧ i < f + (j + 1) then lo + (i - f) * stp else L y := by
          intro i y hy
          by_cases c : i = f + j
          · rw [c] at hy
            cases htt.symm.trans hy
            rw [up_s, if_pos ⟨by omega, by omega⟩, c, show f + j - f = j by omega]
          · rw [up_n (fun e => c (h.ndc _ _ _ hy (by rw [e]; exact htt))), hL i y hy]
            by_cases c5 : f ≤ i ∧ i < f + j
            · rw [if_pos c5, if_pos ⟨c5.1, by omega⟩]
            · rw [if_neg c5, if_neg (by omega)]
        refine o_acmp_ne (tgt := 198) X (hb3 htt) (hb3 hgz) d_o_thin_192 (by decide) (fun q => ?_) (fun q => ?_)
        · have hjg : f + j ≠ g := fun e => q (by rw [e] at htt; exact Option.some.inj (htt.symm.trans hgz))
          obtain ⟨t2, ht2⟩ := gt_ex (Z := Z) (i := f + j + 1) (by omega)
          refine lv_aload hx hb d_o_thin_198 (lv_at hl 1 rfl) ?_
          refine g_next (o := (some t2)) X hP (hb3 htt) ((h.2.2.2.1 _ _ htt).trans ht2) d_o_thin_200 ?_
          refine lv_astore (lv' := [(15, .ref (ol_a G t2)), (13, .long (lN (lo + (j + 1) * stp))), (0, .ref (ol_h G)), (9, .ref (ol_a G z)), (11, .long (lN stp))]) hx hb d_o_thin_203 hl (by decide) rfl (fun ls hl => ?_)
          refine lv_goto (tgt := 174) hx hb d_o_thin_205 (by decide) ?_
          exact ih (j + 1) t2 _ (by omega) (by omega) ht2 hL2 _ _ hP hS ls (lv_sub hl [0, 1, 2, 3, 4] rfl)
        · refine lv_goto (tgt := 208) hx hb d_o_thin_195 (by decide) ?_
          have hjg : f + j = g := h.ndc _ _ _ htt (by rw [q]; exact hgz)
          exact hend _ _ _ _ _ hP hS d_o_thin_208 ⟨_, rfl, th_lab h hx0 hf hg hgl hst hsP hlo c1 c2 (fun i y hy => by rw [hL2 i y hy, show f + (j + 1) = g + 1 by omega])⟩
    have hz0 : lo + 0 * stp = lo := by rw [Nat.zero_mul, Nat.add_zero]
    have r0 := rl (g - f + 1) 0 a L (by omega) (by omega) hfa (fun i y hy => by rw [if_neg (by omega)]) _ _ hP hS ls (by rw [hz0]; exact lv_sub (l' := [(15, .ref (ol_a G a)), (13, .long (lN lo)), (0, .ref (ol_h G)), (9, .ref (ol_a G z)), (11, .long (lN stp))]) hl [0, 1, 3, 9, 2] rfl)
    exact r0
  have outer : ∀ (d bt f g a z : Nat) (l3 l5 : Int64), 40 < bt + d → 1 ≤ bt → bt ≤ 40 → f ≤ pp → pp ≤ g → Z[f]? = some a → Z[g]? = some z → ∀ (ls : Array Slot), lv_has ls 16 [(10, .int (nI 1)), (0, .ref (ol_h G)), (1, .ref (ol_a G x)), (2, .int (nI bt)), (3, .long l3), (5, .long l5), (7, .int (nI (g - f + 1))), (8, .ref (ol_a G a)), (9, .ref (ol_a G z))] → W p l e R s m args below meth c s.heap [] 0 0 Q (F0 m 25 ls []) := by
    intro d
    induction d with
    | zero => intro bt f g a z l3 l5 hd h1 h2; exact absurd hd (by omega)
    | succ d ih =>
      intro bt f g a z l3 l5 hd hb1 hb2 hf hg hfa hgz ls hl
      obtain ⟨P2, eP⟩ : ∃ y, y = 2 ^ bt := ⟨_, rfl⟩
      obtain ⟨lo, elo⟩ : ∃ y, y = L x / 2 ^ bt * 2 ^ bt := ⟨_, rfl⟩
      have hP1 : 1 ≤ P2 := by rw [eP]; exact Nat.two_pow_pos bt
      have hP40 : P2 ≤ 2 ^ 40 := by rw [eP]; exact Nat.pow_le_pow_right (by decide) hb2
      have hloP : lo + P2 ≤ 2 ^ 40 := by rw [elo, eP]; exact th_low hLx hb2
      have hbb : bt * bt ≤ 40 * 40 := Nat.mul_le_mul hb2 hb2
      have lp3 : ∀ (f g a z : Nat), f ≤ pp → pp ≤ g → Z[f]? = some a → Z[g]? = some z → (∀ i y : Nat, f = i + 1 → Z[i]? = some y → L y < lo) → (∀ y : Nat, Z[g + 1]? = some y → lo + P2 - 1 < L y) → ∀ (ls : Array Slot), lv_has ls 16 [(0, .ref (ol_h G)), (1, .ref (ol_a G x)), (2, .int (nI bt)), (3, .long (lN lo)), (5, .long (lN (lo + P2 - 1))), (7, .int (nI (g - f + 1))), (8, .ref (ol_a G a)), (9, .ref (ol_a G z))] → W p l e R s m args below meth c s.heap [] 0 0 Q (F0 m 117 ls []) := by
        intro f g a z hf hg hfa hgz c1 c2 ls hl
        have hgl := gt_lt hgz
        have hNb : (g - f + 1) * (2 + bt * bt) ≤ 1000 * 1602 := Nat.mul_le_mul (by omega) (by omega)
        refine lv_iload_n hx hb d_o_thin_117 rfl (lv_at hl 2 rfl) ?_
        refine lv_bipush (v := (nI 40)) hx hb d_o_thin_118 (by decide) ?_
        refine nb_ge (tgt := 144) hx hb (by omega) (by omega) d_o_thin_120 (by decide) (fun q => ?_) (fun q => ?_)
        · refine lv_iconst (v := (nI 0)) hx hb d_o_thin_144 (by decide) ?_
          refine lv_istore (lv' := [(10, .int (nI 0)), (0, .ref (ol_h G)), (1, .ref (ol_a G x)), (2, .int (nI bt)), (3, .long (lN lo)), (5, .long (lN (lo + P2 - 1))), (7, .int (nI (g - f + 1))), (8, .ref (ol_a G a)), (9, .ref (ol_a G z))]) hx hb d_o_thin_145 hl (by decide) rfl (fun ls hl => ?_)
          refine lv_iinc (v := nI (bt + 1)) (lv' := [(2, .int (nI (bt + 1))), (10, .int (nI 0)), (0, .ref (ol_h G)), (1, .ref (ol_a G x)), (3, .long (lN lo)), (5, .long (lN (lo + P2 - 1))), (7, .int (nI (g - f + 1))), (8, .ref (ol_a G a)), (9, .ref (ol_a G z))]) hx hb d_o_thin_147 hl (k := 3) rfl (nI_1 _) (by decide) rfl (fun ls hl => ?_)
          refine lv_goto (tgt := 25) hx hb d_o_thin_150 (by decide) ?_
          refine lv_iload hx hb d_o_thin_25 (lv_at hl 1 rfl) ?_
          refine nz_eq (tgt := 153) hx hb (by omega) d_o_thin_27 (by decide) (fun q9 => ?_) (fun q9 => ?_)
          · exact fin bt f g lo P2 a z hb1 hb2 hf hg hfa hgz eP elo c1 c2 (Or.inl (by omega)) ls (lv_sub hl [2, 3, 4, 5, 6, 7, 8] rfl)
          · exact absurd rfl q9
        · refine lv_iload hx hb d_o_thin_123 (lv_at hl 5 rfl) ?_
          refine lv_i2l (v := lN (g - f + 1)) hx hb d_o_thin_125 (nI_l (by omega)) ?_
          refine lv_iconst (v := (nI 2)) hx hb d_o_thin_126 (by decide) ?_
          refine lv_iload_n hx hb d_o_thin_127 rfl (lv_at hl 2 rfl) ?_
          refine lv_iload_n hx hb d_o_thin_128 rfl (lv_at hl 2 rfl) ?_
          refine lv_imul hx hb d_o_thin_129 ?_
          refine tp_i (nI (bt * bt)) (pk_mul _ _) ?_
          refine lv_iadd hx hb d_o_thin_130 ?_
          refine tp_i (nI (2 + (bt * bt))) (nI_add _ _) ?_
          refine lv_i2l (v := lN (2 + (bt * bt))) hx hb d_o_thin_131 (nI_l (by omega)) ?_
          refine lv_lmul hx hb d_o_thin_132 ?_
          refine tp_l (lN ((g - f + 1) * (2 + (bt * bt)))) (lN_mul _ _) ?_
          refine lv_lconst (v := (lN 1)) hx hb d_o_thin_133 (by decide) ?_
          refine lv_iload_n hx hb d_o_thin_134 rfl (lv_at hl 2 rfl) ?_
          refine lv_lshl (v := lN (1 * 2 ^ bt)) hx hb d_o_thin_135 (sh_l (by omega)) ?_
          refine tp_l (lN P2) (congrArg lN (by rw [eP, Nat.one_mul])) ?_
          refine lb_le (tgt := 144) hx hb (by omega) (by omega) d_o_thin_136 d_o_thin_137 (by decide) (fun q2 => ?_) (fun q2 => ?_)
          · refine lv_iconst (v := (nI 0)) hx hb d_o_thin_144 (by decide) ?_
            refine lv_istore (lv' := [(10, .int (nI 0)), (0, .ref (ol_h G)), (1, .ref (ol_a G x)), (2, .int (nI bt)), (3, .long (lN lo)), (5, .long (lN (lo + P2 - 1))), (7, .int (nI (g - f + 1))), (8, .ref (ol_a G a)), (9, .ref (ol_a G z))]) hx hb d_o_thin_145 hl (by decide) rfl (fun ls hl => ?_)
            refine lv_iinc (v := nI (bt + 1)) (lv' := [(2, .int (nI (bt + 1))), (10, .int (nI 0)), (0, .ref (ol_h G)), (1, .ref (ol_a G x)), (3, .long (lN lo)), (5, .long (lN (lo + P2 - 1))), (7, .int (nI (g - f + 1))), (8, .ref (ol_a G a)), (9, .ref (ol_a G z))]) hx hb d_o_thin_147 hl (k := 3) rfl (nI_1 _) (by decide) rfl (fun ls hl => ?_)
            refine lv_goto (tgt := 25) hx hb d_o_thin_150 (by decide) ?_
            refine lv_iload hx hb d_o_thin_25 (lv_at hl 1 rfl) ?_
            refine nz_eq (tgt := 153) hx hb (by omega) d_o_thin_27 (by decide) (fun q9 => ?_) (fun q9 => ?_)
            · exact fin bt f g lo P2 a z hb1 hb2 hf hg hfa hgz eP elo c1 c2 (Or.inr q2) ls (lv_sub hl [2, 3, 4, 5, 6, 7, 8] rfl)
            · exact absurd rfl q9
          · refine lv_iconst (v := (nI 1)) hx hb d_o_thin_140 (by decide) ?_
            refine lv_goto (tgt := 145) hx hb d_o_thin_141 (by decide) ?_
            refine lv_istore (lv' := [(10, .int (nI 1)), (0, .ref (ol_h G)), (1, .ref (ol_a G x)), (2, .int (nI bt)), (3, .long (lN lo)), (5, .long (lN (lo + P2 - 1))), (7, .int (nI (g - f + 1))), (8, .ref (ol_a G a)), (9, .ref (ol_a G z))]) hx hb d_o_thin_145 hl (by decide) rfl (fun ls hl => ?_)
            refine lv_iinc (v := nI (bt + 1)) (lv' := [(2, .int (nI (bt + 1))), (10, .int (nI 1)), (0, .ref (ol_h G)), (1, .ref (ol_a G x)), (3, .long (lN lo)), (5, .long (lN (lo + P2 - 1))), (7, .int (nI (g - f + 1))), (8, .ref (ol_a G a)), (9, .ref (ol_a G z))]) hx hb d_o_thin_147 hl (k := 3) rfl (nI_1 _) (by decide) rfl (fun ls hl => ?_)
            refine lv_goto (tgt := 25) hx hb d_o_thin_150 (by decide) ?_
            exact ih (bt + 1) f g a z _ _ (by omega) (by omega) (by omega) hf hg hfa hgz ls (lv_sub hl [1, 2, 3, 0, 4, 5, 6, 7, 8] rfl)
      have lp2 : ∀ (d g f a z : Nat), Z.length ≤ g + 1 + d → f ≤ pp → pp ≤ g → Z[f]? = some a → Z[g]? = some z → (∀ i y : Nat, f = i + 1 → Z[i]? = some y → L y < lo) → ∀ (ls : Array Slot), lv_has ls 16 [(0, .ref (ol_h G)), (1, .ref (ol_a G x)), (2, .int (nI bt)), (3, .long (lN lo)), (5, .long (lN (lo + P2 - 1))), (7, .int (nI (g - f + 1))), (8, .ref (ol_a G a)), (9, .ref (ol_a G z))] → W p l e R s m args below meth c s.heap [] 0 0 Q (F0 m 82 ls []) := by
        intro d
        induction d with
        | zero =>
          intro g f a z hd hf hg hfa hgz c1 ls hl
          have hnz : Z[g + 1]? = none := List.getElem?_eq_none (by omega)
          refine lv_aload hx hb d_o_thin_82 (lv_at hl 7 rfl) ?_
          refine g_next (o := none) X hP (hb3 hgz) ((h.2.2.2.1 _ _ hgz).trans hnz) d_o_thin_84 ?_
          refine lv_ifnullN (tgt := 117) hx hb d_o_thin_87 (by decide) ?_
          exact lp3 f g a z hf hg hfa hgz c1 (fun y hy => by rw [hnz] at hy; cases hy) ls (lv_sub hl [0, 1, 2, 3, 4, 5, 6, 7] rfl)
        | succ d ih2 =>
          intro g f a z hd hf hg hfa hgz c1 ls hl
          rcases hnz : Z[g + 1]? with _ | y
          · refine lv_aload hx hb d_o_thin_82 (lv_at hl 7 rfl) ?_
            refine g_next (o := none) X hP (hb3 hgz) ((h.2.2.2.1 _ _ hgz).trans hnz) d_o_thin_84 ?_
            refine lv_ifnullN (tgt := 117) hx hb d_o_thin_87 (by decide) ?_
            exact lp3 f g a z hf hg hfa hgz c1 (fun y hy => by rw [hnz] at hy; cases hy) ls (lv_sub hl [0, 1, 2, 3, 4, 5, 6, 7] rfl)
          · have hLy : L y < 2 ^ 40 := h.2.2.2.2.2.2.2.1 _ y hnz
            refine lv_aload hx hb d_o_thin_82 (lv_at hl 7 rfl) ?_
            refine g_next (o := (some y)) X hP (hb3 hgz) ((h.2.2.2.1 _ _ hgz).trans hnz) d_o_thin_84 ?_
            refine lv_ifnull hx hb d_o_thin_87 ?_
            refine lv_aload hx hb d_o_thin_90 (lv_at hl 7 rfl) ?_
            refine g_next (o := (some y)) X hP (hb3 hgz) ((h.2.2.2.1 _ _ hgz).trans hnz) d_o_thin_92 ?_
            refine g_label X hP (hb3 hnz) d_o_thin_95 ?_
            refine lv_lload hx hb d_o_thin_98 (lv_at hl 4 rfl) ?_
            refine lb_gt (tgt := 117) hx hb (by omega) (by omega) d_o_thin_100 d_o_thin_101 (by decide) (fun q => ?_) (fun q => ?_)
            · exact lp3 f g a z hf hg hfa hgz c1 (fun y' hy' => by cases hnz.symm.trans hy'; exact q) ls (lv_sub hl [0, 1, 2, 3, 4, 5, 6, 7] rfl)
            · refine lv_aload hx hb d_o_thin_104 (lv_at hl 7 rfl) ?_
              refine g_next (o := (some y)) X hP (hb3 hgz) ((h.2.2.2.1 _ _ hgz).trans hnz) d_o_thin_106 ?_
              refine lv_astore (lv' := [(9, .ref (ol_a G y)), (0, .ref (ol_h G)), (1, .ref (ol_a G x)), (2, .int (nI bt)), (3, .long (lN lo)), (5, .long (lN (lo + P2 - 1))), (7, .int (nI (g - f + 1))), (8, .ref (ol_a G a))]) hx hb d_o_thin_109 hl (by decide) rfl (fun ls hl => ?_)
              refine lv_iinc (v := nI ((g - f + 1) + 1)) (lv' := [(7, .int (nI ((g - f + 1) + 1))), (9, .ref (ol_a G y)), (0, .ref (ol_h G)), (1, .ref (ol_a G x)), (2, .int (nI bt)), (3, .long (lN lo)), (5, .long (lN (lo + P2 - 1))), (8, .ref (ol_a G a))]) hx hb d_o_thin_111 hl (k := 6) rfl (nI_1 _) (by decide) rfl (fun ls hl => ?_)
              refine lv_goto (tgt := 82) hx hb d_o_thin_114 (by decide) ?_
              exact ih2 (g + 1) f a y (by omega) hf (by omega) hfa hnz c1 ls (by rw [show g + 1 - f + 1 = g - f + 1 + 1 by omega]; exact (lv_sub hl [2, 3, 4, 5, 6, 0, 7, 1] rfl))
      have lp1 : ∀ (f a : Nat), f ≤ pp → Z[f]? = some a → ∀ (ls : Array Slot), lv_has ls 16 [(0, .ref (ol_h G)), (1, .ref (ol_a G x)), (2, .int (nI bt)), (3, .long (lN lo)), (5, .long (lN (lo + P2 - 1))), (7, .int (nI (g - f + 1))), (8, .ref (ol_a G a)), (9, .ref (ol_a G z))] → W p l e R s m args below meth c s.heap [] 0 0 Q (F0 m 48 ls []) := by
        intro f
        induction f with
        | zero =>
          intro a hf hfa ls hl
          refine lv_aload hx hb d_o_thin_48 (lv_at hl 6 rfl) ?_
          refine g_before (o := none) X hP (hb3 hfa) (by cases h.1.symm.trans hfa; exact h.2.2.2.2.2.1) d_o_thin_50 ?_
          refine lv_ifnullN (tgt := 82) hx hb d_o_thin_53 (by decide) ?_
          exact lp2 Z.length g 0 a z (by omega) hf hg hfa hgz (fun i y hi => by omega) ls (lv_sub hl [0, 1, 2, 3, 4, 5, 6, 7] rfl)
        | succ f ih1 =>
          intro a hf hfa ls hl
          obtain ⟨y, hy⟩ := gt_ex (Z := Z) (i := f) (by omega)
          have hLy : L y < 2 ^ 40 := h.2.2.2.2.2.2.2.1 _ y hy
          refine lv_aload hx hb d_o_thin_48 (lv_at hl 6 rfl) ?_
          refine g_before (o := (some y)) X hP (hb3 hfa) ((h.2.2.2.2.1 _ _ hfa).trans hy) d_o_thin_50 ?_
          refine lv_ifnull hx hb d_o_thin_53 ?_
          refine lv_aload hx hb d_o_thin_56 (lv_at hl 6 rfl) ?_
          refine g_before (o := (some y)) X hP (hb3 hfa) ((h.2.2.2.2.1 _ _ hfa).trans hy) d_o_thin_58 ?_
          refine g_label X hP (hb3 hy) d_o_thin_61 ?_
          refine lv_lload_n hx hb d_o_thin_64 rfl (lv_at hl 3 rfl) ?_
          refine lb_lt (tgt := 82) hx hb (by omega) (by omega) d_o_thin_65 d_o_thin_66 (by decide) (fun q => ?_) (fun q => ?_)
          · exact lp2 Z.length g (f + 1) a z (by omega) hf hg hfa hgz (fun i y' hi hy' => by
              have : i = f := by omega
              subst this
              cases hy.symm.trans hy'
              exact q) ls (lv_sub hl [0, 1, 2, 3, 4, 5, 6, 7] rfl)
          · refine lv_aload hx hb d_o_thin_69 (lv_at hl 6 rfl) ?_
            refine g_before (o := (some y)) X hP (hb3 hfa) ((h.2.2.2.2.1 _ _ hfa).trans hy) d_o_thin_71 ?_
            refine lv_astore (lv' := [(8, .ref (ol_a G y)), (0, .ref (ol_h G)), (1, .ref (ol_a G x)), (2, .int (nI bt)), (3, .long (lN lo)), (5, .long (lN (lo + P2 - 1))), (7, .int (nI (g - (f + 1) + 1))), (9, .ref (ol_a G z))]) hx hb d_o_thin_74 hl (by decide) rfl (fun ls hl => ?_)
            refine lv_iinc (v := nI ((g - (f + 1) + 1) + 1)) (lv' := [(7, .int (nI ((g - (f + 1) + 1) + 1))), (8, .ref (ol_a G y)), (0, .ref (ol_h G)), (1, .ref (ol_a G x)), (2, .int (nI bt)), (3, .long (lN lo)), (5, .long (lN (lo + P2 - 1))), (9, .ref (ol_a G z))]) hx hb d_o_thin_76 hl (k := 6) rfl (nI_1 _) (by decide) rfl (fun ls hl => ?_)
            refine lv_goto (tgt := 48) hx hb d_o_thin_79 (by decide) ?_
            exact ih1 y (by omega) hy ls (by rw [show g - f + 1 = g - (f + 1) + 1 + 1 by omega]; exact (lv_sub hl [2, 3, 4, 5, 6, 0, 1, 7] rfl))
      refine lv_iload hx hb d_o_thin_25 (lv_at hl 0 rfl) ?_
      refine nz_eq (tgt := 153) hx hb (by omega) d_o_thin_27 (by decide) (fun q => ?_) (fun q => ?_)
      · exact absurd q (by decide)
      · refine lv_aload_n hx hb d_o_thin_30 rfl (lv_at hl 2 rfl) ?_
        refine g_label X hP (hb3 hx0) d_o_thin_31 ?_
        refine lv_iload_n hx hb d_o_thin_34 rfl (lv_at hl 3 rfl) ?_
        refine lv_lshr (v := lN ((L x) / 2 ^ bt)) hx hb d_o_thin_35 (sh_r (by omega) (by omega)) ?_
        refine lv_iload_n hx hb d_o_thin_36 rfl (lv_at hl 3 rfl) ?_
        refine lv_lshl (v := lN (((L x) / 2 ^ bt) * 2 ^ bt)) hx hb d_o_thin_37 (sh_l (by omega)) ?_
        refine tp_l (lN lo) (congrArg lN elo.symm) ?_
        refine lv_lstore_n (lv' := [(3, .long (lN lo)), (10, .int (nI 1)), (0, .ref (ol_h G)), (1, .ref (ol_a G x)), (2, .int (nI bt)), (5, .long l5), (7, .int (nI (g - f + 1))), (8, .ref (ol_a G a)), (9, .ref (ol_a G z))]) hx hb d_o_thin_38 rfl hl (by decide) rfl (fun ls hl => ?_)
        refine lv_lload_n hx hb d_o_thin_39 rfl (lv_at hl 0 rfl) ?_
        refine lv_lconst (v := (lN 1)) hx hb d_o_thin_40 (by decide) ?_
        refine lv_iload_n hx hb d_o_thin_41 rfl (lv_at hl 4 rfl) ?_
        refine lv_lshl (v := lN (1 * 2 ^ bt)) hx hb d_o_thin_42 (sh_l (by omega)) ?_
        refine tp_l (lN P2) (congrArg lN (by rw [eP, Nat.one_mul])) ?_
        refine lv_ladd hx hb d_o_thin_43 ?_
        refine tp_l (lN (lo + P2)) (lN_add _ _) ?_
        refine lv_lconst (v := (lN 1)) hx hb d_o_thin_44 (by decide) ?_
        refine lv_lsub hx hb d_o_thin_45 ?_
        refine tp_l (lN ((lo + P2) - 1)) (lN_sub (by omega)) ?_
        refine tp_l (lN (lo + P2 - 1)) rfl ?_
        refine lv_lstore (lv' := [(5, .long (lN (lo + P2 - 1))), (3, .long (lN lo)), (10, .int (nI 1)), (0, .ref (ol_h G)), (1, .ref (ol_a G x)), (2, .int (nI bt)), (7, .int (nI (g - f + 1))), (8, .ref (ol_a G a)), (9, .ref (ol_a G z))]) hx hb d_o_thin_46 hl (by decide) rfl (fun ls hl => ?_)
        exact lp1 f a hf hfa ls (lv_sub hl [3, 4, 5, 1, 0, 6, 7, 8] rfl)
  refine lv_iconst (v := (nI 1)) hx hb d_o_thin_0 (by decide) ?_
  refine lv_istore_n (lv' := [(2, .int (nI 1)), (0, .ref (ol_h G)), (1, .ref (ol_a G x))]) hx hb d_o_thin_1 rfl hl (by decide) rfl (fun ls hl => ?_)
  refine lv_aload_n hx hb d_o_thin_2 rfl (lv_at hl 2 rfl) ?_
  refine g_label X hP (hb3 hx0) d_o_thin_3 ?_
  refine lv_lstore_n (lv' := [(3, .long (lN (L x))), (2, .int (nI 1)), (0, .ref (ol_h G)), (1, .ref (ol_a G x))]) hx hb d_o_thin_6 rfl hl (by decide) rfl (fun ls hl => ?_)
  refine lv_aload_n hx hb d_o_thin_7 rfl (lv_at hl 3 rfl) ?_
  refine g_label X hP (hb3 hx0) d_o_thin_8 ?_
  refine lv_lstore (lv' := [(5, .long (lN (L x))), (3, .long (lN (L x))), (2, .int (nI 1)), (0, .ref (ol_h G)), (1, .ref (ol_a G x))]) hx hb d_o_thin_11 hl (by decide) rfl (fun ls hl => ?_)
  refine lv_iconst (v := (nI 1)) hx hb d_o_thin_13 (by decide) ?_
  refine lv_istore (lv' := [(7, .int (nI 1)), (5, .long (lN (L x))), (3, .long (lN (L x))), (2, .int (nI 1)), (0, .ref (ol_h G)), (1, .ref (ol_a G x))]) hx hb d_o_thin_14 hl (by decide) rfl (fun ls hl => ?_)
  refine lv_aload_n hx hb d_o_thin_16 rfl (lv_at hl 5 rfl) ?_
  refine lv_astore (lv' := [(8, .ref (ol_a G x)), (7, .int (nI 1)), (5, .long (lN (L x))), (3, .long (lN (L x))), (2, .int (nI 1)), (0, .ref (ol_h G)), (1, .ref (ol_a G x))]) hx hb d_o_thin_17 hl (by decide) rfl (fun ls hl => ?_)
  refine lv_aload_n hx hb d_o_thin_19 rfl (lv_at hl 6 rfl) ?_
  refine lv_astore (lv' := [(9, .ref (ol_a G x)), (8, .ref (ol_a G x)), (7, .int (nI 1)), (5, .long (lN (L x))), (3, .long (lN (L x))), (2, .int (nI 1)), (0, .ref (ol_h G)), (1, .ref (ol_a G x))]) hx hb d_o_thin_20 hl (by decide) rfl (fun ls hl => ?_)
  refine lv_iconst (v := (nI 1)) hx hb d_o_thin_22 (by decide) ?_
  refine lv_istore (lv' := [(10, .int (nI 1)), (9, .ref (ol_a G x)), (8, .ref (ol_a G x)), (7, .int (nI 1)), (5, .long (lN (L x))), (3, .long (lN (L x))), (2, .int (nI 1)), (0, .ref (ol_h G)), (1, .ref (ol_a G x))]) hx hb d_o_thin_23 hl (by decide) rfl (fun ls hl => ?_)
  exact outer 40 1 pp pp x x _ _ (by omega) (by omega) (by omega) (Nat.le_refl _) (Nat.le_refl _) hx0 hx0 ls (by rw [show pp - pp + 1 = 1 by omega]; exact (lv_sub hl [0, 7, 8, 6, 5, 4, 3, 2, 1] rfl))
end
section
/-! 13: OrderLine.link, unlink (by program: gen/o3.py) -/
set_option maxHeartbeats 4000000 in
set_option maxRecDepth 100000 in
/-- link(t, behind): the stamp k comes behind the one at pp -/
theorem c_o_link (l : Launch) (G : OG) (hG : ol_ok G) {L : Nat → Nat} {b n : Nat → Option Nat} {t : Nat → Bool} {F : Nat → Nat} {nf la mn : Nat} {Z : List Nat} {pp x k : Nat} (h : Ln L b n t la mn Z) (hlen : Z.length ≤ 1000) (hx0 : Z[pp]? = some x) (hk : k < 1000) (hnk : ∀ i : Nat, Z[i]? ≠ some k) : ol_M l y_o_link b_o_link 5 none ({ frames := 1, cells := 0, slots := 0, locals := 35 }) G [.ref (ol_a G k), .ref (ol_a G x)] (L, b, n, t, F, nf, la, mn) (ol_Qv G (fun u => ∃ L' b' n' t' la', u = (L', b', n', t', F, nf, la', mn + 1) ∧ Ln L' b' n' t' la' (mn + 1) (Z.insertIdx (pp + 1) k))) := by
  refine ol_mv (by decide) rfl hG (Nat.le_of_ble_eq_true rfl) (fun p e R s m args below meth c Q ls hR X hml hP hS hl hend => ?_)
  have hx := X.1
  have hb := X.2.1
  have hl : lv_has ls 5 [(0, .ref (ol_h G)), (1, .ref (ol_a G k)), (2, .ref (ol_a G x))] := hl
  have hb3 : ∀ {i z : Nat}, Z[i]? = some z → z < 1000 := fun {i z} hz => h.2.2.1 i z hz
  have hnb : ∀ y, n x = some y → y < 1000 := fun y hy => by rw [h.2.2.2.1 pp x hx0] at hy; exact hb3 hy
  have hxk : x ≠ k := fun e => hnk pp (by rw [hx0, e])
  have cont : ∀ (L : Nat → Nat), Ln L b n t la mn Z → (∀ y : Nat, Z[pp + 1]? = some y → L x + 2 ≤ L y) → L x + 2 ≤ 2 ^ 40 → ∀ (H : Heap) (locs : List Loc), ol_P G (L, b, n, t, F, nf, la, mn) H → va_S (ol_A G) s.heap H locs → W p l e R s m args below meth c H locs 0 0 Q (F0 m 22 ls []) := by
    intro L h g1 g2 H locs hP hS
    obtain ⟨lb, elb⟩ : ∃ y, y = lbh L (n x) := ⟨_, rfl⟩
    have hlb1 : L x + 2 ≤ lb := by
      rw [elb, h.2.2.2.1 pp x hx0]
      rcases hz : Z[pp + 1]? with _ | y
      · exact g2
      · exact g1 y hz
    have hlb2 : lb ≤ 2 ^ 40 := by
      rw [elb, h.2.2.2.1 pp x hx0]
      rcases hz : Z[pp + 1]? with _ | y
      · exact Nat.le_refl _
      · exact Nat.le_of_lt (h.2.2.2.2.2.2.2.1 _ y hz)
    refine lv_aload_n hx hb d_o_link_22 rfl (lv_at hl 0 rfl) ?_
    refine lv_aload_n hx hb d_o_link_23 rfl (lv_at hl 2 rfl) ?_
    refine ol_cL (n := 1) (As := [.ref (ol_a G x)]) (rest := []) X hml (c_o_labelBehind l G hG (hb3 hx0) hnb) (gw_W X.2.2.2.1 ml_o_56 im_o_labelBehind se_o_labelBehind k_o_labelBehind in_o (by decide +kernel) rfl rfl (by rw [hR]; exact ⟨Nat.le_of_ble_eq_true rfl, Nat.le_of_ble_eq_true rfl⟩)) hP hS hl.1 rfl rfl (Nat.le_of_ble_eq_true rfl) d_o_link_24 (fun r u' H locs hq hP hS => ?_)
    obtain ⟨hr0, rfl⟩ := hq
    rw [← elb] at hr0
    subst hr0
    refine lv_lstore_n (lv' := [(3, .long (lN lb)), (0, .ref (ol_h G)), (1, .ref (ol_a G k)), (2, .ref (ol_a G x))]) hx hb d_o_link_27 rfl hl (by decide) rfl (fun ls hl => ?_)
    refine lv_aload_n hx hb d_o_link_28 rfl (lv_at hl 2 rfl) ?_
    refine lv_aload_n hx hb d_o_link_29 rfl (lv_at hl 3 rfl) ?_
    refine g_label X hP (hb3 hx0) d_o_link_30 ?_
    refine lv_lload_n hx hb d_o_link_33 rfl (lv_at hl 0 rfl) ?_
    refine lv_aload_n hx hb d_o_link_34 rfl (lv_at hl 3 rfl) ?_
    refine g_label X hP (hb3 hx0) d_o_link_35 ?_
    refine lv_lsub hx hb d_o_link_38 ?_
    refine tp_l (lN (lb - (L x))) (lN_sub (by omega)) ?_
    refine lv_ldc2 (v := (lN 2)) hx hb X.2.2.1 (X.2.2.2.1 _ kl_o_60) d_o_link_39 ?_
    refine lv_ldiv hx hb d_o_link_42 (by decide) ?_
    refine tp_l (lN ((lb - (L x)) / 2)) (pk_lDiv (by omega) (by omega) (by omega)) ?_
    refine lv_ladd hx hb d_o_link_43 ?_
    refine tp_l (lN ((L x) + ((lb - (L x)) / 2))) (lN_add _ _) ?_
    obtain ⟨v, ev⟩ : ∃ y, y = L x + (lb - L x) / 2 := ⟨_, rfl⟩
    refine tp_l (lN v) (congrArg lN ev.symm) ?_
    rcases hz : Z[pp + 1]? with _ | y
    · have hnx : n x = none := (h.2.2.2.1 pp x hx0).trans hz
      have hpe : pp + 1 = Z.length := by
        have h1 := gt_lt hx0
        have h2 := List.getElem?_eq_none_iff.mp hz
        omega
      refine p_label X hP hS hk d_o_link_44 (fun H locs hP hS => ?_)
      refine lv_aload_n hx hb d_o_link_47 rfl (lv_at hl 2 rfl) ?_
      refine lv_aload_n hx hb d_o_link_48 rfl (lv_at hl 3 rfl) ?_
      refine p_before (o := (some x)) X hP hS hk d_o_link_49 (fun H locs hP hS => ?_)
      refine lv_aload_n hx hb d_o_link_52 rfl (lv_at hl 2 rfl) ?_
      refine lv_aload_n hx hb d_o_link_53 rfl (lv_at hl 3 rfl) ?_
      refine g_next (o := none) X hP (hb3 hx0) hnx d_o_link_54 ?_
      refine p_next (o := none) X hP hS hk d_o_link_57 (fun H locs hP hS => ?_)
      refine lv_aload_n hx hb d_o_link_60 rfl (lv_at hl 2 rfl) ?_
      refine g_next (o := none) X hP hk up_s d_o_link_61 ?_
      refine lv_ifnonnullN hx hb d_o_link_64 ?_
      refine lv_aload_n hx hb d_o_link_67 rfl (lv_at hl 1 rfl) ?_
      refine lv_aload_n hx hb d_o_link_68 rfl (lv_at hl 2 rfl) ?_
      refine p_last X hP hS d_o_link_69 (fun H locs hP hS => ?_)
      refine lv_goto (tgt := 83) hx hb d_o_link_72 (by decide) ?_
      refine lv_aload_n hx hb d_o_link_83 rfl (lv_at hl 3 rfl) ?_
      refine lv_aload_n hx hb d_o_link_84 rfl (lv_at hl 2 rfl) ?_
      refine p_next (o := (some k)) X hP hS (hb3 hx0) d_o_link_85 (fun H locs hP hS => ?_)
      refine lv_aload_n hx hb d_o_link_88 rfl (lv_at hl 2 rfl) ?_
      refine lv_iconst (v := (nI 1)) hx hb d_o_link_89 (by decide) ?_
      refine p_there X hP hS hk true (by decide) d_o_link_90 (fun H locs hP hS => ?_)
      refine lv_aload_n hx hb d_o_link_93 rfl (lv_at hl 1 rfl) ?_
      refine lv_dup hx hb d_o_link_94 rfl ?_
      refine g_many X hP d_o_link_95 ?_
      refine lv_iconst (v := (nI 1)) hx hb d_o_link_98 (by decide) ?_
      refine lv_iadd hx hb d_o_link_99 ?_
      refine tp_i (nI (mn + 1)) (nI_add _ _) ?_
      refine p_many X hP hS d_o_link_100 (fun H locs hP hS => ?_)
      exact hend _ _ _ _ _ hP hS d_o_link_103 ⟨_, _, _, _, _, rfl, by
        have hres := h.ins (v := v) hx0 hk hnk (by omega) (by omega) (fun y' hy' => by rw [hz] at hy'; cases hy') (b' := va_up b k (some x)) (la' := k) up_s (fun y' hy' => by rw [hz] at hy'; cases hy') (fun z hz1 hz2 => up_n hz1) (by rw [if_pos hpe])
        rw [hnx] at hres
        exact hres⟩
    · have hnx : n x = some y := (h.2.2.2.1 pp x hx0).trans hz
      have hyk : y ≠ k := fun e => hnk _ (by rw [hz, e])
      have hpe : pp + 1 ≠ Z.length := by
        have h1 := gt_lt hz
        omega
      have hLy : L y = lb := by rw [elb, hnx]; rfl
      refine p_label X hP hS hk d_o_link_44 (fun H locs hP hS => ?_)
      refine lv_aload_n hx hb d_o_link_47 rfl (lv_at hl 2 rfl) ?_
      refine lv_aload_n hx hb d_o_link_48 rfl (lv_at hl 3 rfl) ?_
      refine p_before (o := (some x)) X hP hS hk d_o_link_49 (fun H locs hP hS => ?_)
      refine lv_aload_n hx hb d_o_link_52 rfl (lv_at hl 2 rfl) ?_
      refine lv_aload_n hx hb d_o_link_53 rfl (lv_at hl 3 rfl) ?_
      refine g_next (o := (some y)) X hP (hb3 hx0) hnx d_o_link_54 ?_
      refine p_next (o := (some y)) X hP hS hk d_o_link_57 (fun H locs hP hS => ?_)
      refine lv_aload_n hx hb d_o_link_60 rfl (lv_at hl 2 rfl) ?_
      refine g_next (o := (some y)) X hP hk up_s d_o_link_61 ?_
      refine lv_ifnonnull (tgt := 75) hx hb d_o_link_64 (by decide) ?_
      refine lv_aload_n hx hb d_o_link_75 rfl (lv_at hl 2 rfl) ?_
      refine g_next (o := (some y)) X hP hk up_s d_o_link_76 ?_
      refine lv_aload_n hx hb d_o_link_79 rfl (lv_at hl 2 rfl) ?_
      refine p_before (o := (some k)) X hP hS (hb3 hz) d_o_link_80 (fun H locs hP hS => ?_)
      refine lv_aload_n hx hb d_o_link_83 rfl (lv_at hl 3 rfl) ?_
      refine lv_aload_n hx hb d_o_link_84 rfl (lv_at hl 2 rfl) ?_
      refine p_next (o := (some k)) X hP hS (hb3 hx0) d_o_link_85 (fun H locs hP hS => ?_)
      refine lv_aload_n hx hb d_o_link_88 rfl (lv_at hl 2 rfl) ?_
      refine lv_iconst (v := (nI 1)) hx hb d_o_link_89 (by decide) ?_
      refine p_there X hP hS hk true (by decide) d_o_link_90 (fun H locs hP hS => ?_)
      refine lv_aload_n hx hb d_o_link_93 rfl (lv_at hl 1 rfl) ?_
      refine lv_dup hx hb d_o_link_94 rfl ?_
      refine g_many X hP d_o_link_95 ?_
      refine lv_iconst (v := (nI 1)) hx hb d_o_link_98 (by decide) ?_
      refine lv_iadd hx hb d_o_link_99 ?_
      refine tp_i (nI (mn + 1)) (nI_add _ _) ?_
      refine p_many X hP hS d_o_link_100 (fun H locs hP hS => ?_)
      exact hend _ _ _ _ _ hP hS d_o_link_103 ⟨_, _, _, _, _, rfl, by
        have hres := h.ins (v := v) hx0 hk hnk (by omega) (by omega) (fun y' hy' => by cases hz.symm.trans hy'; omega) (b' := va_up (va_up b k (some x)) y (some k)) (la' := la) (by rw [up_n hyk.symm, up_s]) (fun y' hy' => by cases hz.symm.trans hy'; exact up_s) (fun z hz1 hz2 => by rw [up_n (fun e => hz2 (by rw [e]; exact hz)), up_n hz1]) (by rw [if_neg hpe])
        rw [hnx] at hres
        exact hres⟩
  obtain ⟨lb, elb⟩ : ∃ y, y = lbh L (n x) := ⟨_, rfl⟩
  have hlb1 : L x < lb := by
    rw [elb, h.2.2.2.1 pp x hx0]
    rcases hz : Z[pp + 1]? with _ | y
    · exact h.2.2.2.2.2.2.2.1 pp x hx0
    · exact h.2.2.2.2.2.2.1 pp x y hx0 hz
  have hlb2 : lb ≤ 2 ^ 40 := by
    rw [elb, h.2.2.2.1 pp x hx0]
    rcases hz : Z[pp + 1]? with _ | y
    · exact Nat.le_refl _
    · exact Nat.le_of_lt (h.2.2.2.2.2.2.2.1 _ y hz)
  refine lv_aload_n hx hb d_o_link_0 rfl (lv_at hl 0 rfl) ?_
  refine lv_aload_n hx hb d_o_link_1 rfl (lv_at hl 2 rfl) ?_
  refine ol_cL (n := 1) (As := [.ref (ol_a G x)]) (rest := []) X hml (c_o_labelBehind l G hG (hb3 hx0) hnb) (gw_W X.2.2.2.1 ml_o_56 im_o_labelBehind se_o_labelBehind k_o_labelBehind in_o (by decide +kernel) rfl rfl (by rw [hR]; exact ⟨Nat.le_of_ble_eq_true rfl, Nat.le_of_ble_eq_true rfl⟩)) hP hS hl.1 rfl rfl (Nat.le_of_ble_eq_true rfl) d_o_link_2 (fun r u' H locs hq hP hS => ?_)
  obtain ⟨hr0, rfl⟩ := hq
  rw [← elb] at hr0
  subst hr0
  refine lv_aload_n hx hb d_o_link_5 rfl (lv_at hl 2 rfl) ?_
  refine g_label X hP (hb3 hx0) d_o_link_6 ?_
  refine lv_lsub hx hb d_o_link_9 ?_
  refine tp_l (lN (lb - (L x))) (lN_sub (by omega)) ?_
  refine lv_ldc2 (v := (lN 2)) hx hb X.2.2.1 (X.2.2.2.1 _ kl_o_60) d_o_link_10 ?_
  refine lb_ge (tgt := 22) hx hb (by omega) (by omega) d_o_link_13 d_o_link_14 (by decide) (fun q => ?_) (fun q => ?_)
  · refine cont L h (fun y hy => ?_) ?_ _ _ hP hS
    · have : L y = lb := by rw [elb, h.2.2.2.1 pp x hx0, hy]; rfl
      omega
    · omega
  · refine lv_aload_n hx hb d_o_link_17 rfl (lv_at hl 0 rfl) ?_
    refine lv_aload_n hx hb d_o_link_18 rfl (lv_at hl 2 rfl) ?_
    refine ol_cv (n := 1) (As := [.ref (ol_a G x)]) (rest := []) X hml (c_o_thin l G hG h hlen hx0) (gw_W X.2.2.2.1 ml_o_62 im_o_thin se_o_thin k_o_thin in_o (by decide +kernel) rfl rfl (by rw [hR]; exact ⟨Nat.le_of_ble_eq_true rfl, Nat.le_of_ble_eq_true rfl⟩)) hP hS hl.1 rfl rfl (Nat.le_of_ble_eq_true rfl) d_o_link_19 (fun u' H locs hq hP hS => ?_)
    obtain ⟨L', rfl, h', g1, g2⟩ := hq
    exact cont L' h' g1 g2 _ _ hP hS
set_option maxHeartbeats 4000000 in
set_option maxRecDepth 100000 in
/-- unlink(t): the stamp x at pp + 1 goes -/
theorem c_o_unlink (l : Launch) (G : OG) (hG : ol_ok G) {L : Nat → Nat} {b n : Nat → Option Nat} {t : Nat → Bool} {F : Nat → Nat} {nf la mn : Nat} {Z : List Nat} {pp x w0 : Nat} (h : Ln L b n t la mn Z) (hx0 : Z[pp + 1]? = some x) (hw0 : Z[pp]? = some w0) : ol_M l y_o_unlink b_o_unlink 2 none ({ frames := 0, cells := 0, slots := 0, locals := 0 }) G [.ref (ol_a G x)] (L, b, n, t, F, nf, la, mn) (ol_Qv G (fun u => ∃ b' n' t' la', u = (L, b', n', t', F, nf, la', mn - 1) ∧ Ln L b' n' t' la' (mn - 1) (Z.eraseIdx (pp + 1)))) := by
  refine ol_mv (by decide) rfl hG (Nat.le_of_ble_eq_true rfl) (fun p e R s m args below meth c Q ls hR X hml hP hS hl hend => ?_)
  have hx := X.1
  have hb := X.2.1
  have hl : lv_has ls 2 [(0, .ref (ol_h G)), (1, .ref (ol_a G x))] := hl
  have hb3 : ∀ {i z : Nat}, Z[i]? = some z → z < 1000 := fun {i z} hz => h.2.2.1 i z hz
  have hxw : x ≠ w0 := fun e => by have := h.ndc _ _ _ hx0 (by rw [e]; exact hw0); omega
  have hmn : 1 ≤ mn := by have h1 := h.2.2.2.2.2.2.2.2.2.2; have h2 := gt_lt hx0; omega
  rcases hz : Z[pp + 1 + 1]? with _ | y
  · have hnx : n x = none := (h.2.2.2.1 _ x hx0).trans hz
    have hpe : pp + 2 = Z.length := by
      have h1 := gt_lt hx0
      have h2 := List.getElem?_eq_none_iff.mp hz
      omega
    refine lv_aload_n hx hb d_o_unlink_0 rfl (lv_at hl 1 rfl) ?_
    refine g_before (o := (some w0)) X hP (hb3 hx0) ((h.2.2.2.2.1 _ _ hx0).trans hw0) d_o_unlink_1 ?_
    refine lv_aload_n hx hb d_o_unlink_4 rfl (lv_at hl 1 rfl) ?_
    refine g_next (o := none) X hP (hb3 hx0) hnx d_o_unlink_5 ?_
    refine p_next (o := none) X hP hS (hb3 hw0) d_o_unlink_8 (fun H locs hP hS => ?_)
    refine lv_aload_n hx hb d_o_unlink_11 rfl (lv_at hl 1 rfl) ?_
    refine g_next (o := none) X hP (hb3 hx0) ((up_n hxw).trans hnx) d_o_unlink_12 ?_
    refine lv_ifnonnullN hx hb d_o_unlink_15 ?_
    refine lv_aload_n hx hb d_o_unlink_18 rfl (lv_at hl 0 rfl) ?_
    refine lv_aload_n hx hb d_o_unlink_19 rfl (lv_at hl 1 rfl) ?_
    refine g_before (o := (some w0)) X hP (hb3 hx0) ((h.2.2.2.2.1 _ _ hx0).trans hw0) d_o_unlink_20 ?_
    refine p_last X hP hS d_o_unlink_23 (fun H locs hP hS => ?_)
    refine lv_goto (tgt := 40) hx hb d_o_unlink_26 (by decide) ?_
    refine lv_aload_n hx hb d_o_unlink_40 rfl (lv_at hl 1 rfl) ?_
    refine lv_iconst (v := (nI 0)) hx hb d_o_unlink_41 (by decide) ?_
    refine p_there X hP hS (hb3 hx0) false (by decide) d_o_unlink_42 (fun H locs hP hS => ?_)
    refine lv_aload_n hx hb d_o_unlink_45 rfl (lv_at hl 0 rfl) ?_
    refine lv_dup hx hb d_o_unlink_46 rfl ?_
    refine g_many X hP d_o_unlink_47 ?_
    refine lv_iconst (v := (nI 1)) hx hb d_o_unlink_50 (by decide) ?_
    refine lv_isub hx hb d_o_unlink_51 ?_
    refine tp_i (nI (mn - 1)) (pk_sub (by omega)) ?_
    refine p_many X hP hS d_o_unlink_52 (fun H locs hP hS => ?_)
    exact hend _ _ _ _ _ hP hS d_o_unlink_55 ⟨_, _, _, _, rfl, by
      have hres := h.del hx0 hw0 (b' := b) (la' := w0) (fun y' hy' => by rw [hz] at hy'; cases hy') (fun z hz2 => rfl) (by rw [if_pos hpe])
      rw [hnx] at hres
      exact hres⟩
  · have hnx : n x = some y := (h.2.2.2.1 _ x hx0).trans hz
    have hpe : pp + 2 ≠ Z.length := by
      have h1 := gt_lt hz
      omega
    refine lv_aload_n hx hb d_o_unlink_0 rfl (lv_at hl 1 rfl) ?_
    refine g_before (o := (some w0)) X hP (hb3 hx0) ((h.2.2.2.2.1 _ _ hx0).trans hw0) d_o_unlink_1 ?_
    refine lv_aload_n hx hb d_o_unlink_4 rfl (lv_at hl 1 rfl) ?_
    refine g_next (o := (some y)) X hP (hb3 hx0) hnx d_o_unlink_5 ?_
    refine p_next (o := (some y)) X hP hS (hb3 hw0) d_o_unlink_8 (fun H locs hP hS => ?_)
    refine lv_aload_n hx hb d_o_unlink_11 rfl (lv_at hl 1 rfl) ?_
    refine g_next (o := (some y)) X hP (hb3 hx0) ((up_n hxw).trans hnx) d_o_unlink_12 ?_
    refine lv_ifnonnull (tgt := 29) hx hb d_o_unlink_15 (by decide) ?_
    refine lv_aload_n hx hb d_o_unlink_29 rfl (lv_at hl 1 rfl) ?_
    refine g_next (o := (some y)) X hP (hb3 hx0) ((up_n hxw).trans hnx) d_o_unlink_30 ?_
    refine lv_aload_n hx hb d_o_unlink_33 rfl (lv_at hl 1 rfl) ?_
    refine g_before (o := (some w0)) X hP (hb3 hx0) ((h.2.2.2.2.1 _ _ hx0).trans hw0) d_o_unlink_34 ?_
    refine p_before (o := (some w0)) X hP hS (hb3 hz) d_o_unlink_37 (fun H locs hP hS => ?_)
    refine lv_aload_n hx hb d_o_unlink_40 rfl (lv_at hl 1 rfl) ?_
    refine lv_iconst (v := (nI 0)) hx hb d_o_unlink_41 (by decide) ?_
    refine p_there X hP hS (hb3 hx0) false (by decide) d_o_unlink_42 (fun H locs hP hS => ?_)
    refine lv_aload_n hx hb d_o_unlink_45 rfl (lv_at hl 0 rfl) ?_
    refine lv_dup hx hb d_o_unlink_46 rfl ?_
    refine g_many X hP d_o_unlink_47 ?_
    refine lv_iconst (v := (nI 1)) hx hb d_o_unlink_50 (by decide) ?_
    refine lv_isub hx hb d_o_unlink_51 ?_
    refine tp_i (nI (mn - 1)) (pk_sub (by omega)) ?_
    refine p_many X hP hS d_o_unlink_52 (fun H locs hP hS => ?_)
    exact hend _ _ _ _ _ hP hS d_o_unlink_55 ⟨_, _, _, _, rfl, by
      have hres := h.del hx0 hw0 (b' := va_up b y (some w0)) (la' := la) (fun y' hy' => by cases hz.symm.trans hy'; exact up_s) (fun z hz2 => up_n (fun e => hz2 (by rw [e]; exact hz))) (by rw [if_neg hpe])
      rw [hnx] at hres
      exact hres⟩
end
section
/-! 14: methods that throw: their contract; a call of one; what is thrown goes on, or is caught (the kit's rows know returns alone) -/
def FrT (st t : State) (L : List Loc) (k n : Nat) : Prop := st.WarmedH t.vm ∧ st.sameButNew ({ t with vm := st.vm } : State) L k n
def MetT (l : Launch) (y : MethodName) (ws : List Cond) (rm : Room) (Pc : Array Value → State → Prop) (Qt : Array Value → State → Addr → State → Prop) (mc ms : Nat) (free : Addr → Prop) : Prop :=
  MetFree l y (headSpec ws rm) Pc (fun _ _ _ _ _ => True) (fun a st o t => ∃ x, o = .threw x ∧ Qt a st x t ∧ ∃ L, FrT st t L mc ms ∧ ∀ q ∈ L, free q.base)
def MQT (below : List Frame) (Qt : Array Value → State → Addr → State → Prop) (a : Array Value) (s : State) (mc ms : Nat) (free : Addr → Prop) : State → Prop := fun t =>
  ∃ o, t.status = .running ∧ Ended t below o ∧ ∃ x, o = .threw x ∧ Qt a s x t ∧ ∃ L, FrT s t L mc ms ∧ ∀ q ∈ L, free q.base
theorem MetT.ofW {l : Launch} {y : MethodName} {ws ws' : List Cond} {rm : Room} {Pc : Array Value → State → Prop} {Qt : Array Value → State → Addr → State → Prop} {mc ms : Nat} {free : Addr → Prop} {cc : ByteArray} {maxL : Nat} {ret : Option FieldType}
    (hy : plainName y.cls = true) (hw : ws = Cond.code y cc maxL ret :: ws')
    (body : ∀ p e s m args below meth c s₁, BodyLoose p l y (headSpec ws rm) cc maxL ret e s m args below meth c s₁ → c.maxLocals = maxL → Pc args s →
      W p l e (headSpec ws rm).room s m args below meth c s.heap [] 0 0 (MQT below Qt args s mc ms free) (entryFrame m args maxL)) : MetT l y ws rm Pc Qt mc ms free := by
  refine MetFree.of_bodyS (code := cc) (maxLocals := maxL) (ret := ret) hy ?_ ?_
  · intro args s m h hn
    obtain ⟨meth, c, h1, h2, h3, h4, h5, h6, -, -⟩ := Cond.code_spec hn (atoms_spec (ws := ws) h _ (by rw [hw]; exact List.mem_cons_self))
    exact ⟨meth, c, h1, h2, h3, h4, h5, h6⟩
  · intro p e s m args below meth c s₁ B hml hP _
    have hh0 : s₁.heap = s.heap := by rw [B.state]; rfl
    obtain ⟨t, a1, o, b1, b2, b3⟩ := body p e s m args below meth c s₁ B hml hP s₁ hh0 (Stand.of_body B)
    exact ⟨t, o, a1, b1, b2, b3⟩
section THB
variable {p : Program} {l : Launch} {e : Env} {R : Room} {s : State} {m : MethodId} {args : Array Value} {below : List Frame} {meth : Method} {c : Code}
/-- a callee that throws, from the point where it is invoked -/
theorem th_back {U : State} {Ls : List Loc} {c0 s0 : Nat} (X : Stand p l e R s m args below meth c U Ls c0 s0) {y : MethodName} {ws : List Cond} {rm : Room} {Pc : Array Value → State → Prop} {Qt : Array Value → State → Addr → State → Prop} {mc ms : Nat} {free : Addr → Prop} {bytes : ByteArray} {maxL : Nat} {ret : Option FieldType}
    (hM : MetT l y ws rm Pc Qt mc ms free) (hrc : rm.cells = mc) (hrs : rm.slots = ms) (hfrm : rm.frames + 1 ≤ R.frames) (hlo : 8 + (maxL + 11) + rm.locals ≤ R.locals)
    (hws : ∀ w ∈ ws, w.before #[] U = true ∧ ∀ a', w.before a' U = true) (hcode : Cond.code y bytes maxL ret ∈ ws) (hini : ∀ a', (Cond.initialized y.cls).before a' U = true)
    {g : JFrame} {ig : Instr} {len : Nat} {mk : MethodId} {a : Array Value} (hg : g.method = m) (hsize : g.locals.size = c.maxLocals) (hdg : decode c.code g.pc = .ok (ig, len)) (hWt : 2 * g.monitorRoom + (g.stack.map fun v => v.category).sum ≤ 8)
    (hn : U.methodNamed? y = some mk) (hcl : c0 + mc ≤ R.cells) (hsl : s0 + ms ≤ R.slots) (hP : Pc a (U.calling g mk a)) :
    ∃ (x : Addr) (t T' : State) (L : List Loc), Stand p l e R s m args below meth c T' (Ls ++ L) (c0 + mc) (s0 + ms) ∧ (∀ q ∈ L, free q.base) ∧ T'.heap = t.heap ∧ T'.vm = t.vm ∧ Qt a (U.calling g mk a) x t ∧
      Steps p.tables e below (doInvoke e (U.setTop g) [] mk a).1 ((T'.setTop g).pushFrame (.throwing x)) := by
  obtain ⟨methY, cY, hmY, hcY, -, hlY, -, -, -, -⟩ := Cond.code_spec hn ((hws _ hcode).2 a)
  obtain ⟨kY, hkY, -⟩ := className_of_methodNamed hn
  have hinitY : kY.init = .initialized := Cond.initialized_spec (findClass_of_methodNamed hn) hkY (hini a)
  have h : At U g.method c below := by rw [hg]; exact X.here
  have happ : (headSpec ws rm).appliesLoose y e.platform (U.calling g mk a) = true :=
    Spec.appliesLoose_calling (g := g) h hdg hn hkY hinitY
      (X.room_calling (g := g) (R' := rm) hsize hmY hcY hfrm (by rw [hlY]; omega) (by rw [hrc]; exact hcl) (by rw [hrs]; exact hsl)) (atoms_intro fun w hw => (hws w hw).2 a)
  obtain ⟨mid, hmid⟩ := h.above
  have hfr : (U.setTop g).frames = (.java g :: mid) ++ below := by rw [State.frames_setTop' g h.top, hmid]; rfl
  obtain ⟨o, s₂, hsteps, -, hend, hqq⟩ := Steps.callFree hM p X.admits X.cas X.clock (acts := []) hfr happ hP trivial
  have hqq' : ∃ x, o = .threw x ∧ Qt a (U.calling g mk a) x s₂ ∧ ∃ L, FrT (U.calling g mk a) s₂ L mc ms ∧ ∀ q ∈ L, free q.base := hqq
  obtain ⟨x, rfl, hq, L, ⟨hW₂, e2, q2, q3, q4, q5, q6⟩, hL⟩ := hqq'
  rw [State.frames_setTop' g h.top] at hend
  have e3 : s₂ = ({ (U.calling g mk a).setFrames s₂.frames with heap := s₂.heap, slotsUsed := s₂.slotsUsed } : State).setVm s₂.vm := by
    have h9 : s₂ = ({ s₂ with vm := (U.calling g mk a).vm } : State).setVm s₂.vm := rfl
    rw [e2] at h9
    exact h9
  have hf₂ : s₂.frames = .throwing x :: .java g :: U.frames.tail := hend
  have hW' : U.WarmedH s₂.vm := hW₂
  obtain ⟨g₀, hg0⟩ := Option.isSome_iff_exists.mp h.top
  obtain ⟨r, hr⟩ := State.topJava?_eq_some.mp hg0
  have hs₂ : s₂ = ((({ U with heap := s₂.heap, slotsUsed := s₂.slotsUsed } : State).setVm s₂.vm).setTop g).pushFrame (.throwing x) := by
    have hr' : (({ U with heap := s₂.heap, slotsUsed := s₂.slotsUsed } : State).setVm s₂.vm).frames = .java g₀ :: r := hr
    refine e3.trans ?_
    rw [hf₂, State.calling_eq h.top, State.setFrames_setFrames, State.pushFrame, State.frames_setTop _ hr', State.setTop_of_frames _ hr', State.setFrames_setFrames, hr]
    rfl
  have hsame : U.sameButNew ({ U with heap := s₂.heap, slotsUsed := s₂.slotsUsed } : State) L mc ms := by
    refine ⟨?_, q2, q3, q4, q5, q6⟩
    obtain ⟨t, ht, -⟩ := State.frames_cons hr
    show ({ U with heap := s₂.heap, slotsUsed := s₂.slotsUsed } : State) = { U.setFrames U.frames with heap := s₂.heap, slotsUsed := s₂.slotsUsed }
    rw [State.setFrames_self ht]
  subst hg
  refine ⟨x, s₂, (({ U with heap := s₂.heap, slotsUsed := s₂.slotsUsed } : State).setVm s₂.vm), L,
    ⟨X.admits, X.cas, X.clock, X.frames, X.room, X.hears, X.method, X.code, (X.here.setHeapUsed s₂.heap s₂.slotsUsed).setVm hW'.alike, X.tail, State.WarmedH.trans X.warmed hW', X.limits, X.bytes, X.same.trans (hsame.setVm s.vm)⟩, hL, rfl, rfl, hq, ?_⟩
  rw [← hs₂]
  exact hsteps
end THB
section THC
variable {p : Program} {l : Launch} {e : Env} {R : Room} {s : State} {m : MethodId} {args : Array Value} {below : List Frame} {meth : Method} {c : Code} {H : Heap} {locs : List Loc} {cells slots : Nat}
/-- a call that throws -/
def th_Run (p : Program) (l : Launch) (e : Env) (R : Room) (s : State) (m : MethodId) (args : Array Value) (below : List Frame) (meth : Method) (c : Code) (H : Heap) (locs : List Loc) (cells slots mc ms : Nat) (g : JFrame) (rest : List Value) (Qa : State → Addr → State → Prop) (free : Addr → Prop) : Prop :=
  ∀ T : State, T.heap = H → Stand p l e R s m args below meth c T locs cells slots → ∃ (x : Addr) (st₀ t T' : State) (L : List Loc), st₀.heap = H ∧ s.vm.Alike st₀.vm ∧ Stand p l e R s m args below meth c T' (locs ++ L) (cells + mc) (slots + ms) ∧ (∀ q ∈ L, free q.base) ∧ T'.heap = t.heap ∧ T'.vm = t.vm ∧ Qa st₀ x t ∧
    ∀ target, Steps p.tables e below ((T'.setTop { g with stack := rest }).pushFrame (.throwing x)) target → Steps p.tables e below (T.setTop g) target
theorem th_V {y : MethodName} {bytes cc : ByteArray} {maxL nL mc ms n index : Nat} {ret : Option FieldType} {ws : List Cond} {rm : Room} {Pc : Array Value → State → Prop} {Qt : Array Value → State → Addr → State → Prop} {free : Addr → Prop} {Ts : List Cond} {own C : String} {b : Addr} {As rest : List Value} {g : JFrame}
    (S : CallFix p m c cc nL s args Ts own) (hM : MetT l y ws rm Pc Qt mc ms free) (cw : CallW R s args own C index y bytes maxL ret ws rm mc ms n) (hp : PreV s H C b Pc As)
    (hg : g.method = m) (hn : As.length = n) (hsize : g.locals.size = nL) (hstack : g.stack = As.reverse ++ .ref b :: rest) (hW : 2 * g.monitorRoom + (rest.map fun v => v.category).sum ≤ 8) (hdg : decode cc g.pc = .ok (.invokevirtual index, 3)) (hf : cells + mc ≤ R.cells ∧ slots + ms ≤ R.slots) :
    th_Run p l e R s m args below meth c H locs cells slots mc ms g rest (Qt (Value.ref b :: As).toArray) free := by
  obtain ⟨⟨hrc, hrs, hfrm, hlo, hws, hcw, hcode, hini, hy, hlen, hl⟩, hin, hse⟩ := cw
  obtain ⟨hx, hb, hml, ho, -⟩ := S
  obtain ⟨hbl, ⟨cellB, hcB, hoB, hclB⟩, hPc⟩ := hp
  intro T hT X
  obtain ⟨mk, methM, hnamed, hmethM, hstM, habM⟩ := Cond.instanceMethod_spec hin
  obtain ⟨methM', cM, hmethM', -, -, -, -, -, -, hsigM⟩ := Cond.code_spec hnamed hcode
  cases hmethM.symm.trans hmethM'
  obtain ⟨c2, r2, m2, q1, q2, q3, q4, kP, hkP, hkPi⟩ := Cond.selects_spec hse
  cases hclB.symm.trans q1
  cases (State.methodFound?_of_named hnamed hy).symm.trans q2
  cases hnamed.symm.trans q3
  have hselP : selectMethod e.platform s.vm cellB.cls mk = .method mk := by rw [Launch.admits_selectMethod X.admits]; exact q4
  obtain ⟨vm₁, X₁, hstep₁⟩ := X.invokevirtual hx ho hl hnamed hmethM hstM hkP hkPi hy (a := b) (cell := cellB) (by rw [hT]; exact hcB)
    (fun z h => by rw [h] at hoB; cases hoB) hselP hmethM habM hkP hkPi (g := g) hg (argsL := As) (rest := rest) (hn.trans (hlen _ hsigM)) hstack (by rw [hb]; exact hdg)
  obtain ⟨x, t, T', L, X', hL, e1, e2, hq, hst⟩ := th_back X₁ (bytes := bytes) (maxL := maxL) (ret := ret) hM hrc hrs hfrm hlo (fun w hw => ⟨hws w hw _ _ X₁.warmed, fun a' => hws w hw a' _ X₁.warmed⟩) hcw
    (fun a' => word_at X₁.warmed (Or.inl (by first | rfl | simp [Cond.onTables, Cond.keeps, Cond.steady])) hini) (g := { g with stack := rest }) (a := (Value.ref b :: As).toArray) hg (hsize.trans hml.symm) (by rw [hb]; exact hdg) hW (X₁.named hnamed) hf.1 hf.2
    (hbl _ _ _ _ (hPc (T.setVm vm₁) hT X₁.warmed))
  refine ⟨x, _, t, T', L, ?_, ?_, X', hL, e1, e2, hq, fun target h => hstep₁ _ fun acts => by rw [doInvoke_state]; exact hst.trans h⟩
  · exact hT
  · exact X₁.warmed.alike
/-- nobody catches it here: the method throws too -/
theorem th_out {mc ms pc : Nat} {ls : Array Slot} {st0 rest : List Value} {Qa : State → Addr → State → Prop} {Qt : Array Value → State → Addr → State → Prop} {free free2 : Addr → Prop} (hr : th_Run p l e R s m args below meth c H locs cells slots mc ms (F0 m pc ls st0) rest Qa free)
    (hlk : meth.locks = false) (hne : ∀ x ∈ c.exceptionTable.toList, covers x pc = false) (h1 : ∀ q ∈ locs, free2 q.base) (h2 : ∀ q, free q → free2 q)
    (hq : ∀ st₀ x t (t' : State), st₀.heap = H → s.vm.Alike st₀.vm → Qa st₀ x t → t'.heap = t.heap → t'.vm = t.vm → Qt args s x t') : W p l e R s m args below meth c H locs cells slots (MQT below Qt args s (cells + mc) (slots + ms) free2) (F0 m pc ls st0) := by
  intro T hT X
  obtain ⟨x, st₀, t, T', L, h0, ha, X', hL, e1, e2, hqa, hst⟩ := hr T hT X
  obtain ⟨hgo, hrun, hend, hW, hsame⟩ := X'.leaveThrown x (g := { F0 m pc ls st0 with stack := rest }) rfl rfl rfl hne hlk
  refine ⟨_, hst _ hgo, .threw x, hrun, hend, x, rfl, hq st₀ x t _ h0 ha hqa e1 e2, locs ++ L, ⟨hW, hsame⟩, fun q hq' => ?_⟩
  rcases List.mem_append.mp hq' with h | h
  · exact h1 q h
  · exact h2 _ (hL q h)
/-- the search in a table of one row, whose class may be unresolved yet -/
theorem th_find {s : State} {f : JFrame} {a : Addr} {meth : Method} {code : Code} (hm : s.vm.method? f.method = some meth) (hc : meth.code = some code) {x : ExceptionTableEntry} (htab : code.exceptionTable.toList = [x]) (hx : covers x f.pc = true) (h0 : x.catchType ≠ 0) {k : ClassId} {cell : Cell}
    (hl : s.vm.ClassLinks e.platform f.method.cls x.catchType k) (hcell : s.heap[a]? = some cell) (hobj : ∀ z, cell.vm ≠ .statics z) (hk1 : ∃ z, s.vm.classes[cell.cls]? = some z) (hk2 : ∃ z, s.vm.classes[k]? = some z) (hfit : s.vm.assignable cell.cls k = true) (Q : Handler → Pre) (E : CtlPost) (d : Bool) (acts : List Action) :
    wp (findHandler f a) Q E e d acts s ↔ Q (.found x.handlerPc) d acts (s.setVm (s.vm.noted f.method.cls x.catchType (.cls k))) := by
  rw [_root_.Jvm.W.findHandler_eq hm hc, htab]
  simp only [covers] at hx
  obtain ⟨ha, ht⟩ := (resolveClass_links e.toSetting hl).op (op := VmOp.resolveClass f.method.cls x.catchType) rfl
  have hal : s.vm.Alike (s.vm.noted f.method.cls x.catchType (.cls k)) := (Vm.Alike.refl s.vm).noted _ _ _
  obtain ⟨z1, hz1⟩ := hk1
  obtain ⟨z2, hz2⟩ := hk2
  obtain ⟨z1', hz1', -⟩ := hal.2.2 _ _ hz1
  obtain ⟨z2', hz2', -⟩ := hal.2.2 _ _ hz2
  have hfit' : (s.vm.noted f.method.cls x.catchType (.cls k)).assignable cell.cls k = true := by rw [hal.assignable]; exact hfit
  simp [findHandler.go, hx, h0, ha, ht, hcell, hobj, hz1', hz2', hfit', VmOp.dirties, VmOp.acts]
end THC
end
section
/-! 15: what is thrown is caught: the walk goes on at the handler -/
theorem th_stp {e : Env} {s : State} {a : Addr} {f : JFrame} {r : List Frame} {pc : Nat} {vm' : Vm} (hfind : ∀ (Q : Handler → Pre) (E : CtlPost) (d : Bool) (acts : List Action), wp (findHandler f a) Q E e d acts s ↔ Q (.found pc) d acts (s.setVm vm')) :
    (stepThrowing e s a (.java f :: r)).Is ((s.setVm vm').setFrames (.java { f with pc := pc, stack := [.ref a] } :: r)) [] := by
  simp only [stepThrowing, searchFrame, vmDo]
  generalize hr : Sem.go _ e false [] s = res
  obtain ⟨as, rfl, ha⟩ := Sem.eq_ok_of hr (a := Handler.found pc) (s' := s.setVm vm') (acts' := []) (by simp [hfind _ _ _ _])
  exact ⟨rfl, ha⟩
theorem th_go {tb : Tables} {e : Env} {s target : State} {g : JFrame} {c : Code} {below : List Frame} {a : Addr} (h : At s g.method c below) {pc : Nat} {vm' : Vm}
    (hfind : ∀ (Q : Handler → Pre) (E : CtlPost) (d : Bool) (acts : List Action), wp (findHandler g a) Q E e d acts ((s.setTop g).pushFrame (.throwing a)) ↔ Q (.found pc) d acts (((s.setTop g).pushFrame (.throwing a)).setVm vm'))
    (hrest : Steps tb e below ((s.setVm vm').setTop { g with pc := pc, stack := [.ref a] }) target) : Steps tb e below ((s.setTop g).pushFrame (.throwing a)) target := by
  obtain ⟨hgo, hw⟩ := h.throwing a
  refine Steps.head hgo hw ?_
  rw [stepThread_throwing (frames_entered h.top _), (th_stp (s := (s.setTop g).pushFrame (.throwing a)) hfind).1]
  obtain ⟨g₀, hg⟩ := Option.isSome_iff_exists.mp h.top
  obtain ⟨r, hr⟩ := State.topJava?_eq_some.mp hg
  have hr' : (s.setVm vm').frames = .java g₀ :: r := hr
  rw [State.setTop_of_frames _ hr'] at hrest
  have sw : ∀ (u : State) (F K : List Frame), ((u.setFrames F).setVm vm').setFrames K = (u.setVm vm').setFrames K := by
    intro u F K
    have h1 : (u.setFrames F).setVm vm' = (u.setVm vm').setFrames F := rfl
    rw [h1, State.setFrames_setFrames]
  rw [hr, List.tail_cons, State.pushFrame, sw, State.setTop_of_frames _ hr, sw]
  exact hrest
section THK
variable {p : Program} {l : Launch} {e : Env} {R : Room} {s : State} {m : MethodId} {args : Array Value} {below : List Frame} {meth : Method} {c : Code} {H : Heap} {locs : List Loc} {cells slots : Nat} {Q : State → Prop}
theorem th_caught {mc ms pc : Nat} {ls : Array Slot} {st0 rest : List Value} {Qa : State → Addr → State → Prop} {free : Addr → Prop} (hr : th_Run p l e R s m args below meth c H locs cells slots mc ms (F0 m pc ls st0) rest Qa free)
    {own name : String} {b0 b1 hp ct : Nat} (hown : s.vm.findClass own = some m.cls) (htab : c.exceptionTable.toList.map (fun h => (h.startPc, h.endPc, h.handlerPc, h.catchType)) = [(b0, b1, hp, ct)]) (hin : b0 ≤ pc ∧ pc < b1) (h0 : ct ≠ 0) (hlink : (Cond.classLink own ct name).before args s = true)
    (hce : ∀ st₀ x t, s.vm.Alike st₀.vm → Qa st₀ x t → ∃ ce : Cell, t.heap[x]? = some ce ∧ ce.vm = .none ∧ s.vm.findClass name = some ce.cls ∧ s.vm.assignable ce.cls ce.cls = true)
    (kk : ∀ (x : Addr) (st₀ t : State) (H1 : Heap) (L : List Loc), st₀.heap = H → s.vm.Alike st₀.vm → Qa st₀ x t → t.heap = H1 → s.vm.Alike t.vm → (∀ q ∈ L, free q.base) → W p l e R s m args below meth c H1 (locs ++ L) (cells + mc) (slots + ms) Q (F0 m hp ls [.ref x])) :
    W p l e R s m args below meth c H locs cells slots Q (F0 m pc ls st0) := by
  intro T hT X
  obtain ⟨x, st₀, t, T', L, hh, ha, X', hL, e1, e2, hqa, hst⟩ := hr T hT X
  obtain ⟨ce, hc1, hc2, hc3, hc4⟩ := hce st₀ x t ha hqa
  have hpl : e.platform.magicAccessors = ({} : Platform).magicAccessors := by rw [X.admits.platform]
  obtain ⟨c', hc', hcl⟩ := Cond.classLink_spec hown hlink e.platform hpl
  cases hc3.symm.trans hc'
  obtain ⟨ent, htl, hent⟩ : ∃ ent : ExceptionTableEntry, c.exceptionTable.toList = [ent] ∧ (ent.startPc, ent.endPc, ent.handlerPc, ent.catchType) = (b0, b1, hp, ct) := by
    cases hcs : c.exceptionTable.toList with
    | nil => rw [hcs] at htab; cases htab
    | cons ent tl =>
      rw [hcs] at htab
      cases tl with
      | nil => exact ⟨ent, rfl, by simpa using htab⟩
      | cons _ _ => simp at htab
  obtain ⟨z1, z2, z3, z4⟩ : ent.startPc = b0 ∧ ent.endPc = b1 ∧ ent.handlerPc = hp ∧ ent.catchType = ct := by simpa using hent
  subst z1; subst z2; subst z3; subst z4
  obtain ⟨dk, _, _, kt, hd, _, _, _, _, hkt, _, hopen⟩ := hcl.here
  have hcl₀ := X'.warmed.classLinks hcl
  have hW' : s.WarmedH (T'.vm.noted m.cls ent.catchType (.cls ce.cls)) := X'.warmed.noted hd hopen (State.rightAt_cls hcl)
  have hal := X'.warmed.alike
  obtain ⟨kt', hkt', -⟩ := hal.2.2 _ _ hkt
  have hfit' : T'.vm.assignable ce.cls ce.cls = true := by rw [hal.assignable]; exact hc4
  obtain ⟨t2, a1, b1⟩ := kk x st₀ t T'.heap L hh ha hqa e1.symm (by rw [← e2]; exact hal) hL (T'.setVm (T'.vm.noted m.cls ent.catchType (.cls ce.cls))) rfl (X'.noted hW')
  refine ⟨t2, hst t2 (th_go (g := { F0 m pc ls st0 with stack := rest }) X'.here ?_ a1), b1⟩
  intro Q0 E d acts
  exact th_find (s := (T'.setTop { F0 m pc ls st0 with stack := rest }).pushFrame (.throwing x)) (f := { F0 m pc ls st0 with stack := rest }) (meth := meth) (code := c) X'.method' X'.code htl (by simp [covers, hin.1, hin.2]) h0 (k := ce.cls) (cell := ce) hcl₀ (by show T'.heap[x]? = _; rw [e1]; exact hc1) (fun z h => by rw [hc2] at h; cases h) ⟨kt', hkt'⟩ ⟨kt', hkt'⟩ hfit' Q0 E d acts
end THK
end
section
/-! 16: OrderLine.of: it gives the stamp, or throws -/
def iaeN : String := "java/lang/IllegalArgumentException"
def iaeUp : List String := ["java/lang/RuntimeException", "java/lang/Exception"]
/-- the words of a throw that no caller's words hand on -/
def th_bad : List Cond := [.declares ⟨"java/lang/RuntimeException", "<init>", "()V"⟩, .declares ⟨"java/lang/Exception", "<init>", "()V"⟩, .declares ⟨"java/lang/Throwable", "<init>", "()V"⟩, .castable iaeN iaeN, .laysStatic Bundle.tN "UNASSIGNED_STACK" Bundle.steD, .laysStatic Bundle.tN "SUPPRESSED_SENTINEL" Bundle.listD, .isRef (.static Bundle.tN "UNASSIGNED_STACK" Bundle.steD), .isRef (.static Bundle.tN "SUPPRESSED_SENTINEL" Bundle.listD)]
def th_badT : List Cond := [.declares ⟨"java/lang/RuntimeException", "<init>", "()V"⟩, .declares ⟨"java/lang/Exception", "<init>", "()V"⟩, .declares ⟨"java/lang/Throwable", "<init>", "()V"⟩, .castable iaeN iaeN, .laysStatic Bundle.tN "UNASSIGNED_STACK" Bundle.steD, .laysStatic Bundle.tN "SUPPRESSED_SENTINEL" Bundle.listD]
theorem th_split : ∀ a ∈ Bundle.ownAtoms0 "OrderLine" 43 iaeN iaeUp, a ∈ GW ∨ a ∈ th_bad := by decide +kernel
theorem th_badT_in : ∀ a ∈ th_badT, a ∈ lw_tbl := by decide +kernel
def TW (U : State) : Prop := ∀ w ∈ th_bad, w.before #[] U = true
/-- cells of statics are as they were -/
def StK (H H1 : Heap) : Prop := ∀ (a : Nat) (cell : Cell), H[a]? = some cell → cell.vm.isStatics = true → H1[a]? = some cell
theorem st_lays {C n d : String} {u U : State} (hvm : u.vm.Alike U.vm) (hH : StK u.heap U.heap) (h : (Cond.laysStatic C n d).before #[] u = true) : (Cond.laysStatic C n d).before #[] U = true := by
  obtain ⟨c, k, i, f, a, cell, hc, hi, hst, ha, hcell, hs, hcls, hlt, hty⟩ := Cond.laysStatic_spec h
  obtain ⟨k', hi', he⟩ := State.fieldFound?_setVm hvm hi
  have hi2 : U.fieldFound? C n d = some (c, k', i, f) := hi'
  have hc2 : U.vm.findClass C = some c := by rw [hvm.findClass]; exact hc
  have ha2 : k'.statics = some a := by rw [he]; exact ha
  have hty2 : k'.staticTypes[f.slot]? = some f.type := by rw [he]; exact hty
  have hcell2 := hH a cell hcell hs
  simp [Cond.before, Cond.holds, Cond.value, hc2, hi2, ha2, hcell2, hst, hs, hcls, hlt, hty2]
theorem st_ref {C n d : String} {u U : State} (hvm : u.vm.Alike U.vm) (hH : StK u.heap U.heap) (hl : (Cond.laysStatic C n d).before #[] u = true) (h : (Cond.isRef (.static C n d)).before #[] u = true) : (Cond.isRef (.static C n d)).before #[] U = true := by
  obtain ⟨c, k, i, f, a, cell, hc, hi, hst, ha, hcell, hs, hcls, hlt, hty⟩ := Cond.laysStatic_spec hl
  obtain ⟨k', hi', he⟩ := State.fieldFound?_setVm hvm hi
  have hi2 : U.fieldFound? C n d = some (c, k', i, f) := hi'
  have ha2 : k'.statics = some a := by rw [he]; exact ha
  have hcell2 := hH a cell hcell hs
  have e1 : (Term.static C n d).eval #[] u none [] u = cell.slots[f.slot]? := by simp [Term.eval, State.fieldNamed?, hi, hst, ha, hcell, hs]
  have e2 : (Term.static C n d).eval #[] U none [] U = cell.slots[f.slot]? := by simp [Term.eval, State.fieldNamed?, hi2, hst, ha2, hcell2, hs]
  simp only [Cond.before, Cond.holds, Cond.value] at h ⊢
  rw [e1] at h
  rw [e2]
  exact h
theorem TW.move {s U : State} (h : TW s) (hW : s.WarmedH U.vm) (hH : StK s.heap U.heap) : TW U := by
  intro w hw
  have hz := h w hw
  have l1 := h (.laysStatic Bundle.tN "UNASSIGNED_STACK" Bundle.steD) (by simp [th_bad])
  have l2 := h (.laysStatic Bundle.tN "SUPPRESSED_SENTINEL" Bundle.listD) (by simp [th_bad])
  simp only [th_bad, List.mem_cons, List.not_mem_nil, or_false] at hw
  rcases hw with rfl | rfl | rfl | rfl | rfl | rfl | rfl | rfl
  · exact va_Nw.warmD hW hz
  · exact va_Nw.warmD hW hz
  · exact va_Nw.warmD hW hz
  · exact va_Nw.warmC hW hz
  · exact st_lays hW.alike hH hz
  · exact st_lays hW.alike hH hz
  · exact st_ref hW.alike hH l1 hz
  · exact st_ref hW.alike hH l2 hz
theorem TW.use {s : State} {args : Array Value} (h : TW s) (hts : ∀ w ∈ GW, w.before args s = true) : ∀ a ∈ Bundle.ownAtoms0 "OrderLine" 43 iaeN iaeUp, a.before args s = true := by
  intro a ha
  rcases th_split a ha with hg | hb
  · exact hts a hg
  · have hz := h a hb
    simp only [th_bad, List.mem_cons, List.not_mem_nil, or_false] at hb
    rcases hb with rfl | rfl | rfl | rfl | rfl | rfl | rfl | rfl <;> exact hz
theorem same_old {s s' : State} {k n : Nat} (h : s.sameButNew s' [] k n) {a : Nat} (ha : a < s.heap.size) : s'.heap[a]? = s.heap[a]? := by
  obtain ⟨c', h1, h2, h3, h4⟩ := h.2.2.2.2.2 a _ (Array.getElem?_eq_getElem ha)
  rw [h1, Array.getElem?_eq_getElem ha]
  have h5 : c'.slots = (s.heap[a]).slots := Array.ext_getElem? fun i => h4 i (by simp)
  rw [h2, h5]
/-- the end of a method that throws: the line as it was, what is thrown is an IllegalArgumentException -/
def ol_T (G : OG) (u : OS) : Array Value → State → Addr → State → Prop := fun _ st x t => ol_P G u t.heap ∧ st.heap.size ≤ t.heap.size ∧ (∀ q : Nat, q < st.heap.size → ¬ ol_A G q → t.heap[q]? = st.heap[q]?) ∧
  ∃ ce : Cell, t.heap[x]? = some ce ∧ ce.vm = .none ∧ st.vm.findClass iaeN = some ce.cls ∧ st.vm.assignable ce.cls ce.cls = true
def ol_UT (G : OG) (u : OS) (U : State) : Prop := ol_U G u U ∧ TW U
abbrev ol_MT (l : Launch) (y : MethodName) (cc : ByteArray) (maxL : Nat) (ret : Option FieldType) (rm : Room) (G : OG) (As : List Value) (u : OS) : Prop := MetT l y (.code y cc maxL ret :: GW) rm (va_Pc (.ref (ol_h G) :: As) (ol_UT G u)) (ol_T G u) 1 6 (ol_A G)
section OLA
variable {l : Launch} {y : MethodName} {cc : ByteArray} {maxL : Nat} {rm : Room} {As : List Value} {G : OG} {u : OS}
/-- has, by a body that writes nothing -/
theorem ol_mzA {post : Bool → OS → Prop} (hy : plainName y.cls = true) (hyc : y.cls = "OrderLine") (hG : ol_ok G) (hn : (lg_sl (.ref (ol_h G) :: As)).length ≤ maxL)
    (body : ∀ (p : Program) (e : Env) (R : Room) (s : State) (m : MethodId) (args : Array Value) (below : List Frame) (meth : Method) (c : Code) (Q : State → Prop) (ls : Array Slot), R = rm → ol_X p s m args c cc G → c.maxLocals = maxL → ol_P G u s.heap → va_S (fun _ => False) s.heap s.heap [] → lv_has ls maxL (lv_args 0 (.ref (ol_h G) :: As)) →
      (∀ (v : Bool) (x : Int32) (u' : OS) (H : Heap) (locs : List Loc) (pc : Nat) (ls : Array Slot), x = ol_z v → ol_P G u' H → va_S (fun _ => False) s.heap H locs → decode cc pc = .ok (.ireturn, 1) → post v u' → W p l e R s m args below meth c H locs 0 0 Q (F0 m pc ls [.int x])) → W p l e R s m args below meth c s.heap [] 0 0 Q (F0 m 0 ls [])) :
    Met l y (.code y cc maxL (some .boolean) :: GW) rm (va_Pc (.ref (ol_h G) :: As) (ol_U G u)) (va_Qi (fun x (q : Bool × OS) => x = ol_z q.1 ∧ post q.1 q.2) (fun q t => ol_P G q.2 t.heap) (fun _ => False)) 0 0 (fun _ => False) := by
  refine Met.ofW (cc := cc) (maxL := maxL) (ret := some .boolean) hy rfl ?_
  intro p e s m args below meth c s₁ B hml hv
  obtain ⟨rfl, hK, hN, hP⟩ := hv
  have hts := atoms_spec (ws := .code y cc maxL (some .boolean) :: GW) B.pre
  have hown : s.vm.findClass "OrderLine" = some m.cls := by rw [← hyc]; exact findClass_of_methodNamed B.named
  have hl := lv_entry (.ref (ol_h G) :: As) (n := maxL) hn
  rw [lg_entry_eq]
  exact body p e _ s m _ below meth c _ _ rfl ⟨B.exec, B.bytes, hown, fun w hw => hts w (List.mem_cons_of_mem _ hw), hK, hN, hG⟩ hml hP va_S.rf hl
    (fun v x u' H locs pc ls hxv hP hS hd hpo => W.zret B.exec B.bytes B.returns (by subst hxv; cases v <;> rfl) (fun t ht hW => ⟨⟨x, (v, u'), rfl, ⟨hxv, hpo⟩, by subst ht; exact hP⟩, hS.F ht⟩) hS.2.2 hd B.notSynchronized)
end OLA
end
section
/-! 17: OrderLine.has once more, of (by program: gen/o4.py) -/
set_option maxHeartbeats 4000000 in
set_option maxRecDepth 100000 in
/-- has(x), x the number k of a stamp -/
theorem c_o_hasA (l : Launch) (G : OG) (hG : ol_ok G) {L : Nat → Nat} {b n : Nat → Option Nat} {t : Nat → Bool} {F : Nat → Nat} {nf la mn : Nat} {k : Nat} (hk : k < 1000) : Met l y_o_has (.code y_o_has b_o_has 2 (some .boolean) :: GW) ({ frames := 0, cells := 0, slots := 0, locals := 0 }) (va_Pc (.ref (ol_h G) :: [.int (nI k)]) (ol_U G (L, b, n, t, F, nf, la, mn))) (va_Qi (fun x (q : Bool × OS) => x = ol_z q.1 ∧ (q.1 = t k ∧ q.2 = (L, b, n, t, F, nf, la, mn))) (fun q t => ol_P G q.2 t.heap) (fun _ => False)) 0 0 (fun _ => False) := by
  refine ol_mzA (post := fun r u => r = t k ∧ u = (L, b, n, t, F, nf, la, mn)) (by decide) rfl hG (Nat.le_of_ble_eq_true rfl) (fun p e R s m args below meth c Q ls hR X hml hP hS hl hend => ?_)
  have hx := X.1
  have hb := X.2.1
  have hl : lv_has ls 2 [(0, .ref (ol_h G)), (1, .int (nI k))] := hl
  refine lv_iload_n hx hb d_o_has_0 rfl (lv_at hl 1 rfl) ?_
  refine nz_lt (tgt := 27) hx hb (by omega) d_o_has_1 (by decide) ?_
  refine lv_iload_n hx hb d_o_has_4 rfl (lv_at hl 1 rfl) ?_
  refine lv_sipush (v := (nI 1000)) hx hb d_o_has_5 (by decide) ?_
  refine nb_ge (tgt := 27) hx hb (by omega) (by omega) d_o_has_8 (by decide) (fun q => ?_) (fun q => ?_)
  · exact absurd q (by omega)
  · refine lv_aload_n hx hb d_o_has_11 rfl (lv_at hl 0 rfl) ?_
    refine g_stamps X hP d_o_has_12 ?_
    refine lv_iload_n hx hb d_o_has_15 rfl (lv_at hl 1 rfl) ?_
    refine a_stamps X hP hk d_o_has_16 ?_
    refine g_there (o := (t k)) X hP hk rfl d_o_has_17 ?_
    refine z_eq (tgt := 27) hx hb d_o_has_20 (by decide) (fun q2 => ?_) (fun q2 => ?_)
    · refine lv_iconst (v := (nI 0)) hx hb d_o_has_27 (by decide) ?_
      exact hend false _ _ _ _ _ _ (by decide) hP hS d_o_has_28 ⟨q2.symm, rfl⟩
    · refine lv_iconst (v := (nI 1)) hx hb d_o_has_23 (by decide) ?_
      refine lv_goto (tgt := 28) hx hb d_o_has_24 (by decide) ?_
      exact hend true _ _ _ _ _ _ (by decide) hP hS d_o_has_28 ⟨q2.symm, rfl⟩
set_option maxHeartbeats 4000000 in
set_option maxRecDepth 100000 in
/-- has(x), x no number of a stamp -/
theorem c_o_hasNA (l : Launch) (G : OG) (hG : ol_ok G) {L : Nat → Nat} {b n : Nat → Option Nat} {t : Nat → Bool} {F : Nat → Nat} {nf la mn : Nat} {x : Int32} (hx0 : x < 0 ∨ nI 1000 ≤ x) : Met l y_o_has (.code y_o_has b_o_has 2 (some .boolean) :: GW) ({ frames := 0, cells := 0, slots := 0, locals := 0 }) (va_Pc (.ref (ol_h G) :: [.int x]) (ol_U G (L, b, n, t, F, nf, la, mn))) (va_Qi (fun x (q : Bool × OS) => x = ol_z q.1 ∧ (q.1 = false ∧ q.2 = (L, b, n, t, F, nf, la, mn))) (fun q t => ol_P G q.2 t.heap) (fun _ => False)) 0 0 (fun _ => False) := by
  refine ol_mzA (post := fun r u => r = false ∧ u = (L, b, n, t, F, nf, la, mn)) (by decide) rfl hG (Nat.le_of_ble_eq_true rfl) (fun p e R s m args below meth c Q ls hR X hml hP hS hl hend => ?_)
  have hx := X.1
  have hb := X.2.1
  have hl : lv_has ls 2 [(0, .ref (ol_h G)), (1, .int x)] := hl
  refine lv_iload_n hx hb d_o_has_0 rfl (lv_at hl 1 rfl) ?_
  refine lv_if_lt (tgt := 27) hx hb d_o_has_1 (by decide) (fun q => ?_) (fun q => ?_)
  · refine lv_iconst (v := (nI 0)) hx hb d_o_has_27 (by decide) ?_
    exact hend false _ _ _ _ _ _ (by decide) hP hS d_o_has_28 ⟨rfl, rfl⟩
  · refine lv_iload_n hx hb d_o_has_4 rfl (lv_at hl 1 rfl) ?_
    refine lv_sipush (v := (nI 1000)) hx hb d_o_has_5 (by decide) ?_
    refine lv_icmp_ge (tgt := 27) hx hb d_o_has_8 (by decide) (fun q2 => ?_) (fun q2 => ?_)
    · refine lv_iconst (v := (nI 0)) hx hb d_o_has_27 (by decide) ?_
      exact hend false _ _ _ _ _ _ (by decide) hP hS d_o_has_28 ⟨rfl, rfl⟩
    · exact absurd (hx0.resolve_left q) q2
set_option maxHeartbeats 4000000 in
set_option maxRecDepth 100000 in
/-- of(k), a stamp that is there -/
theorem c_o_of (l : Launch) (G : OG) (hG : ol_ok G) {L : Nat → Nat} {b n : Nat → Option Nat} {t : Nat → Bool} {F : Nat → Nat} {nf la mn : Nat} {k : Nat} (hk : k < 1000) (htk : t k = true) : ol_M l y_o_of b_o_of 2 (some (.object "OrderLine$Stamp")) ({ frames := 1, cells := 0, slots := 0, locals := 21 }) G [.int (nI k)] (L, b, n, t, F, nf, la, mn) (ol_Qr G (fun r u => r = k ∧ u = (L, b, n, t, F, nf, la, mn))) := by
  refine ol_mr (by decide) rfl hG (Nat.le_of_ble_eq_true rfl) (fun p e R s m args below meth c Q ls hR X hml hP hS hl hend => ?_)
  have hx := X.1
  have hb := X.2.1
  have hl : lv_has ls 2 [(0, .ref (ol_h G)), (1, .int (nI k))] := hl
  refine lv_aload_n hx hb d_o_of_0 rfl (lv_at hl 0 rfl) ?_
  refine lv_iload_n hx hb d_o_of_1 rfl (lv_at hl 1 rfl) ?_
  refine ol_cz (n := 1) (As := [.int (nI k)]) (rest := []) X hml (c_o_has l G hG hk) (gw_W X.2.2.2.1 ml_o_37 im_o_has se_o_has k_o_has in_o (by decide +kernel) rfl rfl (by rw [hR]; exact ⟨Nat.le_of_ble_eq_true rfl, Nat.le_of_ble_eq_true rfl⟩)) hP hS hl.1 rfl rfl (Nat.le_of_ble_eq_true rfl) d_o_of_2 (fun r u' H locs hq hP hS => ?_)
  obtain ⟨rfl, rfl⟩ := hq
  refine z_ne (tgt := 16) hx hb d_o_of_5 (by decide) (fun q => ?_) (fun q => ?_)
  · refine lv_aload_n hx hb d_o_of_16 rfl (lv_at hl 0 rfl) ?_
    refine g_stamps X hP d_o_of_17 ?_
    refine lv_iload_n hx hb d_o_of_20 rfl (lv_at hl 1 rfl) ?_
    refine a_stamps X hP hk d_o_of_21 ?_
    exact hend _ _ _ _ _ _ hP hS d_o_of_22 ⟨rfl, rfl⟩
  · exact absurd htk (by rw [q]; decide)
end
section
/-! 18: OrderLine.of throws -/
set_option maxHeartbeats 4000000 in
set_option maxRecDepth 100000 in
/-- of(x), x no stamp that is there: it throws -/
theorem c_o_ofT (l : Launch) (hfl : l.flags = flags0) (G : OG) (hG : ol_ok G) {L : Nat → Nat} {b n : Nat → Option Nat} {t : Nat → Bool} {F : Nat → Nat} {nf la mn : Nat} {x : Int32} (hx0 : x < 0 ∨ nI 1000 ≤ x ∨ ∃ k, k < 1000 ∧ x = nI k ∧ t k = false) :
    ol_MT l y_o_of b_o_of 2 (some (.object "OrderLine$Stamp")) ({ frames := 6, cells := 1, slots := 6, locals := 81 }) G [.int x] (L, b, n, t, F, nf, la, mn) := by
  have hhas : Met l y_o_has (.code y_o_has b_o_has 2 (some .boolean) :: GW) ({ frames := 0, cells := 0, slots := 0, locals := 0 }) (va_Pc (.ref (ol_h G) :: [.int x]) (ol_U G (L, b, n, t, F, nf, la, mn))) (va_Qi (fun x (q : Bool × OS) => x = ol_z q.1 ∧ (q.1 = false ∧ q.2 = (L, b, n, t, F, nf, la, mn))) (fun q t => ol_P G q.2 t.heap) (fun _ => False)) 0 0 (fun _ => False) := by
    rcases hx0 with h | h | ⟨k, hk, rfl, htk⟩
    · exact c_o_hasNA l G hG (Or.inl h)
    · exact c_o_hasNA l G hG (Or.inr h)
    · have h9 := c_o_hasA l G hG (L := L) (b := b) (n := n) (t := t) (F := F) (nf := nf) (la := la) (mn := mn) hk
      rw [htk] at h9
      exact h9
  refine MetT.ofW (cc := b_o_of) (maxL := 2) (ret := some (.object "OrderLine$Stamp")) (by decide) rfl ?_
  intro p e s m args below meth c s₁ B hml hv
  obtain ⟨rfl, ⟨hK, hN, hP⟩, hTW⟩ := hv
  have hx := B.exec
  have hb := B.bytes
  have hts := atoms_spec (ws := .code y_o_of b_o_of 2 (some (.object "OrderLine$Stamp")) :: GW) B.pre
  have hgw : ∀ w ∈ GW, w.before _ s = true := fun w hw => hts w (List.mem_cons_of_mem _ hw)
  have hown : s.vm.findClass "OrderLine" = some m.cls := findClass_of_methodNamed B.named
  have X : ol_X p s m _ c b_o_of G := ⟨hx, hb, hown, hgw, hK, hN, hG⟩
  have hl := lv_entry (.ref (ol_h G) :: [.int x]) (n := 2) (Nat.le_of_ble_eq_true rfl)
  rw [lg_entry_eq]
  generalize (lg_sl (.ref (ol_h G) :: [.int x]) ++ List.replicate (2 - (lg_sl (.ref (ol_h G) :: [.int x])).length) Slot.unset).toArray = ls at hl ⊢
  have hl : lv_has ls 2 [(0, .ref (ol_h G)), (1, .int x)] := hl
  refine lv_aload_n hx hb d_o_of_0 rfl (lv_at hl 0 rfl) ?_
  refine lv_iload_n hx hb d_o_of_1 rfl (lv_at hl 1 rfl) ?_
  refine va_calli (A0 := fun _ => False) (H0 := s.heap) (va_runV (C := "OrderLine") (As := [.int x]) (rest := []) (n := 1) ⟨hx, hb, hml, hown, hgw⟩ hhas (gw_W hgw ml_o_37 im_o_has se_o_has k_o_has in_o (by decide +kernel) rfl rfl ⟨Nat.le_of_ble_eq_true rfl, Nat.le_of_ble_eq_true rfl⟩) (ol_pre X hP) rfl rfl hl.1 rfl (lv_room (Nat.le_of_ble_eq_true rfl)) d_o_of_2 ⟨Nat.zero_le _, Nat.zero_le _⟩) va_S.rf (fun q _ h => h) (fun q h => h) (fun r u' t1 H1 locs1 ht hvm hpo hB hz hk hS => ?_)
  obtain ⟨hr0, hq1, hq2⟩ := hpo
  have hlocs : locs1 = [] := List.eq_nil_iff_forall_not_mem.mpr (fun q hq => hS.2.2 q hq)
  subst hlocs
  rw [hr0, hq1]
  refine z_ne (tgt := 16) hx hb d_o_of_5 (by decide) (fun q => by cases q) (fun _ => ?_)
  refine W.newc hx hb hown (hgw _ cl_o_41) (hgw _ it_iae) (hgw (.initialized iaeN) (by decide +kernel)) rfl d_o_of_8 (Nat.le_of_ble_eq_true rfl) (Nat.le_of_ble_eq_true rfl) (fun cC kC h1 h2 h3 h4 => ?_)
  refine lv_dup hx hb d_o_of_11 rfl ?_
  intro T hT XS
  have htr : e.platform.stackTraces = false := Launch.traces_off hfl XS.admits
  obtain ⟨U, hsteps, hrun, hend, hW, hsame, ce, hce, K⟩ := XS.ctorThrow0 hx htr (own := "OrderLine") (cls := iaeN) (names := iaeUp) (ic := 43) hown (by decide +kernel) (by decide +kernel) (hTW.use hgw) (fun y hy => by cases hy) h1 h2 (a := H1.size) (by rw [hT]; simp [freshCell]) hS.1
    (g := F0 m 12 ls [.ref H1.size, .ref H1.size]) rfl (hl.1.trans hml.symm) rfl rfl (rest := []) rfl (by rw [hb]; exact d_o_of_12) (by rw [hb]; exact d_o_of_15) (covers_of_empty (B.noHandlers (hts _ List.mem_cons_self)) _) (Nat.le_of_ble_eq_true rfl) (Nat.le_of_ble_eq_true rfl) B.notSynchronized
  have hsz : s.heap.size ≤ U.heap.size := hsame.2.1
  exact ⟨U, hsteps, .threw H1.size, hrun, hend, H1.size, rfl, ⟨hP.kept hG (fun q hq => same_old hsame (hP.lt hG hq)), hsz, fun q h1 _ => same_old hsame h1, ce, hce, K.vm, K.cls, K.self⟩, [], ⟨hW, hsame⟩, fun q hq => by cases hq⟩
end
section
/-! 19: methods of OrderLine that throw what 'of' throws; the whole invariant; plain words for what the calls do to the line -/
theorem ol_P.vm {G : OG} {u : OS} {H : Heap} (h : ol_P G u H) (hG : ol_ok G) {q : Nat} (hq : ol_A G q) {cell : Cell} (hc : H[q]? = some cell) : cell.vm.isStatics = false := by
  obtain ⟨i, hi, rfl⟩ := hq
  obtain ⟨L, b, n, t, F, nf, la, mn⟩ := u
  match i, hi with
  | 0, _ =>
    obtain ⟨r, h1, cl, g1, g2, g3, -⟩ := h 0 _ rfl
    cases g1.symm.trans hc
    rw [g3]; rfl
  | 1, _ =>
    have g1 : H[ol_s G]? = some _ := h 1 _ rfl
    cases g1.symm.trans hc
    rfl
  | 2, _ =>
    have g1 : H[ol_f G]? = some _ := h 2 _ rfl
    cases g1.symm.trans hc
    rfl
  | k + 3, hi =>
    obtain ⟨r, h1, cl, g1, g2, g3, -⟩ := h (k + 3) _ (ol_get hG (by omega))
    cases g1.symm.trans hc
    rw [g3]; rfl
theorem StK.of {G : OG} (hG : ol_ok G) {u : OS} {H0 H : Heap} {locs : List Loc} (hP : ol_P G u H0) (hS : va_S (ol_A G) H0 H locs) : StK H0 H := by
  intro a cell hc hs
  by_cases hA : ol_A G a
  · rw [hP.vm hG hA hc] at hs; cases hs
  · rw [hS.2.1 a (Array.getElem?_eq_some_iff.mp hc).1 hA]; exact hc
section OLT
variable {l : Launch} {y : MethodName} {cc : ByteArray} {maxL : Nat} {rm : Room} {As : List Value} {G : OG} {u : OS}
theorem ol_mT {ret : Option FieldType} (hy : plainName y.cls = true) (hyc : y.cls = "OrderLine") (hG : ol_ok G) (hn : (lg_sl (.ref (ol_h G) :: As)).length ≤ maxL)
    (body : ∀ (p : Program) (e : Env) (R : Room) (s : State) (m : MethodId) (args : Array Value) (below : List Frame) (meth : Method) (c : Code) (ls : Array Slot), R = rm → ol_X p s m args c cc G → c.maxLocals = maxL → ol_P G u s.heap → ol_P G u s.heap → TW s → va_S (ol_A G) s.heap s.heap [] → lv_has ls maxL (lv_args 0 (.ref (ol_h G) :: As)) → meth.locks = false → (∀ pc : Nat, ∀ x ∈ c.exceptionTable.toList, covers x pc = false) →
      W p l e R s m args below meth c s.heap [] 0 0 (MQT below (ol_T G u) args s 1 6 (ol_A G)) (F0 m 0 ls [])) : ol_MT l y cc maxL ret rm G As u := by
  refine MetT.ofW (cc := cc) (maxL := maxL) (ret := ret) hy rfl ?_
  intro p e s m args below meth c s₁ B hml hv
  obtain ⟨rfl, ⟨hK, hN, hP⟩, hTW⟩ := hv
  have hts := atoms_spec (ws := .code y cc maxL ret :: GW) B.pre
  have hown : s.vm.findClass "OrderLine" = some m.cls := by rw [← hyc]; exact findClass_of_methodNamed B.named
  have hl := lv_entry (.ref (ol_h G) :: As) (n := maxL) hn
  rw [lg_entry_eq]
  exact body p e _ s m _ below meth c _ rfl ⟨B.exec, B.bytes, hown, fun w hw => hts w (List.mem_cons_of_mem _ hw), hK, hN, hG⟩ hml hP hP hTW va_S.rf hl B.notSynchronized (fun pc => covers_of_empty (B.noHandlers (hts _ List.mem_cons_self)) pc)
end OLT
section OLTC
variable {p : Program} {l : Launch} {e : Env} {R : Room} {s : State} {m : MethodId} {args : Array Value} {below : List Frame} {meth : Method} {c : Code} {H : Heap} {locs : List Loc}
variable {cc bytes : ByteArray} {pc nL maxL n index : Nat} {ls : Array Slot} {rest st0 : List Value} {G : OG} {u : OS} {y : MethodName} {As : List Value} {rm : Room} {ret : Option FieldType}
theorem ol_preT (X : ol_X p s m args c cc G) (hTW : TW s) (hst : StK s.heap H) (hP : ol_P G u H) : PreV s H "OrderLine" (ol_h G) (va_Pc (.ref (ol_h G) :: As) (ol_UT G u)) As := by
  obtain ⟨h1, h2, h3⟩ := ol_pre (As := As) X hP
  refine ⟨fun a U g mk q => ?_, h2, fun U hU hW => ?_⟩
  · have h9 := h1 a U g mk ⟨q.1, q.2.1⟩
    exact ⟨h9.1, h9.2, fun w hw => by
      have hz := q.2.2 w hw
      simp only [th_bad, List.mem_cons, List.not_mem_nil, or_false] at hw
      rcases hw with rfl | rfl | rfl | rfl | rfl | rfl | rfl | rfl <;> exact hz⟩
  · exact ⟨(h3 U hU hW).1, (h3 U hU hW).2, hTW.move hW (by rw [hU]; exact hst)⟩
theorem ol_cT (X : ol_X p s m args c cc G) (hml : c.maxLocals = nL) (hTW : TW s) (hM : ol_MT l y bytes maxL ret rm G As u) (cw : CallW R s args "OrderLine" "OrderLine" index y bytes maxL ret (.code y bytes maxL ret :: GW) rm 1 6 n) (hP0 : ol_P G u s.heap) (hP : ol_P G u H) (hS : va_S (ol_A G) s.heap H locs) (hsz : ls.size = nL) (hn : As.length = n) (hst : st0 = As.reverse ++ .ref (ol_h G) :: rest) (hro : (rest.map fun v => v.category).sum ≤ 8) (hd : decode cc pc = .ok (.invokevirtual index, 3)) (hlk : meth.locks = false) (hne : ∀ pc : Nat, ∀ x ∈ c.exceptionTable.toList, covers x pc = false) (hf : 0 + 1 ≤ R.cells ∧ 0 + 6 ≤ R.slots) :
    W p l e R s m args below meth c H locs 0 0 (MQT below (ol_T G u) args s 1 6 (ol_A G)) (F0 m pc ls st0) := by
  refine th_out (mc := 1) (ms := 6) (cells := 0) (slots := 0) (th_V (C := "OrderLine") ⟨X.1, X.2.1, hml, X.2.2.1, X.2.2.2.1⟩ hM cw (ol_preT X hTW (StK.of X.2.2.2.2.2.2 hP0 hS) hP) rfl hn hsz hst (lv_room hro) hd hf) hlk (hne pc) hS.2.2 (fun q h => h) ?_
  intro st₀ x t t' h0 ha hq e1 e2
  obtain ⟨q1, q2, q3, ce, q4, q5, q6, q7⟩ := hq
  rw [h0] at q2 q3
  refine ⟨by rw [e1]; exact q1, by rw [e1]; exact Nat.le_trans hS.1 q2, fun q h1 h2 => ?_, ce, by rw [e1]; exact q4, q5, by rw [← ha.findClass]; exact q6, by rw [← ha.assignable]; exact q7⟩
  rw [e1, q3 q (Nat.lt_of_lt_of_le h1 hS.1) h2]
  exact hS.2.1 q h1 h2
end OLTC
/-- the whole invariant: the chain, the heap, their numbers -/
def Ov (u : OS) (Z : List Nat) : Prop := match u with
  | (L, b, n, t, F, nf, la, mn) => Ln L b n t la mn Z ∧ Hp F nf (fun x => ∀ i : Nat, Z[i]? ≠ some x) ∧ nf + Z.length = 1000
/-- no stamp of that number is there -/
def bd (Z : List Nat) (x : Int32) : Prop := ∀ i k : Nat, Z[i]? = some k → x ≠ nI k
theorem bd_of {L : Nat → Nat} {b n : Nat → Option Nat} {t : Nat → Bool} {la mn : Nat} {Z : List Nat} (h : Ln L b n t la mn Z) {x : Int32} (hx : bd Z x) : x < 0 ∨ nI 1000 ≤ x ∨ ∃ k, k < 1000 ∧ x = nI k ∧ t k = false := by
  rcases pk_ix x (n := 1000) (by decide) with h1 | h1 | ⟨k, hk, rfl⟩
  · exact Or.inl h1
  · exact Or.inr (Or.inl h1)
  · refine Or.inr (Or.inr ⟨k, hk, rfl, ?_⟩)
    cases ht : t k with
    | false => rfl
    | true =>
      obtain ⟨i, hi⟩ := (h.2.2.2.2.2.2.2.2.1 k hk).mp ht
      exact absurd rfl (hx i k hi)
theorem bd_or (Z : List Nat) (x : Int32) : bd Z x ∨ ∃ i k : Nat, Z[i]? = some k ∧ x = nI k := by
  by_cases h : bd Z x
  · exact Or.inl h
  · refine Or.inr ?_
    simp only [bd] at h
    apply Classical.byContradiction
    intro hn
    exact h (fun i k hk e => hn ⟨i, k, hk, e⟩)
/-- m is the least free number -/
def fr (Z : List Nat) (m : Nat) : Prop := m < 1000 ∧ (∀ i : Nat, Z[i]? ≠ some m) ∧ ∀ k, k < m → ∃ i : Nat, Z[i]? = some k
def full (Z : List Nat) : Prop := ∀ k, k < 1000 → ∃ i : Nat, Z[i]? = some k
theorem fr_of {F : Nat → Nat} {nf : Nat} {Z : List Nat} (h : Hp F nf (fun x => ∀ i : Nat, Z[i]? ≠ some x)) (h0 : 0 < nf) : fr Z (F 0) := by
  refine ⟨(h.1.1 0 h0).1, (h.1.1 0 h0).2, fun k hk => ?_⟩
  apply Classical.byContradiction
  intro hn
  have := h.min (x := k) (by have := (h.1.1 0 h0).1; omega) (fun i hi => hn ⟨i, hi⟩)
  omega
theorem full_of {F : Nat → Nat} {Z : List Nat} (h : Hp F 0 (fun x => ∀ i : Nat, Z[i]? ≠ some x)) : full Z := by
  intro k hk
  apply Classical.byContradiction
  intro hn
  obtain ⟨i, hi, -⟩ := h.1.2.1 k hk (fun i hi => hn ⟨i, hi⟩)
  omega
theorem fr_uniq {Z : List Nat} {m m' : Nat} (h : fr Z m) (h' : fr Z m') : m = m' := by
  rcases Nat.lt_trichotomy m m' with a | a | a
  · obtain ⟨i, hi⟩ := h'.2.2 m a
    exact absurd hi (h.2.1 i)
  · exact a
  · obtain ⟨i, hi⟩ := h.2.2 m' a
    exact absurd hi (h'.2.1 i)
/-- k least free numbers are put in from the place q on -/
def sev : Nat → List Nat → Nat → List Nat → Prop
  | 0, Z, _, Z' => Z' = Z
  | k + 1, Z, q, Z' => ∃ (Y : List Nat) (m : Nat), sev k Z q Y ∧ fr Y m ∧ Z' = Y.insertIdx (q + k) m
theorem sev_uniq : ∀ (k : Nat) {Z Y Y' : List Nat} {q : Nat}, sev k Z q Y → sev k Z q Y' → Y = Y'
  | 0, _, _, _, _, h, h' => by rw [show _ = _ from h, show _ = _ from h']
  | k + 1, _, _, _, _, ⟨Y1, m1, a1, b1, c1⟩, ⟨Y2, m2, a2, b2, c2⟩ => by
    have e := sev_uniq k a1 a2
    subst e
    rw [c1, c2, fr_uniq b1 b2]
theorem sev_down : ∀ (j k : Nat) {Z Y : List Nat} {q : Nat}, sev (k + j) Z q Y → ∃ Y', sev k Z q Y'
  | 0, _, _, Y, _, h => ⟨Y, h⟩
  | j + 1, k, _, _, _, h => by
    obtain ⟨Y, m, a, -, -⟩ := h
    exact sev_down j k a
theorem era_app (A : List Nat) (x : Nat) (B : List Nat) : (A ++ x :: B).eraseIdx A.length = A ++ B := by
  rw [List.eraseIdx_append_of_length_le (Nat.le_refl _), Nat.sub_self]; rfl
theorem ins_app : ∀ (A : List Nat) (x : Nat) (B : List Nat), (A ++ B).insertIdx A.length x = A ++ x :: B
  | [], x, B => by simp
  | a :: A, x, B => by
    show (a :: (A ++ B)).insertIdx (A.length + 1) x = _
    rw [List.insertIdx_succ_cons, ins_app A x B]; rfl
theorem app_at (A : List Nat) (x : Nat) (B : List Nat) : (A ++ x :: B)[A.length]? = some x := by simp
theorem app_nx (A : List Nat) (x : Nat) (B : List Nat) : (A ++ x :: B)[A.length + 1]? = B[0]? := by
  rw [List.getElem?_append_right (by omega), show A.length + 1 - A.length = 1 by omega]
  cases B <;> rfl
/-- the greatest of k numbers from the place i on -/
def gm (Z : List Nat) (i : Nat) : Nat → Nat
  | 0 => 0
  | k + 1 => Nat.max (gm Z i k) (Z.getD (i + k) 0)
end
section
/-! 20: plain laws: the invariant behind a call -/
theorem ins_free {Z : List Nat} {q m : Nat} (hq : q ≤ Z.length) (x : Nat) : ((∀ i : Nat, Z[i]? ≠ some x) ∧ x ≠ m) ↔ ∀ i : Nat, (Z.insertIdx q m)[i]? ≠ some x := by
  constructor
  · rintro ⟨h1, h2⟩ i hi
    rw [ins_get hq] at hi
    split at hi
    · exact h1 _ hi
    · split at hi
      · exact h2 (Option.some.inj hi).symm
      · exact h1 _ hi
  · intro h
    refine ⟨fun i hi => ?_, fun e => ?_⟩
    · by_cases c : i < q
      · exact h i (by rw [ins_get hq, if_pos c]; exact hi)
      · exact h (i + 1) (by rw [ins_get hq, if_neg (by omega), if_neg (by omega)]; exact hi)
    · exact h q (by rw [ins_get hq, if_neg (by omega), if_pos rfl, e])
theorem era_free {Z : List Nat} (hn : nd Z) {q y : Nat} (hy : Z[q]? = some y) (x : Nat) : ((∀ i : Nat, Z[i]? ≠ some x) ∨ x = y) ↔ ∀ i : Nat, (Z.eraseIdx q)[i]? ≠ some x := by
  constructor
  · intro h i hi
    rw [era_get] at hi
    rcases h with h | h
    · split at hi <;> exact h _ hi
    · subst h
      split at hi
      · have := hn _ _ _ hi hy; omega
      · have := hn _ _ _ hi hy; omega
  · intro h
    by_cases c : x = y
    · exact Or.inr c
    · refine Or.inl (fun i hi => ?_)
      by_cases c1 : i < q
      · exact h i (by rw [era_get, if_pos c1]; exact hi)
      · have c2 : i ≠ q := fun e => c (by rw [e] at hi; exact Option.some.inj (hi.symm.trans hy))
        exact h (i - 1) (by rw [era_get, if_neg (by omega), show i - 1 + 1 = i by omega]; exact hi)
theorem Ov.ins {L : Nat → Nat} {b n : Nat → Option Nat} {t : Nat → Bool} {F : Nat → Nat} {nq la mn q m : Nat} {Z : List Nat} (h : Ln L b n t la mn (Z.insertIdx q m)) (hq : q ≤ Z.length) (hH : Hp F nq (fun x => (∀ i : Nat, Z[i]? ≠ some x) ∧ x ≠ m)) (hl : nq + 1 + Z.length = 1000) : Ov (L, b, n, t, F, nq, la, mn) (Z.insertIdx q m) :=
  ⟨h, hH.congr (fun x _ => ins_free hq x), by rw [List.length_insertIdx_of_le_length hq]; omega⟩
theorem Ov.del {L : Nat → Nat} {b n : Nat → Option Nat} {t : Nat → Bool} {F : Nat → Nat} {nf la mn q y : Nat} {Z : List Nat} (h : Ln L b n t la mn (Z.eraseIdx q)) (hn : nd Z) (hy : Z[q]? = some y) (hH : Hp F (nf + 1) (fun x => (∀ i : Nat, Z[i]? ≠ some x) ∨ x = y)) (hl : nf + Z.length = 1000) : Ov (L, b, n, t, F, nf + 1, la, mn) (Z.eraseIdx q) :=
  ⟨h, hH.congr (fun x _ => era_free hn hy x), by
    have := gt_lt hy
    rw [List.length_eraseIdx_of_lt this]; omega⟩
theorem nI_rng {v : Int32} {a b : Nat} (ha : a < 2 ^ 31) (hb : b < 2 ^ 31) (h1 : ¬ v < nI a) (h2 : ¬ nI b < v) : ∃ k, a ≤ k ∧ k ≤ b ∧ v = nI k := by
  rw [Int32.lt_iff_toInt_lt, nI_toInt ha] at h1
  rw [Int32.lt_iff_toInt_lt, nI_toInt hb] at h2
  refine ⟨v.toInt.toNat, by omega, by omega, Int32.toInt_inj.mp ?_⟩
  rw [nI_toInt (by omega)]
  omega
/-- how many may be put in at once -/
def sk (Z : List Nat) (v : Int32) (k : Nat) : Prop := v = nI k ∧ 2 ≤ k ∧ k ≤ 64 ∧ Z.length + k ≤ 1000
theorem gm_s (Z : List Nat) (i k : Nat) : gm Z i (k + 1) = Nat.max (gm Z i k) (Z.getD (i + k) 0) := rfl
theorem gd_of {Z : List Nat} {i x : Nat} (h : Z[i]? = some x) : Z.getD i 0 = x := by
  rw [List.getD_eq_getElem?_getD, h]; rfl
theorem gm_lt {Z : List Nat} (h : ∀ i x : Nat, Z[i]? = some x → x < 1000) (i : Nat) : ∀ k, gm Z i k < 1000
  | 0 => by show 0 < 1000; decide
  | k + 1 => by
    have h1 := gm_lt h i k
    have h2 : Z.getD (i + k) 0 < 1000 := by
      rw [List.getD_eq_getElem?_getD]
      cases hz : Z[i + k]? with
      | none => show 0 < 1000; decide
      | some x => exact h _ x hz
    rw [gm_s]
    exact Nat.max_lt.mpr ⟨h1, h2⟩
theorem mx_nI {a b : Nat} (ha : a < 2 ^ 31) (hb : b < 2 ^ 31) : (if nI a < nI b then nI b else nI a) = nI (Nat.max a b) := by
  by_cases h : a < b
  · rw [if_pos (nI_lt h hb), show Nat.max a b = b from Nat.max_eq_right (Nat.le_of_lt h)]
  · rw [if_neg (nI_nlt (by omega) ha), show Nat.max a b = a from Nat.max_eq_left (by omega)]
theorem one_of {Z : List Nat} (h0 : Z[0]? = some 0) (hl : Z.length = 1) : Z = [0] := by
  match Z, h0, hl with
  | [a], h0, _ => cases h0; rfl
end
section
/-! 21: OrderLine's calls: behind, remove, has, compare, next, place, at, look, wipe, and all that throw (by program: gen/o5.py) -/
set_option maxHeartbeats 4000000 in
set_option maxRecDepth 100000 in
/-- behind(x) -/
theorem c_o_behind (l : Launch) (G : OG) (hG : ol_ok G) {L : Nat → Nat} {b n : Nat → Option Nat} {t : Nat → Bool} {F : Nat → Nat} {nf la mn : Nat} {Z : List Nat} {pp x : Nat} (hO : Ov (L, b, n, t, F, nf, la, mn) Z) (hx0 : Z[pp]? = some x) : ol_M l y_o_behind b_o_behind 4 (some .int) ({ frames := 2, cells := 0, slots := 0, locals := 59 }) G [.int (nI x)] (L, b, n, t, F, nf, la, mn) (ol_Qi G (fun r u => (full Z ∧ r = -1 ∧ Ov u Z) ∨ ∃ m, fr Z m ∧ r = nI m ∧ Ov u (Z.insertIdx (pp + 1) m))) := by
  refine ol_mi (by decide) rfl hG (Nat.le_of_ble_eq_true rfl) (fun p e R s m args below meth c Q ls hR X hml hP hS hl hend => ?_)
  have hx := X.1
  have hb := X.2.1
  have hl : lv_has ls 4 [(0, .ref (ol_h G)), (1, .int (nI x))] := hl
  obtain ⟨h, hH, hlen⟩ := hO
  have hb3 : ∀ {i z : Nat}, Z[i]? = some z → z < 1000 := fun {i z} hz => h.2.2.1 i z hz
  refine lv_aload_n hx hb d_o_behind_0 rfl (lv_at hl 0 rfl) ?_
  refine lv_iload_n hx hb d_o_behind_1 rfl (lv_at hl 1 rfl) ?_
  refine ol_cr (n := 1) (As := [.int (nI x)]) (rest := []) X hml (c_o_of l G hG (hb3 hx0) ((h.2.2.2.2.2.2.2.2.1 _ (hb3 hx0)).mpr ⟨_, hx0⟩)) (gw_W X.2.2.2.1 ml_o_66 im_o_of se_o_of k_o_of in_o (by decide +kernel) rfl rfl (by rw [hR]; exact ⟨Nat.le_of_ble_eq_true rfl, Nat.le_of_ble_eq_true rfl⟩)) hP hS hl.1 rfl rfl (Nat.le_of_ble_eq_true rfl) d_o_behind_2 (fun r u' H locs hq hP hS => ?_)
  obtain ⟨hr0, hu0⟩ := hq
  rw [hr0]
  rw [hu0] at hP
  refine lv_astore_n (lv' := [(2, .ref (ol_a G x)), (0, .ref (ol_h G)), (1, .int (nI x))]) hx hb d_o_behind_5 rfl hl (by decide) rfl (fun ls hl => ?_)
  refine lv_aload_n hx hb d_o_behind_6 rfl (lv_at hl 1 rfl) ?_
  refine g_frees X hP d_o_behind_7 ?_
  refine nz_ne (tgt := 15) hx hb (by omega) d_o_behind_10 (by decide) (fun q => ?_) (fun q => ?_)
  · obtain ⟨nq, rfl⟩ : ∃ nq, nf = nq + 1 := ⟨nf - 1, by omega⟩
    have hfr := fr_of hH (by omega)
    refine lv_aload_n hx hb d_o_behind_15 rfl (lv_at hl 1 rfl) ?_
    refine g_stamps X hP d_o_behind_16 ?_
    refine lv_aload_n hx hb d_o_behind_19 rfl (lv_at hl 1 rfl) ?_
    refine ol_ci (n := 0) (As := []) (rest := [.ref (ol_s G)]) X hml (c_o_takeNumber l G hG hH (by omega)) (gw_W X.2.2.2.1 ml_o_70 im_o_takeNumber se_o_takeNumber k_o_takeNumber in_o (by decide +kernel) rfl rfl (by rw [hR]; exact ⟨Nat.le_of_ble_eq_true rfl, Nat.le_of_ble_eq_true rfl⟩)) hP hS hl.1 rfl rfl (Nat.le_of_ble_eq_true rfl) d_o_behind_20 (fun r u' H locs hq hP hS => ?_)
    obtain ⟨F', hr1, hu1, hH2⟩ := hq
    rw [hr1]
    rw [hu1] at hP
    refine a_stamps X hP hfr.1 d_o_behind_23 ?_
    refine lv_astore_n (lv' := [(3, .ref (ol_a G (F 0))), (2, .ref (ol_a G x)), (0, .ref (ol_h G)), (1, .int (nI x))]) hx hb d_o_behind_24 rfl hl (by decide) rfl (fun ls hl => ?_)
    refine lv_aload_n hx hb d_o_behind_25 rfl (lv_at hl 2 rfl) ?_
    refine lv_aload_n hx hb d_o_behind_26 rfl (lv_at hl 0 rfl) ?_
    refine lv_aload_n hx hb d_o_behind_27 rfl (lv_at hl 1 rfl) ?_
    refine ol_cv (n := 2) (As := [.ref (ol_a G (F 0)), .ref (ol_a G x)]) (rest := []) X hml (c_o_link l G hG h (by omega) hx0 hfr.1 hfr.2.1) (gw_W X.2.2.2.1 ml_o_74 im_o_link se_o_link k_o_link in_o (by decide +kernel) rfl rfl (by rw [hR]; exact ⟨Nat.le_of_ble_eq_true rfl, Nat.le_of_ble_eq_true rfl⟩)) hP hS hl.1 rfl rfl (Nat.le_of_ble_eq_true rfl) d_o_behind_28 (fun u' H locs hq hP hS => ?_)
    obtain ⟨L', b', n', t', la', hu2, h2⟩ := hq
    rw [hu2] at hP
    refine lv_aload_n hx hb d_o_behind_31 rfl (lv_at hl 0 rfl) ?_
    refine g_number X hP hfr.1 d_o_behind_32 ?_
    exact hend _ _ _ _ _ _ hP hS d_o_behind_35 (Or.inr ⟨F 0, hfr, rfl, Ov.ins h2 (gt_lt hx0) hH2 hlen⟩)
  · refine lv_iconst (v := (-1)) hx hb d_o_behind_13 (by decide) ?_
    exact hend _ _ _ _ _ _ hP hS d_o_behind_14 (Or.inl ⟨by rw [q] at hH; exact full_of hH, rfl, h, hH, hlen⟩)
set_option maxHeartbeats 4000000 in
set_option maxRecDepth 100000 in
/-- behind(x) throws -/
theorem c_o_behindT (l : Launch) (hfl : l.flags = flags0) (G : OG) (hG : ol_ok G) {L : Nat → Nat} {b n : Nat → Option Nat} {t : Nat → Bool} {F : Nat → Nat} {nf la mn : Nat} {Z : List Nat} {x : Int32} (hO : Ov (L, b, n, t, F, nf, la, mn) Z) (hbd : bd Z x) : ol_MT l y_o_behind b_o_behind 4 (some .int) ({ frames := 7, cells := 1, slots := 6, locals := 102 }) G [.int x] (L, b, n, t, F, nf, la, mn) := by
  refine ol_mT (by decide) rfl hG (Nat.le_of_ble_eq_true rfl) (fun p e R s m args below meth c ls hR X hml hP0 hP hTW hS hl hlk hne => ?_)
  have hx := X.1
  have hb := X.2.1
  have hl : lv_has ls 4 [(0, .ref (ol_h G)), (1, .int x)] := hl
  obtain ⟨h, hH, hlen⟩ := hO
  have hb3 : ∀ {i z : Nat}, Z[i]? = some z → z < 1000 := fun {i z} hz => h.2.2.1 i z hz
  refine lv_aload_n hx hb d_o_behind_0 rfl (lv_at hl 0 rfl) ?_
  refine lv_iload_n hx hb d_o_behind_1 rfl (lv_at hl 1 rfl) ?_
  exact ol_cT (n := 1) (As := [.int x]) (rest := []) X hml hTW (c_o_ofT l hfl G hG (bd_of h hbd)) (gw_W X.2.2.2.1 ml_o_66 im_o_of se_o_of k_o_of in_o (by decide +kernel) rfl rfl (by rw [hR]; exact ⟨Nat.le_of_ble_eq_true rfl, Nat.le_of_ble_eq_true rfl⟩)) hP0 hP hS hl.1 rfl rfl (Nat.le_of_ble_eq_true rfl) d_o_behind_2 hlk hne (by rw [hR]; exact ⟨Nat.le_of_ble_eq_true rfl, Nat.le_of_ble_eq_true rfl⟩)
set_option maxHeartbeats 4000000 in
set_option maxRecDepth 100000 in
/-- remove(x), a stamp behind the first -/
theorem c_o_remove (l : Launch) (G : OG) (hG : ol_ok G) {L : Nat → Nat} {b n : Nat → Option Nat} {t : Nat → Bool} {F : Nat → Nat} {nf la mn : Nat} {Z : List Nat} {pp x : Nat} (hO : Ov (L, b, n, t, F, nf, la, mn) Z) (hx0 : Z[pp + 1]? = some x) : ol_M l y_o_remove b_o_remove 2 (some .boolean) ({ frames := 1, cells := 0, slots := 0, locals := 22 }) G [.int (nI x)] (L, b, n, t, F, nf, la, mn) (ol_Qz G (fun r u => r = true ∧ Ov u (Z.eraseIdx (pp + 1)))) := by
  refine ol_mz (by decide) rfl hG (Nat.le_of_ble_eq_true rfl) (fun p e R s m args below meth c Q ls hR X hml hP hS hl hend => ?_)
  have hx := X.1
  have hb := X.2.1
  have hl : lv_has ls 2 [(0, .ref (ol_h G)), (1, .int (nI x))] := hl
  obtain ⟨h, hH, hlen⟩ := hO
  have hb3 : ∀ {i z : Nat}, Z[i]? = some z → z < 1000 := fun {i z} hz => h.2.2.1 i z hz
  obtain ⟨w0, hw0⟩ := gt_ex (Z := Z) (i := pp) (by have := gt_lt hx0; omega)
  have hxp : x ≠ 0 := fun e => by have := h.ndc _ _ _ hx0 (by rw [e]; exact h.1); omega
  have hxb : x < 1000 := hb3 hx0
  refine lv_aload_n hx hb d_o_remove_0 rfl (lv_at hl 0 rfl) ?_
  refine lv_iload_n hx hb d_o_remove_1 rfl (lv_at hl 1 rfl) ?_
  refine ol_cz (n := 1) (As := [.int (nI x)]) (rest := []) X hml (c_o_has l G hG (hb3 hx0)) (gw_W X.2.2.2.1 ml_o_37 im_o_has se_o_has k_o_has in_o (by decide +kernel) rfl rfl (by rw [hR]; exact ⟨Nat.le_of_ble_eq_true rfl, Nat.le_of_ble_eq_true rfl⟩)) hP hS hl.1 rfl rfl (Nat.le_of_ble_eq_true rfl) d_o_remove_2 (fun r u' H locs hq hP hS => ?_)
  obtain ⟨hr0, hu0⟩ := hq
  rw [hr0]
  rw [hu0] at hP
  refine z_eq (tgt := 12) hx hb d_o_remove_5 (by decide) (fun q => ?_) (fun q => ?_)
  · exact absurd ((h.2.2.2.2.2.2.2.2.1 _ (hb3 hx0)).mpr ⟨_, hx0⟩) (by rw [q]; decide)
  · refine lv_iload_n hx hb d_o_remove_8 rfl (lv_at hl 1 rfl) ?_
    refine nz_ne (tgt := 14) hx hb (by omega) d_o_remove_9 (by decide) (fun q2 => ?_) (fun q2 => ?_)
    · refine lv_aload_n hx hb d_o_remove_14 rfl (lv_at hl 0 rfl) ?_
      refine lv_aload_n hx hb d_o_remove_15 rfl (lv_at hl 0 rfl) ?_
      refine g_stamps X hP d_o_remove_16 ?_
      refine lv_iload_n hx hb d_o_remove_19 rfl (lv_at hl 1 rfl) ?_
      refine a_stamps X hP (hb3 hx0) d_o_remove_20 ?_
      refine ol_cv (n := 1) (As := [.ref (ol_a G x)]) (rest := []) X hml (c_o_unlink l G hG h hx0 hw0) (gw_W X.2.2.2.1 ml_o_81 im_o_unlink se_o_unlink k_o_unlink in_o (by decide +kernel) rfl rfl (by rw [hR]; exact ⟨Nat.le_of_ble_eq_true rfl, Nat.le_of_ble_eq_true rfl⟩)) hP hS hl.1 rfl rfl (Nat.le_of_ble_eq_true rfl) d_o_remove_21 (fun u' H locs hq hP hS => ?_)
      obtain ⟨b', n', t', la', hu2, h2⟩ := hq
      rw [hu2] at hP
      refine lv_aload_n hx hb d_o_remove_24 rfl (lv_at hl 0 rfl) ?_
      refine lv_iload_n hx hb d_o_remove_25 rfl (lv_at hl 1 rfl) ?_
      refine ol_cv (n := 1) (As := [.int (nI x)]) (rest := []) X hml (c_o_giveNumber l G hG hH (by have := gt_lt hx0; omega) (hb3 hx0) (fun hq => hq _ hx0)) (gw_W X.2.2.2.1 ml_o_84 im_o_giveNumber se_o_giveNumber k_o_giveNumber in_o (by decide +kernel) rfl rfl (by rw [hR]; exact ⟨Nat.le_of_ble_eq_true rfl, Nat.le_of_ble_eq_true rfl⟩)) hP hS hl.1 rfl rfl (Nat.le_of_ble_eq_true rfl) d_o_remove_26 (fun u' H locs hq hP hS => ?_)
      obtain ⟨F', hu3, hH2⟩ := hq
      rw [hu3] at hP
      refine lv_iconst (v := (nI 1)) hx hb d_o_remove_29 (by decide) ?_
      exact hend true _ _ _ _ _ _ (by decide) hP hS d_o_remove_30 ⟨rfl, Ov.del h2 h.ndc hx0 hH2 hlen⟩
    · exact absurd q2 hxp
set_option maxHeartbeats 4000000 in
set_option maxRecDepth 100000 in
/-- remove(0) -/
theorem c_o_remove0 (l : Launch) (G : OG) (hG : ol_ok G) {L : Nat → Nat} {b n : Nat → Option Nat} {t : Nat → Bool} {F : Nat → Nat} {nf la mn : Nat} {Z : List Nat} (hO : Ov (L, b, n, t, F, nf, la, mn) Z) : ol_M l y_o_remove b_o_remove 2 (some .boolean) ({ frames := 1, cells := 0, slots := 0, locals := 22 }) G [.int (nI 0)] (L, b, n, t, F, nf, la, mn) (ol_Qz G (fun r u => r = false ∧ Ov u Z)) := by
  refine ol_mz (by decide) rfl hG (Nat.le_of_ble_eq_true rfl) (fun p e R s m args below meth c Q ls hR X hml hP hS hl hend => ?_)
  have hx := X.1
  have hb := X.2.1
  have hl : lv_has ls 2 [(0, .ref (ol_h G)), (1, .int (nI 0))] := hl
  obtain ⟨h, hH, hlen⟩ := hO
  have hb3 : ∀ {i z : Nat}, Z[i]? = some z → z < 1000 := fun {i z} hz => h.2.2.1 i z hz
  refine lv_aload_n hx hb d_o_remove_0 rfl (lv_at hl 0 rfl) ?_
  refine lv_iload_n hx hb d_o_remove_1 rfl (lv_at hl 1 rfl) ?_
  refine ol_cz (n := 1) (As := [.int (nI 0)]) (rest := []) X hml (c_o_has l G hG (k := 0) (by decide)) (gw_W X.2.2.2.1 ml_o_37 im_o_has se_o_has k_o_has in_o (by decide +kernel) rfl rfl (by rw [hR]; exact ⟨Nat.le_of_ble_eq_true rfl, Nat.le_of_ble_eq_true rfl⟩)) hP hS hl.1 rfl rfl (Nat.le_of_ble_eq_true rfl) d_o_remove_2 (fun r u' H locs hq hP hS => ?_)
  obtain ⟨hr0, hu0⟩ := hq
  rw [hr0]
  rw [hu0] at hP
  refine z_eq (tgt := 12) hx hb d_o_remove_5 (by decide) (fun q => ?_) (fun q => ?_)
  · refine lv_iconst (v := (nI 0)) hx hb d_o_remove_12 (by decide) ?_
    exact hend false _ _ _ _ _ _ (by decide) hP hS d_o_remove_13 ⟨rfl, h, hH, hlen⟩
  · refine lv_iload_n hx hb d_o_remove_8 rfl (lv_at hl 1 rfl) ?_
    refine nz_ne (tgt := 14) hx hb (by omega) d_o_remove_9 (by decide) (fun q2 => ?_) (fun q2 => ?_)
    · exact absurd rfl q2
    · refine lv_iconst (v := (nI 0)) hx hb d_o_remove_12 (by decide) ?_
      exact hend false _ _ _ _ _ _ (by decide) hP hS d_o_remove_13 ⟨rfl, h, hH, hlen⟩
set_option maxHeartbeats 4000000 in
set_option maxRecDepth 100000 in
/-- remove(x), no stamp -/
theorem c_o_removeN (l : Launch) (G : OG) (hG : ol_ok G) {L : Nat → Nat} {b n : Nat → Option Nat} {t : Nat → Bool} {F : Nat → Nat} {nf la mn : Nat} {Z : List Nat} {x : Int32} (hO : Ov (L, b, n, t, F, nf, la, mn) Z) (hbd : bd Z x) : ol_M l y_o_remove b_o_remove 2 (some .boolean) ({ frames := 1, cells := 0, slots := 0, locals := 22 }) G [.int x] (L, b, n, t, F, nf, la, mn) (ol_Qz G (fun r u => r = false ∧ Ov u Z)) := by
  refine ol_mz (by decide) rfl hG (Nat.le_of_ble_eq_true rfl) (fun p e R s m args below meth c Q ls hR X hml hP hS hl hend => ?_)
  have hx := X.1
  have hb := X.2.1
  have hl : lv_has ls 2 [(0, .ref (ol_h G)), (1, .int x)] := hl
  obtain ⟨h, hH, hlen⟩ := hO
  have hb3 : ∀ {i z : Nat}, Z[i]? = some z → z < 1000 := fun {i z} hz => h.2.2.1 i z hz
  have hc : ol_M l y_o_has b_o_has 2 (some .boolean) ({ frames := 0, cells := 0, slots := 0, locals := 0 }) G [.int x] (L, b, n, t, F, nf, la, mn) (ol_Qz G (fun r u => r = false ∧ u = (L, b, n, t, F, nf, la, mn))) := by
    rcases bd_of h hbd with h1 | h1 | ⟨k, hk, rfl, htk⟩
    · exact c_o_hasN l G hG (Or.inl h1)
    · exact c_o_hasN l G hG (Or.inr h1)
    · have h9 := c_o_has l G hG (L := L) (b := b) (n := n) (t := t) (F := F) (nf := nf) (la := la) (mn := mn) hk
      rw [htk] at h9
      exact h9
  refine lv_aload_n hx hb d_o_remove_0 rfl (lv_at hl 0 rfl) ?_
  refine lv_iload_n hx hb d_o_remove_1 rfl (lv_at hl 1 rfl) ?_
  refine ol_cz (n := 1) (As := [.int x]) (rest := []) X hml (hc) (gw_W X.2.2.2.1 ml_o_37 im_o_has se_o_has k_o_has in_o (by decide +kernel) rfl rfl (by rw [hR]; exact ⟨Nat.le_of_ble_eq_true rfl, Nat.le_of_ble_eq_true rfl⟩)) hP hS hl.1 rfl rfl (Nat.le_of_ble_eq_true rfl) d_o_remove_2 (fun r u' H locs hq hP hS => ?_)
  obtain ⟨hr0, hu0⟩ := hq
  rw [hr0]
  rw [hu0] at hP
  refine z_eq (tgt := 12) hx hb d_o_remove_5 (by decide) (fun q => ?_) (fun q => ?_)
  · refine lv_iconst (v := (nI 0)) hx hb d_o_remove_12 (by decide) ?_
    exact hend false _ _ _ _ _ _ (by decide) hP hS d_o_remove_13 ⟨rfl, h, hH, hlen⟩
  · cases q
set_option maxHeartbeats 4000000 in
set_option maxRecDepth 100000 in
/-- has(x) -/
theorem c_o_hasP (l : Launch) (G : OG) (hG : ol_ok G) {L : Nat → Nat} {b n : Nat → Option Nat} {t : Nat → Bool} {F : Nat → Nat} {nf la mn : Nat} {Z : List Nat} {pp x : Nat} (hO : Ov (L, b, n, t, F, nf, la, mn) Z) (hx0 : Z[pp]? = some x) : ol_M l y_o_has b_o_has 2 (some .boolean) ({ frames := 0, cells := 0, slots := 0, locals := 0 }) G [.int (nI x)] (L, b, n, t, F, nf, la, mn) (ol_Qz G (fun r u => r = true ∧ Ov u Z)) := by
  obtain ⟨h, hH, hlen⟩ := hO
  have h9 := c_o_has l G hG (L := L) (b := b) (n := n) (t := t) (F := F) (nf := nf) (la := la) (mn := mn) (h.2.2.1 _ _ hx0)
  rw [(h.2.2.2.2.2.2.2.2.1 _ (h.2.2.1 _ _ hx0)).mpr ⟨_, hx0⟩] at h9
  exact MetFree.mono h9 (fun _ _ q => q) (fun _ _ _ _ _ q => q) (fun a st o t _ q => ⟨⟨by
    obtain ⟨r, u, h1, h2, h3⟩ := q.1.1
    exact ⟨r, u, h1, ⟨h2.1, h2.2.1, by rw [h2.2.2]; exact ⟨h, hH, hlen⟩⟩, h3⟩, q.1.2⟩, q.2⟩)
set_option maxHeartbeats 4000000 in
set_option maxRecDepth 100000 in
/-- has(x), no stamp -/
theorem c_o_hasQ (l : Launch) (G : OG) (hG : ol_ok G) {L : Nat → Nat} {b n : Nat → Option Nat} {t : Nat → Bool} {F : Nat → Nat} {nf la mn : Nat} {Z : List Nat} {x : Int32} (hO : Ov (L, b, n, t, F, nf, la, mn) Z) (hbd : bd Z x) : ol_M l y_o_has b_o_has 2 (some .boolean) ({ frames := 0, cells := 0, slots := 0, locals := 0 }) G [.int x] (L, b, n, t, F, nf, la, mn) (ol_Qz G (fun r u => r = false ∧ Ov u Z)) := by
  obtain ⟨h, hH, hlen⟩ := hO
  have h9 : ol_M l y_o_has b_o_has 2 (some .boolean) ({ frames := 0, cells := 0, slots := 0, locals := 0 }) G [.int x] (L, b, n, t, F, nf, la, mn) (ol_Qz G (fun r u => r = false ∧ u = (L, b, n, t, F, nf, la, mn))) := by
    rcases bd_of h hbd with h1 | h1 | ⟨k, hk, rfl, htk⟩
    · exact c_o_hasN l G hG (Or.inl h1)
    · exact c_o_hasN l G hG (Or.inr h1)
    · have h9 := c_o_has l G hG (L := L) (b := b) (n := n) (t := t) (F := F) (nf := nf) (la := la) (mn := mn) hk
      rw [htk] at h9
      exact h9
  exact MetFree.mono h9 (fun _ _ q => q) (fun _ _ _ _ _ q => q) (fun a st o t _ q => ⟨⟨by
    obtain ⟨r, u, h1, h2, h3⟩ := q.1.1
    exact ⟨r, u, h1, ⟨h2.1, h2.2.1, by rw [h2.2.2]; exact ⟨h, hH, hlen⟩⟩, h3⟩, q.1.2⟩, q.2⟩)
set_option maxHeartbeats 4000000 in
set_option maxRecDepth 100000 in
/-- compare(a, b) -/
theorem c_o_compare (l : Launch) (G : OG) (hG : ol_ok G) {L : Nat → Nat} {b n : Nat → Option Nat} {t : Nat → Bool} {F : Nat → Nat} {nf la mn : Nat} {Z : List Nat} {pa pb xa xb : Nat} (hO : Ov (L, b, n, t, F, nf, la, mn) Z) (ha : Z[pa]? = some xa) (hb0 : Z[pb]? = some xb) : ol_M l y_o_compare b_o_compare 5 (some .int) ({ frames := 2, cells := 0, slots := 0, locals := 42 }) G [.int (nI xa), .int (nI xb)] (L, b, n, t, F, nf, la, mn) (ol_Qi G (fun r u => r = (if pa < pb then -1 else if pb < pa then nI 1 else nI 0) ∧ Ov u Z)) := by
  refine ol_mi (by decide) rfl hG (Nat.le_of_ble_eq_true rfl) (fun p e R s m args below meth c Q ls hR X hml hP hS hl hend => ?_)
  have hx := X.1
  have hb := X.2.1
  have hl : lv_has ls 5 [(0, .ref (ol_h G)), (1, .int (nI xa)), (2, .int (nI xb))] := hl
  obtain ⟨h, hH, hlen⟩ := hO
  have hb3 : ∀ {i z : Nat}, Z[i]? = some z → z < 1000 := fun {i z} hz => h.2.2.1 i z hz
  have hLa : L xa < 2 ^ 40 := h.2.2.2.2.2.2.2.1 _ _ ha
  have hLb : L xb < 2 ^ 40 := h.2.2.2.2.2.2.2.1 _ _ hb0
  refine lv_aload_n hx hb d_o_compare_0 rfl (lv_at hl 0 rfl) ?_
  refine lv_iload_n hx hb d_o_compare_1 rfl (lv_at hl 1 rfl) ?_
  refine ol_cr (n := 1) (As := [.int (nI xa)]) (rest := []) X hml (c_o_of l G hG (hb3 ha) ((h.2.2.2.2.2.2.2.2.1 _ (hb3 ha)).mpr ⟨_, ha⟩)) (gw_W X.2.2.2.1 ml_o_66 im_o_of se_o_of k_o_of in_o (by decide +kernel) rfl rfl (by rw [hR]; exact ⟨Nat.le_of_ble_eq_true rfl, Nat.le_of_ble_eq_true rfl⟩)) hP hS hl.1 rfl rfl (Nat.le_of_ble_eq_true rfl) d_o_compare_2 (fun r u' H locs hq hP hS => ?_)
  obtain ⟨hr0, hu0⟩ := hq
  rw [hr0]
  rw [hu0] at hP
  refine lv_astore_n (lv' := [(3, .ref (ol_a G xa)), (0, .ref (ol_h G)), (1, .int (nI xa)), (2, .int (nI xb))]) hx hb d_o_compare_5 rfl hl (by decide) rfl (fun ls hl => ?_)
  refine lv_aload_n hx hb d_o_compare_6 rfl (lv_at hl 1 rfl) ?_
  refine lv_iload_n hx hb d_o_compare_7 rfl (lv_at hl 3 rfl) ?_
  refine ol_cr (n := 1) (As := [.int (nI xb)]) (rest := []) X hml (c_o_of l G hG (hb3 hb0) ((h.2.2.2.2.2.2.2.2.1 _ (hb3 hb0)).mpr ⟨_, hb0⟩)) (gw_W X.2.2.2.1 ml_o_66 im_o_of se_o_of k_o_of in_o (by decide +kernel) rfl rfl (by rw [hR]; exact ⟨Nat.le_of_ble_eq_true rfl, Nat.le_of_ble_eq_true rfl⟩)) hP hS hl.1 rfl rfl (Nat.le_of_ble_eq_true rfl) d_o_compare_8 (fun r u' H locs hq hP hS => ?_)
  obtain ⟨hr0, hu0⟩ := hq
  rw [hr0]
  rw [hu0] at hP
  refine lv_astore (lv' := [(4, .ref (ol_a G xb)), (3, .ref (ol_a G xa)), (0, .ref (ol_h G)), (1, .int (nI xa)), (2, .int (nI xb))]) hx hb d_o_compare_11 hl (by decide) rfl (fun ls hl => ?_)
  refine lv_aload_n hx hb d_o_compare_13 rfl (lv_at hl 1 rfl) ?_
  refine g_label X hP (hb3 ha) d_o_compare_14 ?_
  refine lv_aload hx hb d_o_compare_17 (lv_at hl 0 rfl) ?_
  refine g_label X hP (hb3 hb0) d_o_compare_19 ?_
  refine lb_ge (tgt := 30) hx hb (by omega) (by omega) d_o_compare_22 d_o_compare_23 (by decide) (fun q => ?_) (fun q => ?_)
  · refine lv_aload_n hx hb d_o_compare_30 rfl (lv_at hl 1 rfl) ?_
    refine g_label X hP (hb3 ha) d_o_compare_31 ?_
    refine lv_aload hx hb d_o_compare_34 (lv_at hl 0 rfl) ?_
    refine g_label X hP (hb3 hb0) d_o_compare_36 ?_
    refine lb_le (tgt := 47) hx hb (by omega) (by omega) d_o_compare_39 d_o_compare_40 (by decide) (fun q2 => ?_) (fun q2 => ?_)
    · refine lv_iconst (v := (nI 0)) hx hb d_o_compare_47 (by decide) ?_
      exact hend _ _ _ _ _ _ hP hS d_o_compare_48 ⟨by rw [if_neg (fun z => by have := (h.lt ha hb0).mpr z; omega), if_neg (fun z => by have := (h.lt hb0 ha).mpr z; omega)], h, hH, hlen⟩
    · refine lv_iconst (v := (nI 1)) hx hb d_o_compare_43 (by decide) ?_
      refine lv_goto (tgt := 48) hx hb d_o_compare_44 (by decide) ?_
      exact hend _ _ _ _ _ _ hP hS d_o_compare_48 ⟨by rw [if_neg (fun z => by have := (h.lt ha hb0).mpr z; omega), if_pos ((h.lt hb0 ha).mp q2)], h, hH, hlen⟩
  · refine lv_iconst (v := (-1)) hx hb d_o_compare_26 (by decide) ?_
    refine lv_goto (tgt := 48) hx hb d_o_compare_27 (by decide) ?_
    exact hend _ _ _ _ _ _ hP hS d_o_compare_48 ⟨by rw [if_pos ((h.lt ha hb0).mp q)], h, hH, hlen⟩
set_option maxHeartbeats 4000000 in
set_option maxRecDepth 100000 in
/-- next(x, forth) -/
theorem c_o_next (l : Launch) (G : OG) (hG : ol_ok G) {L : Nat → Nat} {b n : Nat → Option Nat} {t : Nat → Bool} {F : Nat → Nat} {nf la mn : Nat} {Z : List Nat} {pp x : Nat} {v : Int32} (hO : Ov (L, b, n, t, F, nf, la, mn) Z) (hx0 : Z[pp]? = some x) : ol_M l y_o_next b_o_next 5 (some .int) ({ frames := 2, cells := 0, slots := 0, locals := 42 }) G [.int (nI x), .int v] (L, b, n, t, F, nf, la, mn) (ol_Qi G (fun r u => (r = if v = 0 then (if pp = 0 then -1 else nI (Z.getD (pp - 1) 0)) else (if pp + 1 < Z.length then nI (Z.getD (pp + 1) 0) else -1)) ∧ Ov u Z)) := by
  refine ol_mi (by decide) rfl hG (Nat.le_of_ble_eq_true rfl) (fun p e R s m args below meth c Q ls hR X hml hP hS hl hend => ?_)
  have hx := X.1
  have hb := X.2.1
  have hl : lv_has ls 5 [(0, .ref (ol_h G)), (1, .int (nI x)), (2, .int v)] := hl
  obtain ⟨h, hH, hlen⟩ := hO
  have hb3 : ∀ {i z : Nat}, Z[i]? = some z → z < 1000 := fun {i z} hz => h.2.2.1 i z hz
  refine lv_aload_n hx hb d_o_next_0 rfl (lv_at hl 0 rfl) ?_
  refine lv_iload_n hx hb d_o_next_1 rfl (lv_at hl 1 rfl) ?_
  refine ol_cr (n := 1) (As := [.int (nI x)]) (rest := []) X hml (c_o_of l G hG (hb3 hx0) ((h.2.2.2.2.2.2.2.2.1 _ (hb3 hx0)).mpr ⟨_, hx0⟩)) (gw_W X.2.2.2.1 ml_o_66 im_o_of se_o_of k_o_of in_o (by decide +kernel) rfl rfl (by rw [hR]; exact ⟨Nat.le_of_ble_eq_true rfl, Nat.le_of_ble_eq_true rfl⟩)) hP hS hl.1 rfl rfl (Nat.le_of_ble_eq_true rfl) d_o_next_2 (fun r u' H locs hq hP hS => ?_)
  obtain ⟨hr0, hu0⟩ := hq
  rw [hr0]
  rw [hu0] at hP
  refine lv_astore_n (lv' := [(3, .ref (ol_a G x)), (0, .ref (ol_h G)), (1, .int (nI x)), (2, .int v)]) hx hb d_o_next_5 rfl hl (by decide) rfl (fun ls hl => ?_)
  refine lv_iload_n hx hb d_o_next_6 rfl (lv_at hl 3 rfl) ?_
  refine lv_if_eq (tgt := 17) hx hb d_o_next_7 (by decide) (fun q => ?_) (fun q => ?_)
  · rcases Nat.eq_zero_or_pos pp with hp | hp
    · refine lv_aload_n hx hb d_o_next_17 rfl (lv_at hl 0 rfl) ?_
      refine g_before (o := none) X hP (hb3 hx0) (by rw [hp] at hx0; cases h.1.symm.trans hx0; exact h.2.2.2.2.2.1) d_o_next_18 ?_
      refine lv_astoreN (lv' := [(4, .null), (3, .ref (ol_a G x)), (0, .ref (ol_h G)), (1, .int (nI x)), (2, .int v)]) hx hb d_o_next_21 hl (by decide) rfl (fun ls hl => ?_)
      refine lv_aloadN hx hb d_o_next_23 (lv_at hl 0 rfl) ?_
      refine lv_ifnonnullN hx hb d_o_next_25 ?_
      refine lv_iconst (v := (-1)) hx hb d_o_next_28 (by decide) ?_
      refine lv_goto (tgt := 37) hx hb d_o_next_29 (by decide) ?_
      exact hend _ _ _ _ _ _ hP hS d_o_next_37 ⟨by rw [if_pos q, if_pos hp], h, hH, hlen⟩
    · obtain ⟨y, hy⟩ := gt_ex (Z := Z) (i := pp - 1) (by have := gt_lt hx0; omega)
      refine lv_aload_n hx hb d_o_next_17 rfl (lv_at hl 0 rfl) ?_
      refine g_before (o := (some y)) X hP (hb3 hx0) ((h.2.2.2.2.1 (pp - 1) x (by rw [show pp - 1 + 1 = pp by omega]; exact hx0)).trans hy) d_o_next_18 ?_
      refine lv_astore (lv' := [(4, .ref (ol_a G y)), (3, .ref (ol_a G x)), (0, .ref (ol_h G)), (1, .int (nI x)), (2, .int v)]) hx hb d_o_next_21 hl (by decide) rfl (fun ls hl => ?_)
      refine lv_aload hx hb d_o_next_23 (lv_at hl 0 rfl) ?_
      refine lv_ifnonnull (tgt := 32) hx hb d_o_next_25 (by decide) ?_
      refine lv_aload hx hb d_o_next_32 (lv_at hl 0 rfl) ?_
      refine g_number X hP (hb3 hy) d_o_next_34 ?_
      exact hend _ _ _ _ _ _ hP hS d_o_next_37 ⟨by rw [if_pos q, if_neg (by omega), gd_of hy], h, hH, hlen⟩
  · rcases hz : Z[pp + 1]? with _ | y
    · refine lv_aload_n hx hb d_o_next_10 rfl (lv_at hl 0 rfl) ?_
      refine g_next (o := none) X hP (hb3 hx0) ((h.2.2.2.1 _ _ hx0).trans hz) d_o_next_11 ?_
      refine lv_goto (tgt := 21) hx hb d_o_next_14 (by decide) ?_
      refine lv_astoreN (lv' := [(4, .null), (3, .ref (ol_a G x)), (0, .ref (ol_h G)), (1, .int (nI x)), (2, .int v)]) hx hb d_o_next_21 hl (by decide) rfl (fun ls hl => ?_)
      refine lv_aloadN hx hb d_o_next_23 (lv_at hl 0 rfl) ?_
      refine lv_ifnonnullN hx hb d_o_next_25 ?_
      refine lv_iconst (v := (-1)) hx hb d_o_next_28 (by decide) ?_
      refine lv_goto (tgt := 37) hx hb d_o_next_29 (by decide) ?_
      exact hend _ _ _ _ _ _ hP hS d_o_next_37 ⟨by rw [if_neg q, if_neg (by have := List.getElem?_eq_none_iff.mp hz; omega)], h, hH, hlen⟩
    · refine lv_aload_n hx hb d_o_next_10 rfl (lv_at hl 0 rfl) ?_
      refine g_next (o := (some y)) X hP (hb3 hx0) ((h.2.2.2.1 _ _ hx0).trans hz) d_o_next_11 ?_
      refine lv_goto (tgt := 21) hx hb d_o_next_14 (by decide) ?_
      refine lv_astore (lv' := [(4, .ref (ol_a G y)), (3, .ref (ol_a G x)), (0, .ref (ol_h G)), (1, .int (nI x)), (2, .int v)]) hx hb d_o_next_21 hl (by decide) rfl (fun ls hl => ?_)
      refine lv_aload hx hb d_o_next_23 (lv_at hl 0 rfl) ?_
      refine lv_ifnonnull (tgt := 32) hx hb d_o_next_25 (by decide) ?_
      refine lv_aload hx hb d_o_next_32 (lv_at hl 0 rfl) ?_
      refine g_number X hP (hb3 hz) d_o_next_34 ?_
      exact hend _ _ _ _ _ _ hP hS d_o_next_37 ⟨by rw [if_neg q, if_pos (gt_lt hz), gd_of hz], h, hH, hlen⟩
set_option maxHeartbeats 4000000 in
set_option maxRecDepth 100000 in
/-- place(x) -/
theorem c_o_place (l : Launch) (G : OG) (hG : ol_ok G) {L : Nat → Nat} {b n : Nat → Option Nat} {t : Nat → Bool} {F : Nat → Nat} {nf la mn : Nat} {Z : List Nat} {pp x : Nat} (hO : Ov (L, b, n, t, F, nf, la, mn) Z) (hx0 : Z[pp]? = some x) : ol_M l y_o_place b_o_place 4 (some .int) ({ frames := 2, cells := 0, slots := 0, locals := 42 }) G [.int (nI x)] (L, b, n, t, F, nf, la, mn) (ol_Qi G (fun r u => r = nI pp ∧ Ov u Z)) := by
  refine ol_mi (by decide) rfl hG (Nat.le_of_ble_eq_true rfl) (fun p e R s m args below meth c Q ls hR X hml hP hS hl hend => ?_)
  have hx := X.1
  have hb := X.2.1
  have hl : lv_has ls 4 [(0, .ref (ol_h G)), (1, .int (nI x))] := hl
  obtain ⟨h, hH, hlen⟩ := hO
  have hb3 : ∀ {i z : Nat}, Z[i]? = some z → z < 1000 := fun {i z} hz => h.2.2.1 i z hz
  have loop : ∀ (q j y : Nat), q + 1 + j = pp → Z[q]? = some y → ∀ (H : Heap) (locs : List Loc), ol_P G (L, b, n, t, F, nf, la, mn) H → va_S (ol_A G) s.heap H locs → ∀ (ls : Array Slot), lv_has ls 4 [(3, .ref (ol_a G y)), (0, .ref (ol_h G)), (2, .int (nI j))] → W p l e R s m args below meth c H locs 0 0 Q (F0 m 11 ls []) := by
    intro q
    induction q with
    | zero =>
      intro j y hj hy H locs hP hS ls hl
      refine lv_aload_n hx hb d_o_place_11 rfl (lv_at hl 0 rfl) ?_
      refine lv_ifnull hx hb d_o_place_12 ?_
      refine lv_iinc (v := nI (j + 1)) (lv' := [(2, .int (nI (j + 1))), (3, .ref (ol_a G y)), (0, .ref (ol_h G))]) hx hb d_o_place_15 hl (k := 2) rfl (nI_1 _) (by decide) rfl (fun ls hl => ?_)
      refine lv_aload_n hx hb d_o_place_18 rfl (lv_at hl 1 rfl) ?_
      refine g_before (o := none) X hP (hb3 hy) (by cases h.1.symm.trans hy; exact h.2.2.2.2.2.1) d_o_place_19 ?_
      refine lv_astore_nN (lv' := [(3, .null), (2, .int (nI (j + 1))), (0, .ref (ol_h G))]) hx hb d_o_place_22 rfl hl (by decide) rfl (fun ls hl => ?_)
      refine lv_goto (tgt := 11) hx hb d_o_place_23 (by decide) ?_
      refine lv_aload_nN hx hb d_o_place_11 rfl (lv_at hl 0 rfl) ?_
      refine lv_ifnullN (tgt := 26) hx hb d_o_place_12 (by decide) ?_
      refine lv_iload_n hx hb d_o_place_26 rfl (lv_at hl 1 rfl) ?_
      refine tp_i (nI pp) (congrArg nI (by omega)) ?_
      exact hend _ _ _ _ _ _ hP hS d_o_place_27 ⟨rfl, h, hH, hlen⟩
    | succ q ih =>
      intro j y hj hy H locs hP hS ls hl
      obtain ⟨z, hz⟩ := gt_ex (Z := Z) (i := q) (by have := gt_lt hy; omega)
      refine lv_aload_n hx hb d_o_place_11 rfl (lv_at hl 0 rfl) ?_
      refine lv_ifnull hx hb d_o_place_12 ?_
      refine lv_iinc (v := nI (j + 1)) (lv' := [(2, .int (nI (j + 1))), (3, .ref (ol_a G y)), (0, .ref (ol_h G))]) hx hb d_o_place_15 hl (k := 2) rfl (nI_1 _) (by decide) rfl (fun ls hl => ?_)
      refine lv_aload_n hx hb d_o_place_18 rfl (lv_at hl 1 rfl) ?_
      refine g_before (o := (some z)) X hP (hb3 hy) ((h.2.2.2.2.1 _ _ hy).trans hz) d_o_place_19 ?_
      refine lv_astore_n (lv' := [(3, .ref (ol_a G z)), (2, .int (nI (j + 1))), (0, .ref (ol_h G))]) hx hb d_o_place_22 rfl hl (by decide) rfl (fun ls hl => ?_)
      refine lv_goto (tgt := 11) hx hb d_o_place_23 (by decide) ?_
      exact ih (j + 1) z (by omega) hz _ _ hP hS ls (lv_sub hl [0, 2, 1] rfl)
  refine lv_iconst (v := (nI 0)) hx hb d_o_place_0 (by decide) ?_
  refine lv_istore_n (lv' := [(2, .int (nI 0)), (0, .ref (ol_h G)), (1, .int (nI x))]) hx hb d_o_place_1 rfl hl (by decide) rfl (fun ls hl => ?_)
  refine lv_aload_n hx hb d_o_place_2 rfl (lv_at hl 1 rfl) ?_
  refine lv_iload_n hx hb d_o_place_3 rfl (lv_at hl 2 rfl) ?_
  refine ol_cr (n := 1) (As := [.int (nI x)]) (rest := []) X hml (c_o_of l G hG (hb3 hx0) ((h.2.2.2.2.2.2.2.2.1 _ (hb3 hx0)).mpr ⟨_, hx0⟩)) (gw_W X.2.2.2.1 ml_o_66 im_o_of se_o_of k_o_of in_o (by decide +kernel) rfl rfl (by rw [hR]; exact ⟨Nat.le_of_ble_eq_true rfl, Nat.le_of_ble_eq_true rfl⟩)) hP hS hl.1 rfl rfl (Nat.le_of_ble_eq_true rfl) d_o_place_4 (fun r u' H locs hq hP hS => ?_)
  obtain ⟨hr0, hu0⟩ := hq
  rw [hr0]
  rw [hu0] at hP
  rcases Nat.eq_zero_or_pos pp with hp | hp
  · refine g_before (o := none) X hP (hb3 hx0) (by rw [hp] at hx0; cases h.1.symm.trans hx0; exact h.2.2.2.2.2.1) d_o_place_7 ?_
    refine lv_astore_nN (lv' := [(3, .null), (2, .int (nI 0)), (0, .ref (ol_h G)), (1, .int (nI x))]) hx hb d_o_place_10 rfl hl (by decide) rfl (fun ls hl => ?_)
    refine lv_aload_nN hx hb d_o_place_11 rfl (lv_at hl 0 rfl) ?_
    refine lv_ifnullN (tgt := 26) hx hb d_o_place_12 (by decide) ?_
    refine lv_iload_n hx hb d_o_place_26 rfl (lv_at hl 1 rfl) ?_
    refine tp_i (nI pp) (congrArg nI hp.symm) ?_
    exact hend _ _ _ _ _ _ hP hS d_o_place_27 ⟨rfl, h, hH, hlen⟩
  · obtain ⟨y, hy⟩ := gt_ex (Z := Z) (i := pp - 1) (by have := gt_lt hx0; omega)
    refine g_before (o := (some y)) X hP (hb3 hx0) ((h.2.2.2.2.1 (pp - 1) x (by rw [show pp - 1 + 1 = pp by omega]; exact hx0)).trans hy) d_o_place_7 ?_
    refine lv_astore_n (lv' := [(3, .ref (ol_a G y)), (2, .int (nI 0)), (0, .ref (ol_h G)), (1, .int (nI x))]) hx hb d_o_place_10 rfl hl (by decide) rfl (fun ls hl => ?_)
    exact loop (pp - 1) 0 y (by omega) hy _ _ hP hS ls (lv_sub hl [0, 2, 1] rfl)
set_option maxHeartbeats 4000000 in
set_option maxRecDepth 100000 in
/-- at(v) -/
theorem c_o_at (l : Launch) (G : OG) (hG : ol_ok G) {L : Nat → Nat} {b n : Nat → Option Nat} {t : Nat → Bool} {F : Nat → Nat} {nf la mn : Nat} {Z : List Nat} {v : Int32} (hO : Ov (L, b, n, t, F, nf, la, mn) Z) : ol_M l y_o_at b_o_at 4 (some .int) ({ frames := 0, cells := 0, slots := 0, locals := 0 }) G [.int v] (L, b, n, t, F, nf, la, mn) (ol_Qi G (fun r u => ((¬ (∃ j, j < Z.length ∧ v = nI j) ∧ r = -1) ∨ ∃ j x : Nat, v = nI j ∧ Z[j]? = some x ∧ r = nI x) ∧ Ov u Z)) := by
  refine ol_mi (by decide) rfl hG (Nat.le_of_ble_eq_true rfl) (fun p e R s m args below meth c Q ls hR X hml hP hS hl hend => ?_)
  have hx := X.1
  have hb := X.2.1
  have hl : lv_has ls 4 [(0, .ref (ol_h G)), (1, .int v)] := hl
  obtain ⟨h, hH, hlen⟩ := hO
  have hb3 : ∀ {i z : Nat}, Z[i]? = some z → z < 1000 := fun {i z} hz => h.2.2.1 i z hz
  have hmn : mn = Z.length := h.2.2.2.2.2.2.2.2.2.2
  refine lv_iload_n hx hb d_o_at_0 rfl (lv_at hl 1 rfl) ?_
  refine lv_if_lt (tgt := 12) hx hb d_o_at_1 (by decide) (fun q => ?_) (fun q => ?_)
  · refine lv_iconst (v := (-1)) hx hb d_o_at_12 (by decide) ?_
    exact hend _ _ _ _ _ _ hP hS d_o_at_13 ⟨Or.inl ⟨(by rintro ⟨j, hj, rfl⟩; exact nI_pos (by omega) q), rfl⟩, h, hH, hlen⟩
  · refine lv_iload_n hx hb d_o_at_4 rfl (lv_at hl 1 rfl) ?_
    refine lv_aload_n hx hb d_o_at_5 rfl (lv_at hl 0 rfl) ?_
    refine g_many X hP d_o_at_6 ?_
    refine lv_icmp_lt (tgt := 14) hx hb d_o_at_9 (by decide) (fun q2 => ?_) (fun q2 => ?_)
    · obtain ⟨j, hj, rfl⟩ : ∃ j, j < Z.length ∧ v = nI j := by
        obtain ⟨j, hj, e⟩ := nI_of q
        refine ⟨j, ?_, e⟩
        rw [e, hmn] at q2
        exact (nI_ltI hj (by omega)).mp q2
      have loop : ∀ (d i x : Nat), i + d = j → Z[i]? = some x → ∀ (ls : Array Slot), lv_has ls 4 [(3, .int (nI i)), (2, .ref (ol_a G x)), (0, .ref (ol_h G)), (1, .int (nI j))] → W p l e R s m args below meth c s.heap [] 0 0 Q (F0 m 23 ls []) := by
        intro d
        induction d with
        | zero =>
          intro i x hd hx0 ls hl
          refine lv_iload_n hx hb d_o_at_23 rfl (lv_at hl 0 rfl) ?_
          refine lv_iload_n hx hb d_o_at_24 rfl (lv_at hl 3 rfl) ?_
          refine nb_ge (tgt := 39) hx hb (by omega) (by omega) d_o_at_25 (by decide) (fun q3 => ?_) (fun q3 => ?_)
          · refine lv_aload_n hx hb d_o_at_39 rfl (lv_at hl 1 rfl) ?_
            refine g_number X hP (hb3 hx0) d_o_at_40 ?_
            exact hend _ _ _ _ _ _ hP hS d_o_at_43 ⟨Or.inr ⟨j, x, rfl, by rw [← hd]; exact hx0, rfl⟩, h, hH, hlen⟩
          · exact absurd q3 (by omega)
        | succ d ih =>
          intro i x hd hx0 ls hl
          obtain ⟨y, hy⟩ := gt_ex (Z := Z) (i := i + 1) (by omega)
          refine lv_iload_n hx hb d_o_at_23 rfl (lv_at hl 0 rfl) ?_
          refine lv_iload_n hx hb d_o_at_24 rfl (lv_at hl 3 rfl) ?_
          refine nb_ge (tgt := 39) hx hb (by omega) (by omega) d_o_at_25 (by decide) (fun q3 => ?_) (fun q3 => ?_)
          · exact absurd q3 (by omega)
          · refine lv_aload_n hx hb d_o_at_28 rfl (lv_at hl 1 rfl) ?_
            refine g_next (o := (some y)) X hP (hb3 hx0) ((h.2.2.2.1 _ _ hx0).trans hy) d_o_at_29 ?_
            refine lv_astore_n (lv' := [(2, .ref (ol_a G y)), (3, .int (nI i)), (0, .ref (ol_h G)), (1, .int (nI j))]) hx hb d_o_at_32 rfl hl (by decide) rfl (fun ls hl => ?_)
            refine lv_iinc (v := nI (i + 1)) (lv' := [(3, .int (nI (i + 1))), (2, .ref (ol_a G y)), (0, .ref (ol_h G)), (1, .int (nI j))]) hx hb d_o_at_33 hl (k := 1) rfl (nI_1 _) (by decide) rfl (fun ls hl => ?_)
            refine lv_goto (tgt := 23) hx hb d_o_at_36 (by decide) ?_
            exact ih (i + 1) y (by omega) hy ls (lv_sub hl [0, 1, 2, 3] rfl)
      refine lv_aload_n hx hb d_o_at_14 rfl (lv_at hl 0 rfl) ?_
      refine g_stamps X hP d_o_at_15 ?_
      refine lv_iconst (v := (nI 0)) hx hb d_o_at_18 (by decide) ?_
      refine a_stamps X hP (by decide) d_o_at_19 ?_
      refine lv_astore_n (lv' := [(2, .ref (ol_a G 0)), (0, .ref (ol_h G)), (1, .int (nI j))]) hx hb d_o_at_20 rfl hl (by decide) rfl (fun ls hl => ?_)
      refine lv_iconst (v := (nI 0)) hx hb d_o_at_21 (by decide) ?_
      refine lv_istore_n (lv' := [(3, .int (nI 0)), (2, .ref (ol_a G 0)), (0, .ref (ol_h G)), (1, .int (nI j))]) hx hb d_o_at_22 rfl hl (by decide) rfl (fun ls hl => ?_)
      exact loop j 0 0 (by omega) h.1 ls (lv_sub hl [0, 1, 2, 3] rfl)
    · refine lv_iconst (v := (-1)) hx hb d_o_at_12 (by decide) ?_
      exact hend _ _ _ _ _ _ hP hS d_o_at_13 ⟨Or.inl ⟨(by rintro ⟨j, hj, rfl⟩; exact q2 (by rw [hmn]; exact nI_lt hj (by omega))), rfl⟩, h, hH, hlen⟩
set_option maxHeartbeats 4000000 in
set_option maxRecDepth 100000 in
/-- look(v) -/
theorem c_o_look (l : Launch) (G : OG) (hG : ol_ok G) {L : Nat → Nat} {b n : Nat → Option Nat} {t : Nat → Bool} {F : Nat → Nat} {nf la mn : Nat} {Z : List Nat} {v : Int32} (hO : Ov (L, b, n, t, F, nf, la, mn) Z) : ol_M l y_o_look b_o_look 2 (some .int) ({ frames := 0, cells := 0, slots := 0, locals := 0 }) G [.int v] (L, b, n, t, F, nf, la, mn) (ol_Qi G (fun r u => (if v = 0 then r = nI Z.length else if v = nI 1 then r = nI (Z.getD (Z.length - 1) 0) else if v = nI 2 then ((full Z ∧ r = -1) ∨ ∃ m, fr Z m ∧ r = nI m) else r = -1) ∧ Ov u Z)) := by
  refine ol_mi (by decide) rfl hG (Nat.le_of_ble_eq_true rfl) (fun p e R s m args below meth c Q ls hR X hml hP hS hl hend => ?_)
  have hx := X.1
  have hb := X.2.1
  have hl : lv_has ls 2 [(0, .ref (ol_h G)), (1, .int v)] := hl
  obtain ⟨h, hH, hlen⟩ := hO
  have hb3 : ∀ {i z : Nat}, Z[i]? = some z → z < 1000 := fun {i z} hz => h.2.2.1 i z hz
  have hmn : mn = Z.length := h.2.2.2.2.2.2.2.2.2.2
  have hla := h.2.2.2.2.2.2.2.2.2.1
  refine lv_iload_n hx hb d_o_look_0 rfl (lv_at hl 1 rfl) ?_
  refine lv_if_ne (tgt := 11) hx hb d_o_look_1 (by decide) (fun q => ?_) (fun q => ?_)
  · refine lv_iload_n hx hb d_o_look_11 rfl (lv_at hl 1 rfl) ?_
    refine lv_iconst (v := (nI 1)) hx hb d_o_look_12 (by decide) ?_
    refine lv_icmp_ne (tgt := 26) hx hb d_o_look_13 (by decide) (fun q2 => ?_) (fun q2 => ?_)
    · refine lv_iload_n hx hb d_o_look_26 rfl (lv_at hl 1 rfl) ?_
      refine lv_iconst (v := (nI 2)) hx hb d_o_look_27 (by decide) ?_
      refine lv_icmp_ne (tgt := 51) hx hb d_o_look_28 (by decide) (fun q3 => ?_) (fun q3 => ?_)
      · refine lv_iconst (v := (-1)) hx hb d_o_look_51 (by decide) ?_
        exact hend _ _ _ _ _ _ hP hS d_o_look_52 ⟨by rw [if_neg q, if_neg q2, if_neg q3], h, hH, hlen⟩
      · refine lv_aload_n hx hb d_o_look_31 rfl (lv_at hl 0 rfl) ?_
        refine g_frees X hP d_o_look_32 ?_
        refine nz_ne (tgt := 42) hx hb (by omega) d_o_look_35 (by decide) (fun q4 => ?_) (fun q4 => ?_)
        · refine lv_aload_n hx hb d_o_look_42 rfl (lv_at hl 0 rfl) ?_
          refine g_free X hP d_o_look_43 ?_
          refine lv_iconst (v := (nI 0)) hx hb d_o_look_46 (by decide) ?_
          refine a_free X hP (by decide) d_o_look_47 ?_
          refine lv_goto (tgt := 52) hx hb d_o_look_48 (by decide) ?_
          exact hend _ _ _ _ _ _ hP hS d_o_look_52 ⟨by rw [if_neg q, if_neg q2, if_pos q3]; exact Or.inr ⟨F 0, fr_of hH (by omega), rfl⟩, h, hH, hlen⟩
        · refine lv_iconst (v := (-1)) hx hb d_o_look_38 (by decide) ?_
          refine lv_goto (tgt := 52) hx hb d_o_look_39 (by decide) ?_
          exact hend _ _ _ _ _ _ hP hS d_o_look_52 ⟨by rw [if_neg q, if_neg q2, if_pos q3]; exact Or.inl ⟨by rw [q4] at hH; exact full_of hH, rfl⟩, h, hH, hlen⟩
    · refine lv_aload_n hx hb d_o_look_16 rfl (lv_at hl 0 rfl) ?_
      refine g_last X hP d_o_look_17 ?_
      refine g_number X hP (hb3 hla) d_o_look_20 ?_
      refine lv_goto (tgt := 52) hx hb d_o_look_23 (by decide) ?_
      exact hend _ _ _ _ _ _ hP hS d_o_look_52 ⟨by rw [if_neg q, if_pos q2, gd_of hla], h, hH, hlen⟩
  · refine lv_aload_n hx hb d_o_look_4 rfl (lv_at hl 0 rfl) ?_
    refine g_many X hP d_o_look_5 ?_
    refine lv_goto (tgt := 52) hx hb d_o_look_8 (by decide) ?_
    exact hend _ _ _ _ _ _ hP hS d_o_look_52 ⟨by rw [if_pos q, hmn], h, hH, hlen⟩
set_option maxHeartbeats 4000000 in
set_option maxRecDepth 100000 in
/-- wipe() -/
theorem c_o_wipe (l : Launch) (G : OG) (hG : ol_ok G) {L : Nat → Nat} {b n : Nat → Option Nat} {t : Nat → Bool} {F : Nat → Nat} {nf la mn : Nat} {Z : List Nat} (hO : Ov (L, b, n, t, F, nf, la, mn) Z) : ol_M l y_o_wipe b_o_wipe 2 none ({ frames := 1, cells := 0, slots := 0, locals := 22 }) G [] (L, b, n, t, F, nf, la, mn) (ol_Qv G (fun u => Ov u [0])) := by
  refine ol_mv (by decide) rfl hG (Nat.le_of_ble_eq_true rfl) (fun p e R s m args below meth c Q ls hR X hml hP hS hl hend => ?_)
  have hx := X.1
  have hb := X.2.1
  have hl : lv_has ls 2 [(0, .ref (ol_h G))] := hl
  have loop : ∀ (d : Nat) (L : Nat → Nat) (b n : Nat → Option Nat) (t : Nat → Bool) (F : Nat → Nat) (nf la mn : Nat) (Z : List Nat), Z.length ≤ d → Ov (L, b, n, t, F, nf, la, mn) Z → ∀ (H : Heap) (locs : List Loc), ol_P G (L, b, n, t, F, nf, la, mn) H → va_S (ol_A G) s.heap H locs → ∀ (ls : Array Slot), lv_has ls 2 [(0, .ref (ol_h G))] → W p l e R s m args below meth c H locs 0 0 Q (F0 m 0 ls []) := by
    intro d
    induction d with
    | zero =>
      intro L b n t F nf la mn Z hd hO
      exact absurd (gt_lt hO.1.1) (by omega)
    | succ d ih =>
      intro L b n t F nf la mn Z hd hO H locs hP hS ls hl
      obtain ⟨h, hH, hlen⟩ := hO
      have hb3 : ∀ {i z : Nat}, Z[i]? = some z → z < 1000 := fun {i z} hz => h.2.2.1 i z hz
      have hla := h.2.2.2.2.2.2.2.2.2.1
      refine lv_aload_n hx hb d_o_wipe_0 rfl (lv_at hl 0 rfl) ?_
      refine g_last X hP d_o_wipe_1 ?_
      refine lv_aload_n hx hb d_o_wipe_4 rfl (lv_at hl 0 rfl) ?_
      refine g_stamps X hP d_o_wipe_5 ?_
      refine lv_iconst (v := (nI 0)) hx hb d_o_wipe_8 (by decide) ?_
      refine a_stamps X hP (by decide) d_o_wipe_9 ?_
      refine o_acmp_eq (tgt := 37) X (hb3 hla) (by decide) d_o_wipe_10 (by decide) (fun q => ?_) (fun q => ?_)
      · have e1 : Z.length - 1 = 0 := h.ndc _ _ _ hla (by rw [q]; exact h.1)
        have e2 := gt_lt h.1
        have e3 : Z = [0] := one_of h.1 (by omega)
        exact hend _ _ _ _ _ hP hS d_o_wipe_37 (by rw [← e3]; exact ⟨h, hH, hlen⟩)
      · have hl1 : 1 < Z.length := by
          rcases Nat.lt_or_ge 1 Z.length with c1 | c1
          · exact c1
          · have e1 : Z.length - 1 = 0 := by omega
            rw [e1] at hla
            exact absurd (Option.some.inj (hla.symm.trans h.1)) q
        obtain ⟨w0, hw0⟩ := gt_ex (Z := Z) (i := Z.length - 2) (by omega)
        have hx0 : Z[Z.length - 2 + 1]? = some la := by rw [show Z.length - 2 + 1 = Z.length - 1 by omega]; exact hla
        refine lv_aload_n hx hb d_o_wipe_13 rfl (lv_at hl 0 rfl) ?_
        refine g_last X hP d_o_wipe_14 ?_
        refine g_number X hP (hb3 hla) d_o_wipe_17 ?_
        refine lv_istore_n (lv' := [(1, .int (nI la)), (0, .ref (ol_h G))]) hx hb d_o_wipe_20 rfl hl (by decide) rfl (fun ls hl => ?_)
        refine lv_aload_n hx hb d_o_wipe_21 rfl (lv_at hl 1 rfl) ?_
        refine lv_aload_n hx hb d_o_wipe_22 rfl (lv_at hl 1 rfl) ?_
        refine g_last X hP d_o_wipe_23 ?_
        refine ol_cv (n := 1) (As := [.ref (ol_a G la)]) (rest := []) X hml (c_o_unlink l G hG h hx0 hw0) (gw_W X.2.2.2.1 ml_o_81 im_o_unlink se_o_unlink k_o_unlink in_o (by decide +kernel) rfl rfl (by rw [hR]; exact ⟨Nat.le_of_ble_eq_true rfl, Nat.le_of_ble_eq_true rfl⟩)) hP hS hl.1 rfl rfl (Nat.le_of_ble_eq_true rfl) d_o_wipe_26 (fun u' H locs hq hP hS => ?_)
        obtain ⟨b', n', t', la', hu2, h2⟩ := hq
        rw [hu2] at hP
        refine lv_aload_n hx hb d_o_wipe_29 rfl (lv_at hl 1 rfl) ?_
        refine lv_iload_n hx hb d_o_wipe_30 rfl (lv_at hl 0 rfl) ?_
        refine ol_cv (n := 1) (As := [.int (nI la)]) (rest := []) X hml (c_o_giveNumber l G hG hH (by omega) (hb3 hla) (fun hq => hq _ hx0)) (gw_W X.2.2.2.1 ml_o_84 im_o_giveNumber se_o_giveNumber k_o_giveNumber in_o (by decide +kernel) rfl rfl (by rw [hR]; exact ⟨Nat.le_of_ble_eq_true rfl, Nat.le_of_ble_eq_true rfl⟩)) hP hS hl.1 rfl rfl (Nat.le_of_ble_eq_true rfl) d_o_wipe_31 (fun u' H locs hq hP hS => ?_)
        obtain ⟨F', hu3, hH2⟩ := hq
        rw [hu3] at hP
        refine lv_goto (tgt := 0) hx hb d_o_wipe_34 (by decide) ?_
        exact ih _ _ _ _ _ _ _ _ (Z.eraseIdx (Z.length - 2 + 1)) (by rw [List.length_eraseIdx_of_lt (gt_lt hx0)]; omega) (Ov.del h2 h.ndc hx0 hH2 hlen) _ _ hP hS ls (lv_sub hl [1] rfl)
  exact loop Z.length L b n t F nf la mn Z (Nat.le_refl _) hO _ _ hP hS ls hl
set_option maxHeartbeats 4000000 in
set_option maxRecDepth 100000 in
/-- place(x) throws -/
theorem c_o_placeT (l : Launch) (hfl : l.flags = flags0) (G : OG) (hG : ol_ok G) {L : Nat → Nat} {b n : Nat → Option Nat} {t : Nat → Bool} {F : Nat → Nat} {nf la mn : Nat} {Z : List Nat} {x : Int32} (hO : Ov (L, b, n, t, F, nf, la, mn) Z) (hbd : bd Z x) : ol_MT l y_o_place b_o_place 4 (some .int) ({ frames := 7, cells := 1, slots := 6, locals := 102 }) G [.int x] (L, b, n, t, F, nf, la, mn) := by
  refine ol_mT (by decide) rfl hG (Nat.le_of_ble_eq_true rfl) (fun p e R s m args below meth c ls hR X hml hP0 hP hTW hS hl hlk hne => ?_)
  have hx := X.1
  have hb := X.2.1
  have hl : lv_has ls 4 [(0, .ref (ol_h G)), (1, .int x)] := hl
  obtain ⟨h, hH, hlen⟩ := hO
  have hb3 : ∀ {i z : Nat}, Z[i]? = some z → z < 1000 := fun {i z} hz => h.2.2.1 i z hz
  refine lv_iconst (v := (nI 0)) hx hb d_o_place_0 (by decide) ?_
  refine lv_istore_n (lv' := [(2, .int (nI 0)), (0, .ref (ol_h G)), (1, .int x)]) hx hb d_o_place_1 rfl hl (by decide) rfl (fun ls hl => ?_)
  refine lv_aload_n hx hb d_o_place_2 rfl (lv_at hl 1 rfl) ?_
  refine lv_iload_n hx hb d_o_place_3 rfl (lv_at hl 2 rfl) ?_
  exact ol_cT (n := 1) (As := [.int x]) (rest := []) X hml hTW (c_o_ofT l hfl G hG (bd_of h hbd)) (gw_W X.2.2.2.1 ml_o_66 im_o_of se_o_of k_o_of in_o (by decide +kernel) rfl rfl (by rw [hR]; exact ⟨Nat.le_of_ble_eq_true rfl, Nat.le_of_ble_eq_true rfl⟩)) hP0 hP hS hl.1 rfl rfl (Nat.le_of_ble_eq_true rfl) d_o_place_4 hlk hne (by rw [hR]; exact ⟨Nat.le_of_ble_eq_true rfl, Nat.le_of_ble_eq_true rfl⟩)
set_option maxHeartbeats 4000000 in
set_option maxRecDepth 100000 in
/-- throws -/
theorem c_o_severalT (l : Launch) (hfl : l.flags = flags0) (G : OG) (hG : ol_ok G) {L : Nat → Nat} {b n : Nat → Option Nat} {t : Nat → Bool} {F : Nat → Nat} {nf la mn : Nat} {Z : List Nat} {x v : Int32} (hO : Ov (L, b, n, t, F, nf, la, mn) Z) (hbd : bd Z x) : ol_MT l y_o_several b_o_several 8 (some .int) ({ frames := 7, cells := 1, slots := 6, locals := 102 }) G [.int x, .int v] (L, b, n, t, F, nf, la, mn) := by
  refine ol_mT (by decide) rfl hG (Nat.le_of_ble_eq_true rfl) (fun p e R s m args below meth c ls hR X hml hP0 hP hTW hS hl hlk hne => ?_)
  have hx := X.1
  have hb := X.2.1
  have hl : lv_has ls 8 [(0, .ref (ol_h G)), (1, .int x), (2, .int v)] := hl
  obtain ⟨h, hH, hlen⟩ := hO
  have hb3 : ∀ {i z : Nat}, Z[i]? = some z → z < 1000 := fun {i z} hz => h.2.2.1 i z hz
  refine lv_aload_n hx hb d_o_several_0 rfl (lv_at hl 0 rfl) ?_
  refine lv_iload_n hx hb d_o_several_1 rfl (lv_at hl 1 rfl) ?_
  exact ol_cT (n := 1) (As := [.int x]) (rest := []) X hml hTW (c_o_ofT l hfl G hG (bd_of h hbd)) (gw_W X.2.2.2.1 ml_o_66 im_o_of se_o_of k_o_of in_o (by decide +kernel) rfl rfl (by rw [hR]; exact ⟨Nat.le_of_ble_eq_true rfl, Nat.le_of_ble_eq_true rfl⟩)) hP0 hP hS hl.1 rfl rfl (Nat.le_of_ble_eq_true rfl) d_o_several_2 hlk hne (by rw [hR]; exact ⟨Nat.le_of_ble_eq_true rfl, Nat.le_of_ble_eq_true rfl⟩)
set_option maxHeartbeats 4000000 in
set_option maxRecDepth 100000 in
/-- throws -/
theorem c_o_nextT (l : Launch) (hfl : l.flags = flags0) (G : OG) (hG : ol_ok G) {L : Nat → Nat} {b n : Nat → Option Nat} {t : Nat → Bool} {F : Nat → Nat} {nf la mn : Nat} {Z : List Nat} {x v : Int32} (hO : Ov (L, b, n, t, F, nf, la, mn) Z) (hbd : bd Z x) : ol_MT l y_o_next b_o_next 5 (some .int) ({ frames := 7, cells := 1, slots := 6, locals := 102 }) G [.int x, .int v] (L, b, n, t, F, nf, la, mn) := by
  refine ol_mT (by decide) rfl hG (Nat.le_of_ble_eq_true rfl) (fun p e R s m args below meth c ls hR X hml hP0 hP hTW hS hl hlk hne => ?_)
  have hx := X.1
  have hb := X.2.1
  have hl : lv_has ls 5 [(0, .ref (ol_h G)), (1, .int x), (2, .int v)] := hl
  obtain ⟨h, hH, hlen⟩ := hO
  have hb3 : ∀ {i z : Nat}, Z[i]? = some z → z < 1000 := fun {i z} hz => h.2.2.1 i z hz
  refine lv_aload_n hx hb d_o_next_0 rfl (lv_at hl 0 rfl) ?_
  refine lv_iload_n hx hb d_o_next_1 rfl (lv_at hl 1 rfl) ?_
  exact ol_cT (n := 1) (As := [.int x]) (rest := []) X hml hTW (c_o_ofT l hfl G hG (bd_of h hbd)) (gw_W X.2.2.2.1 ml_o_66 im_o_of se_o_of k_o_of in_o (by decide +kernel) rfl rfl (by rw [hR]; exact ⟨Nat.le_of_ble_eq_true rfl, Nat.le_of_ble_eq_true rfl⟩)) hP0 hP hS hl.1 rfl rfl (Nat.le_of_ble_eq_true rfl) d_o_next_2 hlk hne (by rw [hR]; exact ⟨Nat.le_of_ble_eq_true rfl, Nat.le_of_ble_eq_true rfl⟩)
set_option maxHeartbeats 4000000 in
set_option maxRecDepth 100000 in
/-- throws at the first -/
theorem c_o_clearT1 (l : Launch) (hfl : l.flags = flags0) (G : OG) (hG : ol_ok G) {L : Nat → Nat} {b n : Nat → Option Nat} {t : Nat → Bool} {F : Nat → Nat} {nf la mn : Nat} {Z : List Nat} {x v : Int32} (hO : Ov (L, b, n, t, F, nf, la, mn) Z) (hbd : bd Z x) : ol_MT l y_o_clear b_o_clear 7 (some .int) ({ frames := 7, cells := 1, slots := 6, locals := 102 }) G [.int x, .int v] (L, b, n, t, F, nf, la, mn) := by
  refine ol_mT (by decide) rfl hG (Nat.le_of_ble_eq_true rfl) (fun p e R s m args below meth c ls hR X hml hP0 hP hTW hS hl hlk hne => ?_)
  have hx := X.1
  have hb := X.2.1
  have hl : lv_has ls 7 [(0, .ref (ol_h G)), (1, .int x), (2, .int v)] := hl
  obtain ⟨h, hH, hlen⟩ := hO
  have hb3 : ∀ {i z : Nat}, Z[i]? = some z → z < 1000 := fun {i z} hz => h.2.2.1 i z hz
  refine lv_aload_n hx hb d_o_clear_0 rfl (lv_at hl 0 rfl) ?_
  refine lv_iload_n hx hb d_o_clear_1 rfl (lv_at hl 1 rfl) ?_
  exact ol_cT (n := 1) (As := [.int x]) (rest := []) X hml hTW (c_o_ofT l hfl G hG (bd_of h hbd)) (gw_W X.2.2.2.1 ml_o_66 im_o_of se_o_of k_o_of in_o (by decide +kernel) rfl rfl (by rw [hR]; exact ⟨Nat.le_of_ble_eq_true rfl, Nat.le_of_ble_eq_true rfl⟩)) hP0 hP hS hl.1 rfl rfl (Nat.le_of_ble_eq_true rfl) d_o_clear_2 hlk hne (by rw [hR]; exact ⟨Nat.le_of_ble_eq_true rfl, Nat.le_of_ble_eq_true rfl⟩)
set_option maxHeartbeats 4000000 in
set_option maxRecDepth 100000 in
/-- throws at the second -/
theorem c_o_clearT2 (l : Launch) (hfl : l.flags = flags0) (G : OG) (hG : ol_ok G) {L : Nat → Nat} {b n : Nat → Option Nat} {t : Nat → Bool} {F : Nat → Nat} {nf la mn : Nat} {Z : List Nat} {pa xa : Nat} {v : Int32} (hO : Ov (L, b, n, t, F, nf, la, mn) Z) (ha : Z[pa]? = some xa) (hbd : bd Z v) : ol_MT l y_o_clear b_o_clear 7 (some .int) ({ frames := 7, cells := 1, slots := 6, locals := 102 }) G [.int (nI xa), .int v] (L, b, n, t, F, nf, la, mn) := by
  refine ol_mT (by decide) rfl hG (Nat.le_of_ble_eq_true rfl) (fun p e R s m args below meth c ls hR X hml hP0 hP hTW hS hl hlk hne => ?_)
  have hx := X.1
  have hb := X.2.1
  have hl : lv_has ls 7 [(0, .ref (ol_h G)), (1, .int (nI xa)), (2, .int v)] := hl
  obtain ⟨h, hH, hlen⟩ := hO
  have hb3 : ∀ {i z : Nat}, Z[i]? = some z → z < 1000 := fun {i z} hz => h.2.2.1 i z hz
  refine lv_aload_n hx hb d_o_clear_0 rfl (lv_at hl 0 rfl) ?_
  refine lv_iload_n hx hb d_o_clear_1 rfl (lv_at hl 1 rfl) ?_
  refine ol_cr (n := 1) (As := [.int (nI xa)]) (rest := []) X hml (c_o_of l G hG (hb3 ha) ((h.2.2.2.2.2.2.2.2.1 _ (hb3 ha)).mpr ⟨_, ha⟩)) (gw_W X.2.2.2.1 ml_o_66 im_o_of se_o_of k_o_of in_o (by decide +kernel) rfl rfl (by rw [hR]; exact ⟨Nat.le_of_ble_eq_true rfl, Nat.le_of_ble_eq_true rfl⟩)) hP hS hl.1 rfl rfl (Nat.le_of_ble_eq_true rfl) d_o_clear_2 (fun r u' H locs hq hP hS => ?_)
  obtain ⟨hr0, hu0⟩ := hq
  rw [hr0]
  rw [hu0] at hP
  refine lv_astore_n (lv' := [(3, .ref (ol_a G xa)), (0, .ref (ol_h G)), (1, .int (nI xa)), (2, .int v)]) hx hb d_o_clear_5 rfl hl (by decide) rfl (fun ls hl => ?_)
  refine lv_aload_n hx hb d_o_clear_6 rfl (lv_at hl 1 rfl) ?_
  refine lv_iload_n hx hb d_o_clear_7 rfl (lv_at hl 3 rfl) ?_
  exact ol_cT (n := 1) (As := [.int v]) (rest := []) X hml hTW (c_o_ofT l hfl G hG (bd_of h hbd)) (gw_W X.2.2.2.1 ml_o_66 im_o_of se_o_of k_o_of in_o (by decide +kernel) rfl rfl (by rw [hR]; exact ⟨Nat.le_of_ble_eq_true rfl, Nat.le_of_ble_eq_true rfl⟩)) hP0 hP hS hl.1 rfl rfl (Nat.le_of_ble_eq_true rfl) d_o_clear_8 hlk hne (by rw [hR]; exact ⟨Nat.le_of_ble_eq_true rfl, Nat.le_of_ble_eq_true rfl⟩)
set_option maxHeartbeats 4000000 in
set_option maxRecDepth 100000 in
/-- throws at the first -/
theorem c_o_compareT1 (l : Launch) (hfl : l.flags = flags0) (G : OG) (hG : ol_ok G) {L : Nat → Nat} {b n : Nat → Option Nat} {t : Nat → Bool} {F : Nat → Nat} {nf la mn : Nat} {Z : List Nat} {x v : Int32} (hO : Ov (L, b, n, t, F, nf, la, mn) Z) (hbd : bd Z x) : ol_MT l y_o_compare b_o_compare 5 (some .int) ({ frames := 7, cells := 1, slots := 6, locals := 102 }) G [.int x, .int v] (L, b, n, t, F, nf, la, mn) := by
  refine ol_mT (by decide) rfl hG (Nat.le_of_ble_eq_true rfl) (fun p e R s m args below meth c ls hR X hml hP0 hP hTW hS hl hlk hne => ?_)
  have hx := X.1
  have hb := X.2.1
  have hl : lv_has ls 5 [(0, .ref (ol_h G)), (1, .int x), (2, .int v)] := hl
  obtain ⟨h, hH, hlen⟩ := hO
  have hb3 : ∀ {i z : Nat}, Z[i]? = some z → z < 1000 := fun {i z} hz => h.2.2.1 i z hz
  refine lv_aload_n hx hb d_o_compare_0 rfl (lv_at hl 0 rfl) ?_
  refine lv_iload_n hx hb d_o_compare_1 rfl (lv_at hl 1 rfl) ?_
  exact ol_cT (n := 1) (As := [.int x]) (rest := []) X hml hTW (c_o_ofT l hfl G hG (bd_of h hbd)) (gw_W X.2.2.2.1 ml_o_66 im_o_of se_o_of k_o_of in_o (by decide +kernel) rfl rfl (by rw [hR]; exact ⟨Nat.le_of_ble_eq_true rfl, Nat.le_of_ble_eq_true rfl⟩)) hP0 hP hS hl.1 rfl rfl (Nat.le_of_ble_eq_true rfl) d_o_compare_2 hlk hne (by rw [hR]; exact ⟨Nat.le_of_ble_eq_true rfl, Nat.le_of_ble_eq_true rfl⟩)
set_option maxHeartbeats 4000000 in
set_option maxRecDepth 100000 in
/-- throws at the second -/
theorem c_o_compareT2 (l : Launch) (hfl : l.flags = flags0) (G : OG) (hG : ol_ok G) {L : Nat → Nat} {b n : Nat → Option Nat} {t : Nat → Bool} {F : Nat → Nat} {nf la mn : Nat} {Z : List Nat} {pa xa : Nat} {v : Int32} (hO : Ov (L, b, n, t, F, nf, la, mn) Z) (ha : Z[pa]? = some xa) (hbd : bd Z v) : ol_MT l y_o_compare b_o_compare 5 (some .int) ({ frames := 7, cells := 1, slots := 6, locals := 102 }) G [.int (nI xa), .int v] (L, b, n, t, F, nf, la, mn) := by
  refine ol_mT (by decide) rfl hG (Nat.le_of_ble_eq_true rfl) (fun p e R s m args below meth c ls hR X hml hP0 hP hTW hS hl hlk hne => ?_)
  have hx := X.1
  have hb := X.2.1
  have hl : lv_has ls 5 [(0, .ref (ol_h G)), (1, .int (nI xa)), (2, .int v)] := hl
  obtain ⟨h, hH, hlen⟩ := hO
  have hb3 : ∀ {i z : Nat}, Z[i]? = some z → z < 1000 := fun {i z} hz => h.2.2.1 i z hz
  refine lv_aload_n hx hb d_o_compare_0 rfl (lv_at hl 0 rfl) ?_
  refine lv_iload_n hx hb d_o_compare_1 rfl (lv_at hl 1 rfl) ?_
  refine ol_cr (n := 1) (As := [.int (nI xa)]) (rest := []) X hml (c_o_of l G hG (hb3 ha) ((h.2.2.2.2.2.2.2.2.1 _ (hb3 ha)).mpr ⟨_, ha⟩)) (gw_W X.2.2.2.1 ml_o_66 im_o_of se_o_of k_o_of in_o (by decide +kernel) rfl rfl (by rw [hR]; exact ⟨Nat.le_of_ble_eq_true rfl, Nat.le_of_ble_eq_true rfl⟩)) hP hS hl.1 rfl rfl (Nat.le_of_ble_eq_true rfl) d_o_compare_2 (fun r u' H locs hq hP hS => ?_)
  obtain ⟨hr0, hu0⟩ := hq
  rw [hr0]
  rw [hu0] at hP
  refine lv_astore_n (lv' := [(3, .ref (ol_a G xa)), (0, .ref (ol_h G)), (1, .int (nI xa)), (2, .int v)]) hx hb d_o_compare_5 rfl hl (by decide) rfl (fun ls hl => ?_)
  refine lv_aload_n hx hb d_o_compare_6 rfl (lv_at hl 1 rfl) ?_
  refine lv_iload_n hx hb d_o_compare_7 rfl (lv_at hl 3 rfl) ?_
  exact ol_cT (n := 1) (As := [.int v]) (rest := []) X hml hTW (c_o_ofT l hfl G hG (bd_of h hbd)) (gw_W X.2.2.2.1 ml_o_66 im_o_of se_o_of k_o_of in_o (by decide +kernel) rfl rfl (by rw [hR]; exact ⟨Nat.le_of_ble_eq_true rfl, Nat.le_of_ble_eq_true rfl⟩)) hP0 hP hS hl.1 rfl rfl (Nat.le_of_ble_eq_true rfl) d_o_compare_8 hlk hne (by rw [hR]; exact ⟨Nat.le_of_ble_eq_true rfl, Nat.le_of_ble_eq_true rfl⟩)
set_option maxHeartbeats 4000000 in
set_option maxRecDepth 100000 in
/-- throws at the first -/
theorem c_o_greatestT1 (l : Launch) (hfl : l.flags = flags0) (G : OG) (hG : ol_ok G) {L : Nat → Nat} {b n : Nat → Option Nat} {t : Nat → Bool} {F : Nat → Nat} {nf la mn : Nat} {Z : List Nat} {x v : Int32} (hO : Ov (L, b, n, t, F, nf, la, mn) Z) (hbd : bd Z x) : ol_MT l y_o_greatest b_o_greatest 7 (some .int) ({ frames := 7, cells := 1, slots := 6, locals := 102 }) G [.int x, .int v] (L, b, n, t, F, nf, la, mn) := by
  refine ol_mT (by decide) rfl hG (Nat.le_of_ble_eq_true rfl) (fun p e R s m args below meth c ls hR X hml hP0 hP hTW hS hl hlk hne => ?_)
  have hx := X.1
  have hb := X.2.1
  have hl : lv_has ls 7 [(0, .ref (ol_h G)), (1, .int x), (2, .int v)] := hl
  obtain ⟨h, hH, hlen⟩ := hO
  have hb3 : ∀ {i z : Nat}, Z[i]? = some z → z < 1000 := fun {i z} hz => h.2.2.1 i z hz
  refine lv_aload_n hx hb d_o_greatest_0 rfl (lv_at hl 0 rfl) ?_
  refine lv_iload_n hx hb d_o_greatest_1 rfl (lv_at hl 1 rfl) ?_
  exact ol_cT (n := 1) (As := [.int x]) (rest := []) X hml hTW (c_o_ofT l hfl G hG (bd_of h hbd)) (gw_W X.2.2.2.1 ml_o_66 im_o_of se_o_of k_o_of in_o (by decide +kernel) rfl rfl (by rw [hR]; exact ⟨Nat.le_of_ble_eq_true rfl, Nat.le_of_ble_eq_true rfl⟩)) hP0 hP hS hl.1 rfl rfl (Nat.le_of_ble_eq_true rfl) d_o_greatest_2 hlk hne (by rw [hR]; exact ⟨Nat.le_of_ble_eq_true rfl, Nat.le_of_ble_eq_true rfl⟩)
set_option maxHeartbeats 4000000 in
set_option maxRecDepth 100000 in
/-- throws at the second -/
theorem c_o_greatestT2 (l : Launch) (hfl : l.flags = flags0) (G : OG) (hG : ol_ok G) {L : Nat → Nat} {b n : Nat → Option Nat} {t : Nat → Bool} {F : Nat → Nat} {nf la mn : Nat} {Z : List Nat} {pa xa : Nat} {v : Int32} (hO : Ov (L, b, n, t, F, nf, la, mn) Z) (ha : Z[pa]? = some xa) (hbd : bd Z v) : ol_MT l y_o_greatest b_o_greatest 7 (some .int) ({ frames := 7, cells := 1, slots := 6, locals := 102 }) G [.int (nI xa), .int v] (L, b, n, t, F, nf, la, mn) := by
  refine ol_mT (by decide) rfl hG (Nat.le_of_ble_eq_true rfl) (fun p e R s m args below meth c ls hR X hml hP0 hP hTW hS hl hlk hne => ?_)
  have hx := X.1
  have hb := X.2.1
  have hl : lv_has ls 7 [(0, .ref (ol_h G)), (1, .int (nI xa)), (2, .int v)] := hl
  obtain ⟨h, hH, hlen⟩ := hO
  have hb3 : ∀ {i z : Nat}, Z[i]? = some z → z < 1000 := fun {i z} hz => h.2.2.1 i z hz
  refine lv_aload_n hx hb d_o_greatest_0 rfl (lv_at hl 0 rfl) ?_
  refine lv_iload_n hx hb d_o_greatest_1 rfl (lv_at hl 1 rfl) ?_
  refine ol_cr (n := 1) (As := [.int (nI xa)]) (rest := []) X hml (c_o_of l G hG (hb3 ha) ((h.2.2.2.2.2.2.2.2.1 _ (hb3 ha)).mpr ⟨_, ha⟩)) (gw_W X.2.2.2.1 ml_o_66 im_o_of se_o_of k_o_of in_o (by decide +kernel) rfl rfl (by rw [hR]; exact ⟨Nat.le_of_ble_eq_true rfl, Nat.le_of_ble_eq_true rfl⟩)) hP hS hl.1 rfl rfl (Nat.le_of_ble_eq_true rfl) d_o_greatest_2 (fun r u' H locs hq hP hS => ?_)
  obtain ⟨hr0, hu0⟩ := hq
  rw [hr0]
  rw [hu0] at hP
  refine lv_astore_n (lv' := [(3, .ref (ol_a G xa)), (0, .ref (ol_h G)), (1, .int (nI xa)), (2, .int v)]) hx hb d_o_greatest_5 rfl hl (by decide) rfl (fun ls hl => ?_)
  refine lv_aload_n hx hb d_o_greatest_6 rfl (lv_at hl 1 rfl) ?_
  refine lv_iload_n hx hb d_o_greatest_7 rfl (lv_at hl 3 rfl) ?_
  exact ol_cT (n := 1) (As := [.int v]) (rest := []) X hml hTW (c_o_ofT l hfl G hG (bd_of h hbd)) (gw_W X.2.2.2.1 ml_o_66 im_o_of se_o_of k_o_of in_o (by decide +kernel) rfl rfl (by rw [hR]; exact ⟨Nat.le_of_ble_eq_true rfl, Nat.le_of_ble_eq_true rfl⟩)) hP0 hP hS hl.1 rfl rfl (Nat.le_of_ble_eq_true rfl) d_o_greatest_8 hlk hne (by rw [hR]; exact ⟨Nat.le_of_ble_eq_true rfl, Nat.le_of_ble_eq_true rfl⟩)
set_option maxHeartbeats 4000000 in
set_option maxRecDepth 100000 in
/-- throws at the first -/
theorem c_o_carryT1 (l : Launch) (hfl : l.flags = flags0) (G : OG) (hG : ol_ok G) {L : Nat → Nat} {b n : Nat → Option Nat} {t : Nat → Bool} {F : Nat → Nat} {nf la mn : Nat} {Z : List Nat} {x v v2 : Int32} (hO : Ov (L, b, n, t, F, nf, la, mn) Z) (hbd : bd Z x) : ol_MT l y_o_carry b_o_carry 11 (some .int) ({ frames := 7, cells := 1, slots := 6, locals := 102 }) G [.int x, .int v, .int v2] (L, b, n, t, F, nf, la, mn) := by
  refine ol_mT (by decide) rfl hG (Nat.le_of_ble_eq_true rfl) (fun p e R s m args below meth c ls hR X hml hP0 hP hTW hS hl hlk hne => ?_)
  have hx := X.1
  have hb := X.2.1
  have hl : lv_has ls 11 [(0, .ref (ol_h G)), (1, .int x), (2, .int v), (3, .int v2)] := hl
  obtain ⟨h, hH, hlen⟩ := hO
  have hb3 : ∀ {i z : Nat}, Z[i]? = some z → z < 1000 := fun {i z} hz => h.2.2.1 i z hz
  refine lv_aload_n hx hb d_o_carry_0 rfl (lv_at hl 0 rfl) ?_
  refine lv_iload_n hx hb d_o_carry_1 rfl (lv_at hl 1 rfl) ?_
  exact ol_cT (n := 1) (As := [.int x]) (rest := []) X hml hTW (c_o_ofT l hfl G hG (bd_of h hbd)) (gw_W X.2.2.2.1 ml_o_66 im_o_of se_o_of k_o_of in_o (by decide +kernel) rfl rfl (by rw [hR]; exact ⟨Nat.le_of_ble_eq_true rfl, Nat.le_of_ble_eq_true rfl⟩)) hP0 hP hS hl.1 rfl rfl (Nat.le_of_ble_eq_true rfl) d_o_carry_2 hlk hne (by rw [hR]; exact ⟨Nat.le_of_ble_eq_true rfl, Nat.le_of_ble_eq_true rfl⟩)
set_option maxHeartbeats 4000000 in
set_option maxRecDepth 100000 in
/-- throws at the second -/
theorem c_o_carryT2 (l : Launch) (hfl : l.flags = flags0) (G : OG) (hG : ol_ok G) {L : Nat → Nat} {b n : Nat → Option Nat} {t : Nat → Bool} {F : Nat → Nat} {nf la mn : Nat} {Z : List Nat} {pa xa : Nat} {v v2 : Int32} (hO : Ov (L, b, n, t, F, nf, la, mn) Z) (ha : Z[pa]? = some xa) (hbd : bd Z v) : ol_MT l y_o_carry b_o_carry 11 (some .int) ({ frames := 7, cells := 1, slots := 6, locals := 102 }) G [.int (nI xa), .int v, .int v2] (L, b, n, t, F, nf, la, mn) := by
  refine ol_mT (by decide) rfl hG (Nat.le_of_ble_eq_true rfl) (fun p e R s m args below meth c ls hR X hml hP0 hP hTW hS hl hlk hne => ?_)
  have hx := X.1
  have hb := X.2.1
  have hl : lv_has ls 11 [(0, .ref (ol_h G)), (1, .int (nI xa)), (2, .int v), (3, .int v2)] := hl
  obtain ⟨h, hH, hlen⟩ := hO
  have hb3 : ∀ {i z : Nat}, Z[i]? = some z → z < 1000 := fun {i z} hz => h.2.2.1 i z hz
  refine lv_aload_n hx hb d_o_carry_0 rfl (lv_at hl 0 rfl) ?_
  refine lv_iload_n hx hb d_o_carry_1 rfl (lv_at hl 1 rfl) ?_
  refine ol_cr (n := 1) (As := [.int (nI xa)]) (rest := []) X hml (c_o_of l G hG (hb3 ha) ((h.2.2.2.2.2.2.2.2.1 _ (hb3 ha)).mpr ⟨_, ha⟩)) (gw_W X.2.2.2.1 ml_o_66 im_o_of se_o_of k_o_of in_o (by decide +kernel) rfl rfl (by rw [hR]; exact ⟨Nat.le_of_ble_eq_true rfl, Nat.le_of_ble_eq_true rfl⟩)) hP hS hl.1 rfl rfl (Nat.le_of_ble_eq_true rfl) d_o_carry_2 (fun r u' H locs hq hP hS => ?_)
  obtain ⟨hr0, hu0⟩ := hq
  rw [hr0]
  rw [hu0] at hP
  refine lv_astore (lv' := [(4, .ref (ol_a G xa)), (0, .ref (ol_h G)), (1, .int (nI xa)), (2, .int v), (3, .int v2)]) hx hb d_o_carry_5 hl (by decide) rfl (fun ls hl => ?_)
  refine lv_aload_n hx hb d_o_carry_7 rfl (lv_at hl 1 rfl) ?_
  refine lv_iload_n hx hb d_o_carry_8 rfl (lv_at hl 3 rfl) ?_
  exact ol_cT (n := 1) (As := [.int v]) (rest := []) X hml hTW (c_o_ofT l hfl G hG (bd_of h hbd)) (gw_W X.2.2.2.1 ml_o_66 im_o_of se_o_of k_o_of in_o (by decide +kernel) rfl rfl (by rw [hR]; exact ⟨Nat.le_of_ble_eq_true rfl, Nat.le_of_ble_eq_true rfl⟩)) hP0 hP hS hl.1 rfl rfl (Nat.le_of_ble_eq_true rfl) d_o_carry_9 hlk hne (by rw [hR]; exact ⟨Nat.le_of_ble_eq_true rfl, Nat.le_of_ble_eq_true rfl⟩)
set_option maxHeartbeats 4000000 in
set_option maxRecDepth 100000 in
/-- throws at the third -/
theorem c_o_carryT3 (l : Launch) (hfl : l.flags = flags0) (G : OG) (hG : ol_ok G) {L : Nat → Nat} {b n : Nat → Option Nat} {t : Nat → Bool} {F : Nat → Nat} {nf la mn : Nat} {Z : List Nat} {pa xa pb xb : Nat} {v2 : Int32} (hO : Ov (L, b, n, t, F, nf, la, mn) Z) (ha : Z[pa]? = some xa) (hb0 : Z[pb]? = some xb) (hbd : bd Z v2) : ol_MT l y_o_carry b_o_carry 11 (some .int) ({ frames := 7, cells := 1, slots := 6, locals := 102 }) G [.int (nI xa), .int (nI xb), .int v2] (L, b, n, t, F, nf, la, mn) := by
  refine ol_mT (by decide) rfl hG (Nat.le_of_ble_eq_true rfl) (fun p e R s m args below meth c ls hR X hml hP0 hP hTW hS hl hlk hne => ?_)
  have hx := X.1
  have hb := X.2.1
  have hl : lv_has ls 11 [(0, .ref (ol_h G)), (1, .int (nI xa)), (2, .int (nI xb)), (3, .int v2)] := hl
  obtain ⟨h, hH, hlen⟩ := hO
  have hb3 : ∀ {i z : Nat}, Z[i]? = some z → z < 1000 := fun {i z} hz => h.2.2.1 i z hz
  refine lv_aload_n hx hb d_o_carry_0 rfl (lv_at hl 0 rfl) ?_
  refine lv_iload_n hx hb d_o_carry_1 rfl (lv_at hl 1 rfl) ?_
  refine ol_cr (n := 1) (As := [.int (nI xa)]) (rest := []) X hml (c_o_of l G hG (hb3 ha) ((h.2.2.2.2.2.2.2.2.1 _ (hb3 ha)).mpr ⟨_, ha⟩)) (gw_W X.2.2.2.1 ml_o_66 im_o_of se_o_of k_o_of in_o (by decide +kernel) rfl rfl (by rw [hR]; exact ⟨Nat.le_of_ble_eq_true rfl, Nat.le_of_ble_eq_true rfl⟩)) hP hS hl.1 rfl rfl (Nat.le_of_ble_eq_true rfl) d_o_carry_2 (fun r u' H locs hq hP hS => ?_)
  obtain ⟨hr0, hu0⟩ := hq
  rw [hr0]
  rw [hu0] at hP
  refine lv_astore (lv' := [(4, .ref (ol_a G xa)), (0, .ref (ol_h G)), (1, .int (nI xa)), (2, .int (nI xb)), (3, .int v2)]) hx hb d_o_carry_5 hl (by decide) rfl (fun ls hl => ?_)
  refine lv_aload_n hx hb d_o_carry_7 rfl (lv_at hl 1 rfl) ?_
  refine lv_iload_n hx hb d_o_carry_8 rfl (lv_at hl 3 rfl) ?_
  refine ol_cr (n := 1) (As := [.int (nI xb)]) (rest := []) X hml (c_o_of l G hG (hb3 hb0) ((h.2.2.2.2.2.2.2.2.1 _ (hb3 hb0)).mpr ⟨_, hb0⟩)) (gw_W X.2.2.2.1 ml_o_66 im_o_of se_o_of k_o_of in_o (by decide +kernel) rfl rfl (by rw [hR]; exact ⟨Nat.le_of_ble_eq_true rfl, Nat.le_of_ble_eq_true rfl⟩)) hP hS hl.1 rfl rfl (Nat.le_of_ble_eq_true rfl) d_o_carry_9 (fun r u' H locs hq hP hS => ?_)
  obtain ⟨hr0, hu0⟩ := hq
  rw [hr0]
  rw [hu0] at hP
  refine lv_astore (lv' := [(5, .ref (ol_a G xb)), (4, .ref (ol_a G xa)), (0, .ref (ol_h G)), (1, .int (nI xa)), (2, .int (nI xb)), (3, .int v2)]) hx hb d_o_carry_12 hl (by decide) rfl (fun ls hl => ?_)
  refine lv_aload_n hx hb d_o_carry_14 rfl (lv_at hl 2 rfl) ?_
  refine lv_iload_n hx hb d_o_carry_15 rfl (lv_at hl 5 rfl) ?_
  exact ol_cT (n := 1) (As := [.int v2]) (rest := []) X hml hTW (c_o_ofT l hfl G hG (bd_of h hbd)) (gw_W X.2.2.2.1 ml_o_66 im_o_of se_o_of k_o_of in_o (by decide +kernel) rfl rfl (by rw [hR]; exact ⟨Nat.le_of_ble_eq_true rfl, Nat.le_of_ble_eq_true rfl⟩)) hP0 hP hS hl.1 rfl rfl (Nat.le_of_ble_eq_true rfl) d_o_carry_16 hlk hne (by rw [hR]; exact ⟨Nat.le_of_ble_eq_true rfl, Nat.le_of_ble_eq_true rfl⟩)
end
section
/-! 22: plain laws: lines cut into parts -/
theorem era_seg (A : List Nat) (x y : Nat) (B : List Nat) : (A ++ x :: y :: B).eraseIdx (A.length + 1) = A ++ x :: B := by
  have h := era_app (A ++ [x]) y B
  rw [List.append_assoc, List.append_assoc] at h
  rw [List.length_append] at h
  exact h
theorem ins_seg (A : List Nat) (x y : Nat) (B : List Nat) : (A ++ x :: B).insertIdx (A.length + 1) y = A ++ x :: y :: B := by
  have h := ins_app (A ++ [x]) y B
  rw [List.append_assoc, List.append_assoc] at h
  rw [List.length_append] at h
  exact h
theorem ni_iff {Z : List Nat} {x : Nat} : (∀ i : Nat, Z[i]? ≠ some x) ↔ x ∉ Z := by
  constructor
  · intro h hx
    obtain ⟨i, hi⟩ := List.mem_iff_getElem?.mp hx
    exact h i hi
  · intro h i hi
    exact h (List.mem_iff_getElem?.mpr ⟨i, hi⟩)
theorem Ov.perm {L : Nat → Nat} {b n : Nat → Option Nat} {t : Nat → Bool} {F : Nat → Nat} {nf la mn : Nat} {Z Z2 : List Nat} (h : Ln L b n t la mn Z2) (hm : ∀ x, x ∈ Z2 ↔ x ∈ Z) (hl : Z2.length = Z.length) (hH : Hp F nf (fun x => ∀ i : Nat, Z[i]? ≠ some x)) (hlen : nf + Z.length = 1000) : Ov (L, b, n, t, F, nf, la, mn) Z2 :=
  ⟨h, hH.congr (fun x _ => by rw [ni_iff, ni_iff, hm]), by rw [hl]; exact hlen⟩
theorem hd_app (K : List Nat) (w : Nat) (S : List Nat) : (K ++ w :: S)[0]? = (K ++ [w])[0]? := by cases K <;> rfl
end
section
/-! 23: OrderLine's calls: greatest, clear, several (by program: gen/o6.py) -/
set_option maxHeartbeats 4000000 in
set_option maxRecDepth 100000 in
/-- greatest(a, b) -/
theorem c_o_greatest (l : Launch) (G : OG) (hG : ol_ok G) {L : Nat → Nat} {b n : Nat → Option Nat} {t : Nat → Bool} {F : Nat → Nat} {nf la mn : Nat} {Z : List Nat} {pa pb xa xb : Nat} (hO : Ov (L, b, n, t, F, nf, la, mn) Z) (ha : Z[pa]? = some xa) (hb0 : Z[pb]? = some xb) : ol_M l y_o_greatest b_o_greatest 7 (some .int) ({ frames := 2, cells := 0, slots := 0, locals := 42 }) G [.int (nI xa), .int (nI xb)] (L, b, n, t, F, nf, la, mn) (ol_Qi G (fun r u => (r = if pb < pa then -1 else nI (gm Z pa (pb - pa + 1))) ∧ Ov u Z)) := by
  refine ol_mi (by decide) rfl hG (Nat.le_of_ble_eq_true rfl) (fun p e R s m args below meth c Q ls hR X hml hP hS hl hend => ?_)
  have hx := X.1
  have hb := X.2.1
  have hl : lv_has ls 7 [(0, .ref (ol_h G)), (1, .int (nI xa)), (2, .int (nI xb))] := hl
  obtain ⟨h, hH, hlen⟩ := hO
  have hb3 : ∀ {i z : Nat}, Z[i]? = some z → z < 1000 := fun {i z} hz => h.2.2.1 i z hz
  have hLa : L xa < 2 ^ 40 := h.2.2.2.2.2.2.2.1 _ _ ha
  have hLb : L xb < 2 ^ 40 := h.2.2.2.2.2.2.2.1 _ _ hb0
  have hxb := hb3 hb0
  refine lv_aload_n hx hb d_o_greatest_0 rfl (lv_at hl 0 rfl) ?_
  refine lv_iload_n hx hb d_o_greatest_1 rfl (lv_at hl 1 rfl) ?_
  refine ol_cr (n := 1) (As := [.int (nI xa)]) (rest := []) X hml (c_o_of l G hG (hb3 ha) ((h.2.2.2.2.2.2.2.2.1 _ (hb3 ha)).mpr ⟨_, ha⟩)) (gw_W X.2.2.2.1 ml_o_66 im_o_of se_o_of k_o_of in_o (by decide +kernel) rfl rfl (by rw [hR]; exact ⟨Nat.le_of_ble_eq_true rfl, Nat.le_of_ble_eq_true rfl⟩)) hP hS hl.1 rfl rfl (Nat.le_of_ble_eq_true rfl) d_o_greatest_2 (fun r u' H locs hq hP hS => ?_)
  obtain ⟨hr0, hu0⟩ := hq
  rw [hr0]
  rw [hu0] at hP
  refine lv_astore_n (lv' := [(3, .ref (ol_a G xa)), (0, .ref (ol_h G)), (1, .int (nI xa)), (2, .int (nI xb))]) hx hb d_o_greatest_5 rfl hl (by decide) rfl (fun ls hl => ?_)
  refine lv_aload_n hx hb d_o_greatest_6 rfl (lv_at hl 1 rfl) ?_
  refine lv_iload_n hx hb d_o_greatest_7 rfl (lv_at hl 3 rfl) ?_
  refine ol_cr (n := 1) (As := [.int (nI xb)]) (rest := []) X hml (c_o_of l G hG (hb3 hb0) ((h.2.2.2.2.2.2.2.2.1 _ (hb3 hb0)).mpr ⟨_, hb0⟩)) (gw_W X.2.2.2.1 ml_o_66 im_o_of se_o_of k_o_of in_o (by decide +kernel) rfl rfl (by rw [hR]; exact ⟨Nat.le_of_ble_eq_true rfl, Nat.le_of_ble_eq_true rfl⟩)) hP hS hl.1 rfl rfl (Nat.le_of_ble_eq_true rfl) d_o_greatest_8 (fun r u' H locs hq hP hS => ?_)
  obtain ⟨hr0, hu0⟩ := hq
  rw [hr0]
  rw [hu0] at hP
  refine lv_astore (lv' := [(4, .ref (ol_a G xb)), (3, .ref (ol_a G xa)), (0, .ref (ol_h G)), (1, .int (nI xa)), (2, .int (nI xb))]) hx hb d_o_greatest_11 hl (by decide) rfl (fun ls hl => ?_)
  refine lv_aload_n hx hb d_o_greatest_13 rfl (lv_at hl 1 rfl) ?_
  refine g_label X hP (hb3 ha) d_o_greatest_14 ?_
  refine lv_aload hx hb d_o_greatest_17 (lv_at hl 0 rfl) ?_
  refine g_label X hP (hb3 hb0) d_o_greatest_19 ?_
  refine lb_le (tgt := 28) hx hb (by omega) (by omega) d_o_greatest_22 d_o_greatest_23 (by decide) (fun q => ?_) (fun q => ?_)
  · have hab : pa ≤ pb := by
      rcases Nat.lt_or_ge pb pa with c1 | c1
      · have := (h.lt hb0 ha).mpr c1; omega
      · exact c1
    have loop : ∀ (d k y : Nat), pa + k + d = pb → Z[pa + k]? = some y → ∀ (ls : Array Slot), lv_has ls 7 [(6, .ref (ol_a G y)), (5, .int (nI (Nat.max xb (gm Z pa k)))), (0, .ref (ol_h G)), (4, .ref (ol_a G xb))] → W p l e R s m args below meth c H locs 0 0 Q (F0 m 38 ls []) := by
      intro d
      induction d with
      | zero =>
        intro k y hd hy ls hl
        refine lv_aload hx hb d_o_greatest_38 (lv_at hl 0 rfl) ?_
        refine lv_aload hx hb d_o_greatest_40 (lv_at hl 3 rfl) ?_
        refine o_acmp_eq (tgt := 67) X (hb3 hy) (hb3 hb0) d_o_greatest_42 (by decide) (fun q2 => ?_) (fun q2 => ?_)
        · refine lv_iload hx hb d_o_greatest_67 (lv_at hl 1 rfl) ?_
          refine tp_i (nI (gm Z pa (pb - pa + 1))) (congrArg nI (by rw [show pb - pa = k by omega, gm_s, gd_of hy, show y = xb from q2]; exact Nat.max_comm _ _)) ?_
          exact hend _ _ _ _ _ _ hP hS d_o_greatest_69 ⟨by rw [if_neg (by omega)], h, hH, hlen⟩
        · exact absurd (Option.some.inj (hy.symm.trans (by rw [show pa + k = pb by omega]; exact hb0))) q2
      | succ d ih =>
        intro k y hd hy ls hl
        obtain ⟨y2, hy2⟩ := gt_ex (Z := Z) (i := pa + (k + 1)) (by have := gt_lt hb0; omega)
        have hm1 : Nat.max xb (gm Z pa k) < 1000 := Nat.max_lt.mpr ⟨hxb, gm_lt h.2.2.1 pa k⟩
        have hy1 := hb3 hy
        refine lv_aload hx hb d_o_greatest_38 (lv_at hl 0 rfl) ?_
        refine lv_aload hx hb d_o_greatest_40 (lv_at hl 3 rfl) ?_
        refine o_acmp_eq (tgt := 67) X (hb3 hy) (hb3 hb0) d_o_greatest_42 (by decide) (fun q2 => ?_) (fun q2 => ?_)
        · exact absurd (h.ndc _ _ _ hy (by rw [q2]; exact hb0)) (by omega)
        · refine lv_iload hx hb d_o_greatest_45 (lv_at hl 1 rfl) ?_
          refine lv_aload hx hb d_o_greatest_47 (lv_at hl 0 rfl) ?_
          refine g_number X hP (hb3 hy) d_o_greatest_49 ?_
          refine va_mmax hx hb (hml.trans hl.1.symm) X.2.2.1 (X.2.2.2.1 _ ml_o_max) (X.2.2.2.1 _ sm_max) (X.2.2.2.1 _ in_mt) (X.2.2.2.1 _ k_max) (by rw [hR]; exact Nat.le_of_ble_eq_true rfl) (by rw [hR]; exact Nat.le_of_ble_eq_true rfl) (Nat.zero_le _) (Nat.zero_le _) d_o_greatest_52 ?_
          refine tp_i (nI (Nat.max xb (gm Z pa (k + 1)))) ((mx_nI (by omega) (by omega)).trans (congrArg nI (by rw [gm_s, gd_of hy]; exact Nat.max_assoc _ _ _))) ?_
          refine lv_istore (lv' := [(5, .int (nI (Nat.max xb (gm Z pa (k + 1))))), (6, .ref (ol_a G y)), (0, .ref (ol_h G)), (4, .ref (ol_a G xb))]) hx hb d_o_greatest_55 hl (by decide) rfl (fun ls hl => ?_)
          refine lv_aload hx hb d_o_greatest_57 (lv_at hl 1 rfl) ?_
          refine g_next (o := (some y2)) X hP (hb3 hy) ((h.2.2.2.1 _ _ hy).trans hy2) d_o_greatest_59 ?_
          refine lv_astore (lv' := [(6, .ref (ol_a G y2)), (5, .int (nI (Nat.max xb (gm Z pa (k + 1))))), (0, .ref (ol_h G)), (4, .ref (ol_a G xb))]) hx hb d_o_greatest_62 hl (by decide) rfl (fun ls hl => ?_)
          refine lv_goto (tgt := 38) hx hb d_o_greatest_64 (by decide) ?_
          exact ih (k + 1) y2 (by omega) hy2 ls (lv_sub hl [0, 1, 2, 3] rfl)
    refine lv_aload hx hb d_o_greatest_28 (lv_at hl 0 rfl) ?_
    refine g_number X hP (hb3 hb0) d_o_greatest_30 ?_
    refine lv_istore (lv' := [(5, .int (nI xb)), (4, .ref (ol_a G xb)), (3, .ref (ol_a G xa)), (0, .ref (ol_h G)), (1, .int (nI xa)), (2, .int (nI xb))]) hx hb d_o_greatest_33 hl (by decide) rfl (fun ls hl => ?_)
    refine lv_aload_n hx hb d_o_greatest_35 rfl (lv_at hl 2 rfl) ?_
    refine lv_astore (lv' := [(6, .ref (ol_a G xa)), (5, .int (nI xb)), (4, .ref (ol_a G xb)), (3, .ref (ol_a G xa)), (0, .ref (ol_h G)), (1, .int (nI xa)), (2, .int (nI xb))]) hx hb d_o_greatest_36 hl (by decide) rfl (fun ls hl => ?_)
    exact loop (pb - pa) 0 xa (by omega) ha ls (by rw [show Nat.max xb (gm Z pa 0) = xb from Nat.max_eq_left (Nat.zero_le _)]; exact (lv_sub hl [0, 1, 4, 2] rfl))
  · refine lv_iconst (v := (-1)) hx hb d_o_greatest_26 (by decide) ?_
    exact hend _ _ _ _ _ _ hP hS d_o_greatest_27 ⟨by rw [if_pos ((h.lt hb0 ha).mp q)], h, hH, hlen⟩
set_option maxHeartbeats 4000000 in
set_option maxRecDepth 100000 in
/-- clear(a, b), b not behind a -/
theorem c_o_clear0 (l : Launch) (G : OG) (hG : ol_ok G) {L : Nat → Nat} {b n : Nat → Option Nat} {t : Nat → Bool} {F : Nat → Nat} {nf la mn : Nat} {Z : List Nat} {pa pb xa xb : Nat} (hO : Ov (L, b, n, t, F, nf, la, mn) Z) (ha : Z[pa]? = some xa) (hb0 : Z[pb]? = some xb) (hba : pb ≤ pa) : ol_M l y_o_clear b_o_clear 7 (some .int) ({ frames := 2, cells := 0, slots := 0, locals := 42 }) G [.int (nI xa), .int (nI xb)] (L, b, n, t, F, nf, la, mn) (ol_Qi G (fun r u => r = nI 0 ∧ Ov u Z)) := by
  refine ol_mi (by decide) rfl hG (Nat.le_of_ble_eq_true rfl) (fun p e R s m args below meth c Q ls hR X hml hP hS hl hend => ?_)
  have hx := X.1
  have hb := X.2.1
  have hl : lv_has ls 7 [(0, .ref (ol_h G)), (1, .int (nI xa)), (2, .int (nI xb))] := hl
  obtain ⟨h, hH, hlen⟩ := hO
  have hb3 : ∀ {i z : Nat}, Z[i]? = some z → z < 1000 := fun {i z} hz => h.2.2.1 i z hz
  have hLa : L xa < 2 ^ 40 := h.2.2.2.2.2.2.2.1 _ _ ha
  have hLb : L xb < 2 ^ 40 := h.2.2.2.2.2.2.2.1 _ _ hb0
  refine lv_aload_n hx hb d_o_clear_0 rfl (lv_at hl 0 rfl) ?_
  refine lv_iload_n hx hb d_o_clear_1 rfl (lv_at hl 1 rfl) ?_
  refine ol_cr (n := 1) (As := [.int (nI xa)]) (rest := []) X hml (c_o_of l G hG (hb3 ha) ((h.2.2.2.2.2.2.2.2.1 _ (hb3 ha)).mpr ⟨_, ha⟩)) (gw_W X.2.2.2.1 ml_o_66 im_o_of se_o_of k_o_of in_o (by decide +kernel) rfl rfl (by rw [hR]; exact ⟨Nat.le_of_ble_eq_true rfl, Nat.le_of_ble_eq_true rfl⟩)) hP hS hl.1 rfl rfl (Nat.le_of_ble_eq_true rfl) d_o_clear_2 (fun r u' H locs hq hP hS => ?_)
  obtain ⟨hr0, hu0⟩ := hq
  rw [hr0]
  rw [hu0] at hP
  refine lv_astore_n (lv' := [(3, .ref (ol_a G xa)), (0, .ref (ol_h G)), (1, .int (nI xa)), (2, .int (nI xb))]) hx hb d_o_clear_5 rfl hl (by decide) rfl (fun ls hl => ?_)
  refine lv_aload_n hx hb d_o_clear_6 rfl (lv_at hl 1 rfl) ?_
  refine lv_iload_n hx hb d_o_clear_7 rfl (lv_at hl 3 rfl) ?_
  refine ol_cr (n := 1) (As := [.int (nI xb)]) (rest := []) X hml (c_o_of l G hG (hb3 hb0) ((h.2.2.2.2.2.2.2.2.1 _ (hb3 hb0)).mpr ⟨_, hb0⟩)) (gw_W X.2.2.2.1 ml_o_66 im_o_of se_o_of k_o_of in_o (by decide +kernel) rfl rfl (by rw [hR]; exact ⟨Nat.le_of_ble_eq_true rfl, Nat.le_of_ble_eq_true rfl⟩)) hP hS hl.1 rfl rfl (Nat.le_of_ble_eq_true rfl) d_o_clear_8 (fun r u' H locs hq hP hS => ?_)
  obtain ⟨hr0, hu0⟩ := hq
  rw [hr0]
  rw [hu0] at hP
  refine lv_astore (lv' := [(4, .ref (ol_a G xb)), (3, .ref (ol_a G xa)), (0, .ref (ol_h G)), (1, .int (nI xa)), (2, .int (nI xb))]) hx hb d_o_clear_11 hl (by decide) rfl (fun ls hl => ?_)
  refine lv_iconst (v := (nI 0)) hx hb d_o_clear_13 (by decide) ?_
  refine lv_istore (lv' := [(5, .int (nI 0)), (4, .ref (ol_a G xb)), (3, .ref (ol_a G xa)), (0, .ref (ol_h G)), (1, .int (nI xa)), (2, .int (nI xb))]) hx hb d_o_clear_14 hl (by decide) rfl (fun ls hl => ?_)
  refine lv_aload_n hx hb d_o_clear_16 rfl (lv_at hl 2 rfl) ?_
  refine g_label X hP (hb3 ha) d_o_clear_17 ?_
  refine lv_aload hx hb d_o_clear_20 (lv_at hl 1 rfl) ?_
  refine g_label X hP (hb3 hb0) d_o_clear_22 ?_
  refine lb_ge (tgt := 67) hx hb (by omega) (by omega) d_o_clear_25 d_o_clear_26 (by decide) (fun q => ?_) (fun q => ?_)
  · refine lv_iload hx hb d_o_clear_67 (lv_at hl 0 rfl) ?_
    exact hend _ _ _ _ _ _ hP hS d_o_clear_69 ⟨rfl, h, hH, hlen⟩
  · exact absurd ((h.lt ha hb0).mp q) (by omega)
set_option maxHeartbeats 4000000 in
set_option maxRecDepth 100000 in
/-- clear(a, b) -/
theorem c_o_clear (l : Launch) (G : OG) (hG : ol_ok G) {L : Nat → Nat} {b n : Nat → Option Nat} {t : Nat → Bool} {F : Nat → Nat} {nf la mn : Nat} {A M S : List Nat} {xa xb : Nat} (hO : Ov (L, b, n, t, F, nf, la, mn) (A ++ xa :: (M ++ xb :: S))) : ol_M l y_o_clear b_o_clear 7 (some .int) ({ frames := 2, cells := 0, slots := 0, locals := 42 }) G [.int (nI xa), .int (nI xb)] (L, b, n, t, F, nf, la, mn) (ol_Qi G (fun r u => r = nI M.length ∧ Ov u (A ++ xa :: xb :: S))) := by
  refine ol_mi (by decide) rfl hG (Nat.le_of_ble_eq_true rfl) (fun p e R s m args below meth c Q ls hR X hml hP hS hl hend => ?_)
  have hx := X.1
  have hb := X.2.1
  have hl : lv_has ls 7 [(0, .ref (ol_h G)), (1, .int (nI xa)), (2, .int (nI xb))] := hl
  have loop : ∀ (K : List Nat) (j : Nat) (L : Nat → Nat) (b n : Nat → Option Nat) (t : Nat → Bool) (F : Nat → Nat) (nf la mn : Nat), j + K.length = M.length → Ov (L, b, n, t, F, nf, la, mn) (A ++ xa :: (K ++ xb :: S)) → ∀ (H : Heap) (locs : List Loc), ol_P G (L, b, n, t, F, nf, la, mn) H → va_S (ol_A G) s.heap H locs → ∀ (ls : Array Slot), lv_has ls 7 [(5, .int (nI j)), (0, .ref (ol_h G)), (3, .ref (ol_a G xa)), (4, .ref (ol_a G xb))] → W p l e R s m args below meth c H locs 0 0 Q (F0 m 16 ls []) := by
    intro K
    induction K with
    | nil =>
      intro j L b n t F nf la mn hj hO H locs hP hS ls hl
      obtain ⟨h, hH, hlen⟩ := hO
      have hb3 : ∀ {i z : Nat}, (A ++ xa :: ([] ++ xb :: S))[i]? = some z → z < 1000 := fun {i z} hz => h.2.2.1 i z hz
      have ha : (A ++ xa :: ([] ++ xb :: S))[A.length]? = some xa := app_at _ _ _
      have hb0 : (A ++ xa :: ([] ++ xb :: S))[(A ++ xa :: []).length]? = some xb := by
        rw [show A ++ xa :: ([] ++ xb :: S) = (A ++ xa :: []) ++ xb :: S by simp]; exact app_at _ _ _
      have hab : A.length < (A ++ xa :: []).length := by simp
      have hLa : L xa < 2 ^ 40 := h.2.2.2.2.2.2.2.1 _ _ ha
      have hLb : L xb < 2 ^ 40 := h.2.2.2.2.2.2.2.1 _ _ hb0
      refine lv_aload_n hx hb d_o_clear_16 rfl (lv_at hl 2 rfl) ?_
      refine g_label X hP (hb3 ha) d_o_clear_17 ?_
      refine lv_aload hx hb d_o_clear_20 (lv_at hl 3 rfl) ?_
      refine g_label X hP (hb3 hb0) d_o_clear_22 ?_
      refine lb_ge (tgt := 67) hx hb (by omega) (by omega) d_o_clear_25 d_o_clear_26 (by decide) (fun q => ?_) (fun q => ?_)
      · exact absurd ((h.lt ha hb0).mpr hab) (by omega)
      · refine lv_aload_n hx hb d_o_clear_29 rfl (lv_at hl 2 rfl) ?_
        refine g_next (o := (some xb)) X hP (hb3 ha) ((h.2.2.2.1 _ _ ha).trans (app_nx _ _ _)) d_o_clear_30 ?_
        refine lv_aload hx hb d_o_clear_33 (lv_at hl 3 rfl) ?_
        refine o_acmp_eq (tgt := 67) X (hb3 hb0) (hb3 hb0) d_o_clear_35 (by decide) (fun q2 => ?_) (fun q2 => ?_)
        · refine lv_iload hx hb d_o_clear_67 (lv_at hl 0 rfl) ?_
          exact hend _ _ _ _ _ _ hP hS d_o_clear_69 ⟨congrArg nI (by rw [← hj]; rfl), h, hH, hlen⟩
        · exact absurd rfl q2
    | cons y K ih =>
      intro j L b n t F nf la mn hj hO H locs hP hS ls hl
      obtain ⟨h, hH, hlen⟩ := hO
      have hb3 : ∀ {i z : Nat}, (A ++ xa :: ((y :: K) ++ xb :: S))[i]? = some z → z < 1000 := fun {i z} hz => h.2.2.1 i z hz
      have ha : (A ++ xa :: ((y :: K) ++ xb :: S))[A.length]? = some xa := app_at _ _ _
      have hb0 : (A ++ xa :: ((y :: K) ++ xb :: S))[(A ++ xa :: (y :: K)).length]? = some xb := by
        rw [show A ++ xa :: ((y :: K) ++ xb :: S) = (A ++ xa :: (y :: K)) ++ xb :: S by simp]; exact app_at _ _ _
      have hab : A.length < (A ++ xa :: (y :: K)).length := by simp
      have hLa : L xa < 2 ^ 40 := h.2.2.2.2.2.2.2.1 _ _ ha
      have hLb : L xb < 2 ^ 40 := h.2.2.2.2.2.2.2.1 _ _ hb0
      have hy : (A ++ xa :: ((y :: K) ++ xb :: S))[A.length + 1]? = some y := app_nx _ _ _
      refine lv_aload_n hx hb d_o_clear_16 rfl (lv_at hl 2 rfl) ?_
      refine g_label X hP (hb3 ha) d_o_clear_17 ?_
      refine lv_aload hx hb d_o_clear_20 (lv_at hl 3 rfl) ?_
      refine g_label X hP (hb3 hb0) d_o_clear_22 ?_
      refine lb_ge (tgt := 67) hx hb (by omega) (by omega) d_o_clear_25 d_o_clear_26 (by decide) (fun q => ?_) (fun q => ?_)
      · exact absurd ((h.lt ha hb0).mpr hab) (by omega)
      · refine lv_aload_n hx hb d_o_clear_29 rfl (lv_at hl 2 rfl) ?_
        refine g_next (o := (some y)) X hP (hb3 ha) ((h.2.2.2.1 _ _ ha).trans hy) d_o_clear_30 ?_
        refine lv_aload hx hb d_o_clear_33 (lv_at hl 3 rfl) ?_
        refine o_acmp_eq (tgt := 67) X (hb3 hy) (hb3 hb0) d_o_clear_35 (by decide) (fun q2 => ?_) (fun q2 => ?_)
        · exact absurd (h.ndc _ _ _ hy (hb0.trans (congrArg some q2.symm))) (fun z => by rw [List.length_append, List.length_cons, List.length_cons] at z; omega)
        · refine lv_aload_n hx hb d_o_clear_38 rfl (lv_at hl 2 rfl) ?_
          refine g_next (o := (some y)) X hP (hb3 ha) ((h.2.2.2.1 _ _ ha).trans hy) d_o_clear_39 ?_
          refine g_number X hP (hb3 hy) d_o_clear_42 ?_
          refine lv_istore (lv' := [(6, .int (nI y)), (5, .int (nI j)), (0, .ref (ol_h G)), (3, .ref (ol_a G xa)), (4, .ref (ol_a G xb))]) hx hb d_o_clear_45 hl (by decide) rfl (fun ls hl => ?_)
          refine lv_aload_n hx hb d_o_clear_47 rfl (lv_at hl 2 rfl) ?_
          refine lv_aload_n hx hb d_o_clear_48 rfl (lv_at hl 3 rfl) ?_
          refine g_next (o := (some y)) X hP (hb3 ha) ((h.2.2.2.1 _ _ ha).trans hy) d_o_clear_49 ?_
          refine ol_cv (n := 1) (As := [.ref (ol_a G y)]) (rest := []) X hml (c_o_unlink l G hG h hy ha) (gw_W X.2.2.2.1 ml_o_81 im_o_unlink se_o_unlink k_o_unlink in_o (by decide +kernel) rfl rfl (by rw [hR]; exact ⟨Nat.le_of_ble_eq_true rfl, Nat.le_of_ble_eq_true rfl⟩)) hP hS hl.1 rfl rfl (Nat.le_of_ble_eq_true rfl) d_o_clear_52 (fun u' H locs hq hP hS => ?_)
          obtain ⟨b', n', t', la', hu2, h2⟩ := hq
          rw [hu2] at hP
          refine lv_aload_n hx hb d_o_clear_55 rfl (lv_at hl 2 rfl) ?_
          refine lv_iload hx hb d_o_clear_56 (lv_at hl 0 rfl) ?_
          refine ol_cv (n := 1) (As := [.int (nI y)]) (rest := []) X hml (c_o_giveNumber l G hG hH (by have := gt_lt hy; omega) (hb3 hy) (fun hq => hq _ hy)) (gw_W X.2.2.2.1 ml_o_84 im_o_giveNumber se_o_giveNumber k_o_giveNumber in_o (by decide +kernel) rfl rfl (by rw [hR]; exact ⟨Nat.le_of_ble_eq_true rfl, Nat.le_of_ble_eq_true rfl⟩)) hP hS hl.1 rfl rfl (Nat.le_of_ble_eq_true rfl) d_o_clear_58 (fun u' H locs hq hP hS => ?_)
          obtain ⟨F', hu3, hH2⟩ := hq
          rw [hu3] at hP
          have hO2 := Ov.del h2 h.ndc hy hH2 hlen
          rw [show (A ++ xa :: ((y :: K) ++ xb :: S)).eraseIdx (A.length + 1) = A ++ xa :: (K ++ xb :: S) from era_seg _ _ _ _] at hO2
          refine lv_iinc (v := nI (j + 1)) (lv' := [(5, .int (nI (j + 1))), (6, .int (nI y)), (0, .ref (ol_h G)), (3, .ref (ol_a G xa)), (4, .ref (ol_a G xb))]) hx hb d_o_clear_61 hl (k := 1) rfl (nI_1 _) (by decide) rfl (fun ls hl => ?_)
          refine lv_goto (tgt := 16) hx hb d_o_clear_64 (by decide) ?_
          exact ih (j + 1) _ _ _ _ _ _ _ _ (by rw [List.length_cons] at hj; omega) hO2 _ _ hP hS ls (lv_sub hl [0, 2, 3, 4] rfl)
  obtain ⟨h, hH, hlen⟩ := hO
  have hb3 : ∀ {i z : Nat}, (A ++ xa :: (M ++ xb :: S))[i]? = some z → z < 1000 := fun {i z} hz => h.2.2.1 i z hz
  have ha : (A ++ xa :: (M ++ xb :: S))[A.length]? = some xa := app_at _ _ _
  have hb0 : (A ++ xa :: (M ++ xb :: S))[(A ++ xa :: M).length]? = some xb := by
    rw [show A ++ xa :: (M ++ xb :: S) = (A ++ xa :: M) ++ xb :: S by simp]; exact app_at _ _ _
  have hab : A.length < (A ++ xa :: M).length := by simp
  refine lv_aload_n hx hb d_o_clear_0 rfl (lv_at hl 0 rfl) ?_
  refine lv_iload_n hx hb d_o_clear_1 rfl (lv_at hl 1 rfl) ?_
  refine ol_cr (n := 1) (As := [.int (nI xa)]) (rest := []) X hml (c_o_of l G hG (hb3 ha) ((h.2.2.2.2.2.2.2.2.1 _ (hb3 ha)).mpr ⟨_, ha⟩)) (gw_W X.2.2.2.1 ml_o_66 im_o_of se_o_of k_o_of in_o (by decide +kernel) rfl rfl (by rw [hR]; exact ⟨Nat.le_of_ble_eq_true rfl, Nat.le_of_ble_eq_true rfl⟩)) hP hS hl.1 rfl rfl (Nat.le_of_ble_eq_true rfl) d_o_clear_2 (fun r u' H locs hq hP hS => ?_)
  obtain ⟨hr0, hu0⟩ := hq
  rw [hr0]
  rw [hu0] at hP
  refine lv_astore_n (lv' := [(3, .ref (ol_a G xa)), (0, .ref (ol_h G)), (1, .int (nI xa)), (2, .int (nI xb))]) hx hb d_o_clear_5 rfl hl (by decide) rfl (fun ls hl => ?_)
  refine lv_aload_n hx hb d_o_clear_6 rfl (lv_at hl 1 rfl) ?_
  refine lv_iload_n hx hb d_o_clear_7 rfl (lv_at hl 3 rfl) ?_
  refine ol_cr (n := 1) (As := [.int (nI xb)]) (rest := []) X hml (c_o_of l G hG (hb3 hb0) ((h.2.2.2.2.2.2.2.2.1 _ (hb3 hb0)).mpr ⟨_, hb0⟩)) (gw_W X.2.2.2.1 ml_o_66 im_o_of se_o_of k_o_of in_o (by decide +kernel) rfl rfl (by rw [hR]; exact ⟨Nat.le_of_ble_eq_true rfl, Nat.le_of_ble_eq_true rfl⟩)) hP hS hl.1 rfl rfl (Nat.le_of_ble_eq_true rfl) d_o_clear_8 (fun r u' H locs hq hP hS => ?_)
  obtain ⟨hr0, hu0⟩ := hq
  rw [hr0]
  rw [hu0] at hP
  refine lv_astore (lv' := [(4, .ref (ol_a G xb)), (3, .ref (ol_a G xa)), (0, .ref (ol_h G)), (1, .int (nI xa)), (2, .int (nI xb))]) hx hb d_o_clear_11 hl (by decide) rfl (fun ls hl => ?_)
  refine lv_iconst (v := (nI 0)) hx hb d_o_clear_13 (by decide) ?_
  refine lv_istore (lv' := [(5, .int (nI 0)), (4, .ref (ol_a G xb)), (3, .ref (ol_a G xa)), (0, .ref (ol_h G)), (1, .int (nI xa)), (2, .int (nI xb))]) hx hb d_o_clear_14 hl (by decide) rfl (fun ls hl => ?_)
  exact loop M 0 L b n t F nf la mn (Nat.zero_add _) ⟨h, hH, hlen⟩ _ _ hP hS ls (lv_sub hl [0, 3, 2, 1] rfl)
set_option maxHeartbeats 4000000 in
set_option maxRecDepth 100000 in
/-- several(x, v) -/
theorem c_o_several (l : Launch) (G : OG) (hG : ol_ok G) {L : Nat → Nat} {b n : Nat → Option Nat} {t : Nat → Bool} {F : Nat → Nat} {nf la mn : Nat} {Z : List Nat} {pp x : Nat} {v : Int32} (hO : Ov (L, b, n, t, F, nf, la, mn) Z) (hx0 : Z[pp]? = some x) : ol_M l y_o_several b_o_several 8 (some .int) ({ frames := 2, cells := 0, slots := 0, locals := 59 }) G [.int (nI x), .int v] (L, b, n, t, F, nf, la, mn) (ol_Qi G (fun r u => (¬ (∃ k, sk Z v k) ∧ r = -1 ∧ Ov u Z) ∨ ∃ (k m : Nat) (Z' : List Nat), sk Z v k ∧ sev k Z (pp + 1) Z' ∧ fr Z m ∧ r = nI m ∧ Ov u Z')) := by
  refine ol_mi (by decide) rfl hG (Nat.le_of_ble_eq_true rfl) (fun p e R s m args below meth c Q ls hR X hml hP hS hl hend => ?_)
  have hx := X.1
  have hb := X.2.1
  have hl : lv_has ls 8 [(0, .ref (ol_h G)), (1, .int (nI x)), (2, .int v)] := hl
  obtain ⟨h, hH, hlen⟩ := hO
  have hb3 : ∀ {i z : Nat}, Z[i]? = some z → z < 1000 := fun {i z} hz => h.2.2.1 i z hz
  refine lv_aload_n hx hb d_o_several_0 rfl (lv_at hl 0 rfl) ?_
  refine lv_iload_n hx hb d_o_several_1 rfl (lv_at hl 1 rfl) ?_
  refine ol_cr (n := 1) (As := [.int (nI x)]) (rest := []) X hml (c_o_of l G hG (hb3 hx0) ((h.2.2.2.2.2.2.2.2.1 _ (hb3 hx0)).mpr ⟨_, hx0⟩)) (gw_W X.2.2.2.1 ml_o_66 im_o_of se_o_of k_o_of in_o (by decide +kernel) rfl rfl (by rw [hR]; exact ⟨Nat.le_of_ble_eq_true rfl, Nat.le_of_ble_eq_true rfl⟩)) hP hS hl.1 rfl rfl (Nat.le_of_ble_eq_true rfl) d_o_several_2 (fun r u' H locs hq hP hS => ?_)
  obtain ⟨hr0, hu0⟩ := hq
  rw [hr0]
  rw [hu0] at hP
  refine lv_astore_n (lv' := [(3, .ref (ol_a G x)), (0, .ref (ol_h G)), (1, .int (nI x)), (2, .int v)]) hx hb d_o_several_5 rfl hl (by decide) rfl (fun ls hl => ?_)
  refine lv_iload_n hx hb d_o_several_6 rfl (lv_at hl 3 rfl) ?_
  refine lv_iconst (v := (nI 2)) hx hb d_o_several_7 (by decide) ?_
  refine lv_icmp_lt (tgt := 25) hx hb d_o_several_8 (by decide) (fun q => ?_) (fun q => ?_)
  · refine lv_iconst (v := (-1)) hx hb d_o_several_25 (by decide) ?_
    exact hend _ _ _ _ _ _ hP hS d_o_several_26 (Or.inl ⟨(by rintro ⟨k', rfl, h2', h64, -⟩; have e2 := (nI_ltI (by omega) (by decide)).mp q; omega), rfl, h, hH, hlen⟩)
  · refine lv_iload_n hx hb d_o_several_11 rfl (lv_at hl 3 rfl) ?_
    refine lv_bipush (v := (nI 64)) hx hb d_o_several_12 (by decide) ?_
    refine lv_icmp_gt (tgt := 25) hx hb d_o_several_14 (by decide) (fun q2 => ?_) (fun q2 => ?_)
    · refine lv_iconst (v := (-1)) hx hb d_o_several_25 (by decide) ?_
      exact hend _ _ _ _ _ _ hP hS d_o_several_26 (Or.inl ⟨(by rintro ⟨k', rfl, -, h64, -⟩; have e2 := (nI_ltI (by decide) (by omega)).mp q2; omega), rfl, h, hH, hlen⟩)
    · obtain ⟨k, hk2, hk64, rfl⟩ := nI_rng (by decide) (by decide) q q2
      refine lv_iload_n hx hb d_o_several_17 rfl (lv_at hl 3 rfl) ?_
      refine lv_aload_n hx hb d_o_several_18 rfl (lv_at hl 1 rfl) ?_
      refine g_frees X hP d_o_several_19 ?_
      refine nb_le (tgt := 27) hx hb (by omega) (by omega) d_o_several_22 (by decide) (fun q3 => ?_) (fun q3 => ?_)
      · have hfr0 := fr_of hH (by omega)
        have hskk : sk Z (nI k) k := ⟨rfl, hk2, hk64, by omega⟩
        obtain ⟨m0, em0⟩ : ∃ m0, m0 = F 0 := ⟨_, rfl⟩
        rw [← em0] at hfr0
        have loop : ∀ (d j : Nat) (fv : Int32) (w0 : Nat) (Y : List Nat) (L : Nat → Nat) (b n : Nat → Option Nat) (t : Nat → Bool) (F : Nat → Nat) (nf la mn : Nat), j + d = k → sev j Z (pp + 1) Y → Ov (L, b, n, t, F, nf, la, mn) Y → nf + j + Z.length = 1000 → Y[pp + j]? = some w0 → (0 < j → fv = nI m0) → ∀ (H : Heap) (locs : List Loc), ol_P G (L, b, n, t, F, nf, la, mn) H → va_S (ol_A G) s.heap H locs → ∀ (ls : Array Slot), lv_has ls 8 [(6, .int (nI j)), (0, .ref (ol_h G)), (2, .int (nI k)), (4, .int fv), (5, .ref (ol_a G w0))] → W p l e R s m args below meth c H locs 0 0 Q (F0 m 36 ls []) := by
          intro d
          induction d with
          | zero =>
            intro j fv w0 Y L b n t F nf la mn hd hsv hO hnf hw0 hfv H locs hP hS ls hl
            refine lv_iload hx hb d_o_several_36 (lv_at hl 0 rfl) ?_
            refine lv_iload_n hx hb d_o_several_38 rfl (lv_at hl 2 rfl) ?_
            refine nb_ge (tgt := 88) hx hb (by omega) (by omega) d_o_several_39 (by decide) (fun q4 => ?_) (fun q4 => ?_)
            · refine lv_iload hx hb d_o_several_88 (lv_at hl 3 rfl) ?_
              exact hend _ _ _ _ _ _ hP hS d_o_several_90 (Or.inr ⟨k, m0, Y, hskk, by rw [← hd]; exact hsv, hfr0, hfv (by omega), hO⟩)
            · exact absurd q4 (by omega)
          | succ d ih =>
            intro j fv w0 Y L b n t F nf la mn hd hsv hO hnf hw0 hfv H locs hP hS ls hl
            obtain ⟨h, hH, hlen⟩ := hO
            obtain ⟨nq, rfl⟩ : ∃ nq, nf = nq + 1 := ⟨nf - 1, by omega⟩
            have hfr := fr_of hH (by omega)
            have hw1 : w0 < 1000 := h.2.2.1 _ _ hw0
            have hpl := gt_lt hw0
            refine lv_iload hx hb d_o_several_36 (lv_at hl 0 rfl) ?_
            refine lv_iload_n hx hb d_o_several_38 rfl (lv_at hl 2 rfl) ?_
            refine nb_ge (tgt := 88) hx hb (by omega) (by omega) d_o_several_39 (by decide) (fun q4 => ?_) (fun q4 => ?_)
            · exact absurd q4 (by omega)
            · refine lv_aload_n hx hb d_o_several_42 rfl (lv_at hl 1 rfl) ?_
              refine g_stamps X hP d_o_several_43 ?_
              refine lv_aload_n hx hb d_o_several_46 rfl (lv_at hl 1 rfl) ?_
              refine ol_ci (n := 0) (As := []) (rest := [.ref (ol_s G)]) X hml (c_o_takeNumber l G hG hH (by omega)) (gw_W X.2.2.2.1 ml_o_70 im_o_takeNumber se_o_takeNumber k_o_takeNumber in_o (by decide +kernel) rfl rfl (by rw [hR]; exact ⟨Nat.le_of_ble_eq_true rfl, Nat.le_of_ble_eq_true rfl⟩)) hP hS hl.1 rfl rfl (Nat.le_of_ble_eq_true rfl) d_o_several_47 (fun r u' H locs hq hP hS => ?_)
              obtain ⟨F', hr1, hu1, hH2⟩ := hq
              rw [hr1]
              rw [hu1] at hP
              refine a_stamps X hP hfr.1 d_o_several_50 ?_
              refine lv_astore (lv' := [(7, .ref (ol_a G (F 0))), (6, .int (nI j)), (0, .ref (ol_h G)), (2, .int (nI k)), (4, .int fv), (5, .ref (ol_a G w0))]) hx hb d_o_several_51 hl (by decide) rfl (fun ls hl => ?_)
              refine lv_aload_n hx hb d_o_several_53 rfl (lv_at hl 2 rfl) ?_
              refine lv_aload hx hb d_o_several_54 (lv_at hl 0 rfl) ?_
              refine lv_aload hx hb d_o_several_56 (lv_at hl 5 rfl) ?_
              refine ol_cv (n := 2) (As := [.ref (ol_a G (F 0)), .ref (ol_a G w0)]) (rest := []) X hml (c_o_link l G hG h (by omega) hw0 hfr.1 hfr.2.1) (gw_W X.2.2.2.1 ml_o_74 im_o_link se_o_link k_o_link in_o (by decide +kernel) rfl rfl (by rw [hR]; exact ⟨Nat.le_of_ble_eq_true rfl, Nat.le_of_ble_eq_true rfl⟩)) hP hS hl.1 rfl rfl (Nat.le_of_ble_eq_true rfl) d_o_several_58 (fun u' H locs hq hP hS => ?_)
              obtain ⟨L', b', n', t', la', hu2, h2⟩ := hq
              rw [hu2] at hP
              have hO2 := Ov.ins h2 (by omega) hH2 hlen
              have hsv2 : sev (j + 1) Z (pp + 1) (Y.insertIdx (pp + j + 1) (F 0)) := ⟨Y, F 0, hsv, hfr, by rw [show pp + 1 + j = pp + j + 1 by omega]⟩
              have hat : (Y.insertIdx (pp + j + 1) (F 0))[pp + (j + 1)]? = some (F 0) := by rw [ins_get (by omega), if_neg (by omega), if_pos (by omega)]
              have mid : ∀ (fv' : Int32), fv' = nI m0 → W p l e R s m args below meth c H locs 0 0 Q (F0 m 76 ls [.int fv']) := by
                intro fv' hfv'
                refine lv_istore (lv' := [(4, .int fv'), (7, .ref (ol_a G (F 0))), (6, .int (nI j)), (0, .ref (ol_h G)), (2, .int (nI k)), (5, .ref (ol_a G w0))]) hx hb d_o_several_76 hl (by decide) rfl (fun ls hl => ?_)
                refine lv_aload hx hb d_o_several_78 (lv_at hl 1 rfl) ?_
                refine lv_astore (lv' := [(5, .ref (ol_a G (F 0))), (4, .int fv'), (7, .ref (ol_a G (F 0))), (6, .int (nI j)), (0, .ref (ol_h G)), (2, .int (nI k))]) hx hb d_o_several_80 hl (by decide) rfl (fun ls hl => ?_)
                refine lv_iinc (v := nI (j + 1)) (lv' := [(6, .int (nI (j + 1))), (5, .ref (ol_a G (F 0))), (4, .int fv'), (7, .ref (ol_a G (F 0))), (0, .ref (ol_h G)), (2, .int (nI k))]) hx hb d_o_several_82 hl (k := 3) rfl (nI_1 _) (by decide) rfl (fun ls hl => ?_)
                refine lv_goto (tgt := 36) hx hb d_o_several_85 (by decide) ?_
                exact ih (j + 1) fv' (F 0) _ _ _ _ _ _ _ _ _ (by omega) hsv2 hO2 (by omega) hat (fun _ => hfv') _ _ hP hS ls (lv_sub hl [0, 4, 5, 2, 1] rfl)
              refine lv_iload hx hb d_o_several_61 (lv_at hl 1 rfl) ?_
              refine nz_ne (tgt := 74) hx hb (by omega) d_o_several_63 (by decide) (fun q5 => ?_) (fun q5 => ?_)
              · refine lv_iload hx hb d_o_several_74 (lv_at hl 4 rfl) ?_
                exact mid _ (hfv (by omega))
              · refine lv_aload hx hb d_o_several_66 (lv_at hl 0 rfl) ?_
                refine g_number X hP hfr.1 d_o_several_68 ?_
                refine lv_goto (tgt := 76) hx hb d_o_several_71 (by decide) ?_
                refine mid _ (congrArg nI (fr_uniq hfr ?_))
                rw [q5] at hsv
                rw [show Y = Z from hsv]; exact hfr0
        refine lv_iconst (v := (-1)) hx hb d_o_several_27 (by decide) ?_
        refine lv_istore (lv' := [(4, .int (-1)), (3, .ref (ol_a G x)), (0, .ref (ol_h G)), (1, .int (nI x)), (2, .int (nI k))]) hx hb d_o_several_28 hl (by decide) rfl (fun ls hl => ?_)
        refine lv_aload_n hx hb d_o_several_30 rfl (lv_at hl 1 rfl) ?_
        refine lv_astore (lv' := [(5, .ref (ol_a G x)), (4, .int (-1)), (3, .ref (ol_a G x)), (0, .ref (ol_h G)), (1, .int (nI x)), (2, .int (nI k))]) hx hb d_o_several_31 hl (by decide) rfl (fun ls hl => ?_)
        refine lv_iconst (v := (nI 0)) hx hb d_o_several_33 (by decide) ?_
        refine lv_istore (lv' := [(6, .int (nI 0)), (5, .ref (ol_a G x)), (4, .int (-1)), (3, .ref (ol_a G x)), (0, .ref (ol_h G)), (1, .int (nI x)), (2, .int (nI k))]) hx hb d_o_several_34 hl (by decide) rfl (fun ls hl => ?_)
        exact loop k 0 (-1) x Z L b n t F nf la mn (by omega) rfl ⟨h, hH, hlen⟩ (by omega) hx0 (fun c => absurd c (by omega)) _ _ hP hS ls (lv_sub hl [0, 4, 6, 2, 1] rfl)
      · refine lv_iconst (v := (-1)) hx hb d_o_several_25 (by decide) ?_
        exact hend _ _ _ _ _ _ hP hS d_o_several_26 (Or.inl ⟨(by rintro ⟨k', e, -, h64, hle⟩; have e2 := (nI_eq (by omega) (by omega)).mp e; omega), rfl, h, hH, hlen⟩)
end
section
/-! 24: OrderLine.carry (by program: gen/o7.py) -/
set_option maxHeartbeats 4000000 in
set_option maxRecDepth 100000 in
/-- carry(a, b, c), nothing is done -/
theorem c_o_carryN (l : Launch) (G : OG) (hG : ol_ok G) {L : Nat → Nat} {b n : Nat → Option Nat} {t : Nat → Bool} {F : Nat → Nat} {nf la mn : Nat} {Z : List Nat} {pa pb pq xa xb xc : Nat} (hO : Ov (L, b, n, t, F, nf, la, mn) Z) (ha : Z[pa]? = some xa) (hb0 : Z[pb]? = some xb) (hc0 : Z[pq]? = some xc) (hN : pb ≤ pa ∨ (pa < pq ∧ pq < pb)) : ol_M l y_o_carry b_o_carry 11 (some .int) ({ frames := 2, cells := 0, slots := 0, locals := 59 }) G [.int (nI xa), .int (nI xb), .int (nI xc)] (L, b, n, t, F, nf, la, mn) (ol_Qi G (fun r u => r = -1 ∧ Ov u Z)) := by
  refine ol_mi (by decide) rfl hG (Nat.le_of_ble_eq_true rfl) (fun p e R s m args below meth c Q ls hR X hml hP hS hl hend => ?_)
  have hx := X.1
  have hb := X.2.1
  have hl : lv_has ls 11 [(0, .ref (ol_h G)), (1, .int (nI xa)), (2, .int (nI xb)), (3, .int (nI xc))] := hl
  obtain ⟨h, hH, hlen⟩ := hO
  have hb3 : ∀ {i z : Nat}, Z[i]? = some z → z < 1000 := fun {i z} hz => h.2.2.1 i z hz
  have hLa : L xa < 2 ^ 40 := h.2.2.2.2.2.2.2.1 _ _ ha
  have hLb : L xb < 2 ^ 40 := h.2.2.2.2.2.2.2.1 _ _ hb0
  have hLc : L xc < 2 ^ 40 := h.2.2.2.2.2.2.2.1 _ _ hc0
  refine lv_aload_n hx hb d_o_carry_0 rfl (lv_at hl 0 rfl) ?_
  refine lv_iload_n hx hb d_o_carry_1 rfl (lv_at hl 1 rfl) ?_
  refine ol_cr (n := 1) (As := [.int (nI xa)]) (rest := []) X hml (c_o_of l G hG (hb3 ha) ((h.2.2.2.2.2.2.2.2.1 _ (hb3 ha)).mpr ⟨_, ha⟩)) (gw_W X.2.2.2.1 ml_o_66 im_o_of se_o_of k_o_of in_o (by decide +kernel) rfl rfl (by rw [hR]; exact ⟨Nat.le_of_ble_eq_true rfl, Nat.le_of_ble_eq_true rfl⟩)) hP hS hl.1 rfl rfl (Nat.le_of_ble_eq_true rfl) d_o_carry_2 (fun r u' H locs hq hP hS => ?_)
  obtain ⟨hr0, hu0⟩ := hq
  rw [hr0]
  rw [hu0] at hP
  refine lv_astore (lv' := [(4, .ref (ol_a G xa)), (0, .ref (ol_h G)), (1, .int (nI xa)), (2, .int (nI xb)), (3, .int (nI xc))]) hx hb d_o_carry_5 hl (by decide) rfl (fun ls hl => ?_)
  refine lv_aload_n hx hb d_o_carry_7 rfl (lv_at hl 1 rfl) ?_
  refine lv_iload_n hx hb d_o_carry_8 rfl (lv_at hl 3 rfl) ?_
  refine ol_cr (n := 1) (As := [.int (nI xb)]) (rest := []) X hml (c_o_of l G hG (hb3 hb0) ((h.2.2.2.2.2.2.2.2.1 _ (hb3 hb0)).mpr ⟨_, hb0⟩)) (gw_W X.2.2.2.1 ml_o_66 im_o_of se_o_of k_o_of in_o (by decide +kernel) rfl rfl (by rw [hR]; exact ⟨Nat.le_of_ble_eq_true rfl, Nat.le_of_ble_eq_true rfl⟩)) hP hS hl.1 rfl rfl (Nat.le_of_ble_eq_true rfl) d_o_carry_9 (fun r u' H locs hq hP hS => ?_)
  obtain ⟨hr0, hu0⟩ := hq
  rw [hr0]
  rw [hu0] at hP
  refine lv_astore (lv' := [(5, .ref (ol_a G xb)), (4, .ref (ol_a G xa)), (0, .ref (ol_h G)), (1, .int (nI xa)), (2, .int (nI xb)), (3, .int (nI xc))]) hx hb d_o_carry_12 hl (by decide) rfl (fun ls hl => ?_)
  refine lv_aload_n hx hb d_o_carry_14 rfl (lv_at hl 2 rfl) ?_
  refine lv_iload_n hx hb d_o_carry_15 rfl (lv_at hl 5 rfl) ?_
  refine ol_cr (n := 1) (As := [.int (nI xc)]) (rest := []) X hml (c_o_of l G hG (hb3 hc0) ((h.2.2.2.2.2.2.2.2.1 _ (hb3 hc0)).mpr ⟨_, hc0⟩)) (gw_W X.2.2.2.1 ml_o_66 im_o_of se_o_of k_o_of in_o (by decide +kernel) rfl rfl (by rw [hR]; exact ⟨Nat.le_of_ble_eq_true rfl, Nat.le_of_ble_eq_true rfl⟩)) hP hS hl.1 rfl rfl (Nat.le_of_ble_eq_true rfl) d_o_carry_16 (fun r u' H locs hq hP hS => ?_)
  obtain ⟨hr0, hu0⟩ := hq
  rw [hr0]
  rw [hu0] at hP
  refine lv_astore (lv' := [(6, .ref (ol_a G xc)), (5, .ref (ol_a G xb)), (4, .ref (ol_a G xa)), (0, .ref (ol_h G)), (1, .int (nI xa)), (2, .int (nI xb)), (3, .int (nI xc))]) hx hb d_o_carry_19 hl (by decide) rfl (fun ls hl => ?_)
  refine lv_aload hx hb d_o_carry_21 (lv_at hl 2 rfl) ?_
  refine g_label X hP (hb3 ha) d_o_carry_23 ?_
  refine lv_aload hx hb d_o_carry_26 (lv_at hl 1 rfl) ?_
  refine g_label X hP (hb3 hb0) d_o_carry_28 ?_
  refine lb_ge (tgt := 63) hx hb (by omega) (by omega) d_o_carry_31 d_o_carry_32 (by decide) (fun q => ?_) (fun q => ?_)
  · refine lv_iconst (v := (-1)) hx hb d_o_carry_63 (by decide) ?_
    exact hend _ _ _ _ _ _ hP hS d_o_carry_64 ⟨rfl, h, hH, hlen⟩
  · have hN2 := hN.resolve_left (fun z => by have := (h.lt ha hb0).mp q; omega)
    refine lv_aload hx hb d_o_carry_35 (lv_at hl 0 rfl) ?_
    refine g_label X hP (hb3 hc0) d_o_carry_37 ?_
    refine lv_aload hx hb d_o_carry_40 (lv_at hl 2 rfl) ?_
    refine g_label X hP (hb3 ha) d_o_carry_42 ?_
    refine lb_le (tgt := 65) hx hb (by omega) (by omega) d_o_carry_45 d_o_carry_46 (by decide) (fun q2 => ?_) (fun q2 => ?_)
    · exact absurd ((h.lt ha hc0).mpr hN2.1) (by omega)
    · refine lv_aload hx hb d_o_carry_49 (lv_at hl 0 rfl) ?_
      refine g_label X hP (hb3 hc0) d_o_carry_51 ?_
      refine lv_aload hx hb d_o_carry_54 (lv_at hl 1 rfl) ?_
      refine g_label X hP (hb3 hb0) d_o_carry_56 ?_
      refine lb_ge (tgt := 65) hx hb (by omega) (by omega) d_o_carry_59 d_o_carry_60 (by decide) (fun q3 => ?_) (fun q3 => ?_)
      · exact absurd ((h.lt hc0 hb0).mpr hN2.2) (by omega)
      · refine lv_iconst (v := (-1)) hx hb d_o_carry_63 (by decide) ?_
        exact hend _ _ _ _ _ _ hP hS d_o_carry_64 ⟨rfl, h, hH, hlen⟩
set_option maxHeartbeats 4000000 in
set_option maxRecDepth 100000 in
/-- carry(a, b, a): they lie there already -/
theorem c_o_carryA (l : Launch) (G : OG) (hG : ol_ok G) {L : Nat → Nat} {b n : Nat → Option Nat} {t : Nat → Bool} {F : Nat → Nat} {nf la mn : Nat} {Z : List Nat} {pa pb xa xb : Nat} (hO : Ov (L, b, n, t, F, nf, la, mn) Z) (ha : Z[pa]? = some xa) (hb0 : Z[pb]? = some xb) (hab : pa < pb) : ol_M l y_o_carry b_o_carry 11 (some .int) ({ frames := 2, cells := 0, slots := 0, locals := 59 }) G [.int (nI xa), .int (nI xb), .int (nI xa)] (L, b, n, t, F, nf, la, mn) (ol_Qi G (fun r u => r = nI (pb - pa - 1) ∧ Ov u Z)) := by
  refine ol_mi (by decide) rfl hG (Nat.le_of_ble_eq_true rfl) (fun p e R s m args below meth c Q ls hR X hml hP hS hl hend => ?_)
  have hx := X.1
  have hb := X.2.1
  have hl : lv_has ls 11 [(0, .ref (ol_h G)), (1, .int (nI xa)), (2, .int (nI xb)), (3, .int (nI xa))] := hl
  obtain ⟨h, hH, hlen⟩ := hO
  have hb3 : ∀ {i z : Nat}, Z[i]? = some z → z < 1000 := fun {i z} hz => h.2.2.1 i z hz
  have hLa : L xa < 2 ^ 40 := h.2.2.2.2.2.2.2.1 _ _ ha
  have hLb : L xb < 2 ^ 40 := h.2.2.2.2.2.2.2.1 _ _ hb0
  refine lv_aload_n hx hb d_o_carry_0 rfl (lv_at hl 0 rfl) ?_
  refine lv_iload_n hx hb d_o_carry_1 rfl (lv_at hl 1 rfl) ?_
  refine ol_cr (n := 1) (As := [.int (nI xa)]) (rest := []) X hml (c_o_of l G hG (hb3 ha) ((h.2.2.2.2.2.2.2.2.1 _ (hb3 ha)).mpr ⟨_, ha⟩)) (gw_W X.2.2.2.1 ml_o_66 im_o_of se_o_of k_o_of in_o (by decide +kernel) rfl rfl (by rw [hR]; exact ⟨Nat.le_of_ble_eq_true rfl, Nat.le_of_ble_eq_true rfl⟩)) hP hS hl.1 rfl rfl (Nat.le_of_ble_eq_true rfl) d_o_carry_2 (fun r u' H locs hq hP hS => ?_)
  obtain ⟨hr0, hu0⟩ := hq
  rw [hr0]
  rw [hu0] at hP
  refine lv_astore (lv' := [(4, .ref (ol_a G xa)), (0, .ref (ol_h G)), (1, .int (nI xa)), (2, .int (nI xb)), (3, .int (nI xa))]) hx hb d_o_carry_5 hl (by decide) rfl (fun ls hl => ?_)
  refine lv_aload_n hx hb d_o_carry_7 rfl (lv_at hl 1 rfl) ?_
  refine lv_iload_n hx hb d_o_carry_8 rfl (lv_at hl 3 rfl) ?_
  refine ol_cr (n := 1) (As := [.int (nI xb)]) (rest := []) X hml (c_o_of l G hG (hb3 hb0) ((h.2.2.2.2.2.2.2.2.1 _ (hb3 hb0)).mpr ⟨_, hb0⟩)) (gw_W X.2.2.2.1 ml_o_66 im_o_of se_o_of k_o_of in_o (by decide +kernel) rfl rfl (by rw [hR]; exact ⟨Nat.le_of_ble_eq_true rfl, Nat.le_of_ble_eq_true rfl⟩)) hP hS hl.1 rfl rfl (Nat.le_of_ble_eq_true rfl) d_o_carry_9 (fun r u' H locs hq hP hS => ?_)
  obtain ⟨hr0, hu0⟩ := hq
  rw [hr0]
  rw [hu0] at hP
  refine lv_astore (lv' := [(5, .ref (ol_a G xb)), (4, .ref (ol_a G xa)), (0, .ref (ol_h G)), (1, .int (nI xa)), (2, .int (nI xb)), (3, .int (nI xa))]) hx hb d_o_carry_12 hl (by decide) rfl (fun ls hl => ?_)
  refine lv_aload_n hx hb d_o_carry_14 rfl (lv_at hl 2 rfl) ?_
  refine lv_iload_n hx hb d_o_carry_15 rfl (lv_at hl 5 rfl) ?_
  refine ol_cr (n := 1) (As := [.int (nI xa)]) (rest := []) X hml (c_o_of l G hG (hb3 ha) ((h.2.2.2.2.2.2.2.2.1 _ (hb3 ha)).mpr ⟨_, ha⟩)) (gw_W X.2.2.2.1 ml_o_66 im_o_of se_o_of k_o_of in_o (by decide +kernel) rfl rfl (by rw [hR]; exact ⟨Nat.le_of_ble_eq_true rfl, Nat.le_of_ble_eq_true rfl⟩)) hP hS hl.1 rfl rfl (Nat.le_of_ble_eq_true rfl) d_o_carry_16 (fun r u' H locs hq hP hS => ?_)
  obtain ⟨hr0, hu0⟩ := hq
  rw [hr0]
  rw [hu0] at hP
  refine lv_astore (lv' := [(6, .ref (ol_a G xa)), (5, .ref (ol_a G xb)), (4, .ref (ol_a G xa)), (0, .ref (ol_h G)), (1, .int (nI xa)), (2, .int (nI xb)), (3, .int (nI xa))]) hx hb d_o_carry_19 hl (by decide) rfl (fun ls hl => ?_)
  refine lv_aload hx hb d_o_carry_21 (lv_at hl 2 rfl) ?_
  refine g_label X hP (hb3 ha) d_o_carry_23 ?_
  refine lv_aload hx hb d_o_carry_26 (lv_at hl 1 rfl) ?_
  refine g_label X hP (hb3 hb0) d_o_carry_28 ?_
  refine lb_ge (tgt := 63) hx hb (by omega) (by omega) d_o_carry_31 d_o_carry_32 (by decide) (fun q => ?_) (fun q => ?_)
  · exact absurd ((h.lt ha hb0).mpr hab) (by omega)
  · refine lv_aload hx hb d_o_carry_35 (lv_at hl 0 rfl) ?_
    refine g_label X hP (hb3 ha) d_o_carry_37 ?_
    refine lv_aload hx hb d_o_carry_40 (lv_at hl 2 rfl) ?_
    refine g_label X hP (hb3 ha) d_o_carry_42 ?_
    refine lb_le (tgt := 65) hx hb (by omega) (by omega) d_o_carry_45 d_o_carry_46 (by decide) (fun q2 => ?_) (fun q2 => ?_)
    · refine lv_iconst (v := (nI 0)) hx hb d_o_carry_65 (by decide) ?_
      refine lv_istore (lv' := [(7, .int (nI 0)), (6, .ref (ol_a G xa)), (5, .ref (ol_a G xb)), (4, .ref (ol_a G xa)), (0, .ref (ol_h G)), (1, .int (nI xa)), (2, .int (nI xb)), (3, .int (nI xa))]) hx hb d_o_carry_66 hl (by decide) rfl (fun ls hl => ?_)
      refine lv_aload hx hb d_o_carry_68 (lv_at hl 1 rfl) ?_
      refine lv_astore (lv' := [(8, .ref (ol_a G xa)), (7, .int (nI 0)), (6, .ref (ol_a G xa)), (5, .ref (ol_a G xb)), (4, .ref (ol_a G xa)), (0, .ref (ol_h G)), (1, .int (nI xa)), (2, .int (nI xb)), (3, .int (nI xa))]) hx hb d_o_carry_70 hl (by decide) rfl (fun ls hl => ?_)
      refine lv_aload hx hb d_o_carry_72 (lv_at hl 2 rfl) ?_
      refine lv_aload hx hb d_o_carry_74 (lv_at hl 4 rfl) ?_
      refine o_acmp_ne (tgt := 84) X (hb3 ha) (hb3 ha) d_o_carry_76 (by decide) (fun q3 => ?_) (fun q3 => ?_)
      · exact absurd rfl q3
      · refine lv_aload hx hb d_o_carry_79 (lv_at hl 3 rfl) ?_
        refine lv_goto (tgt := 85) hx hb d_o_carry_81 (by decide) ?_
        refine lv_astore (lv' := [(9, .ref (ol_a G xb)), (8, .ref (ol_a G xa)), (7, .int (nI 0)), (6, .ref (ol_a G xa)), (5, .ref (ol_a G xb)), (4, .ref (ol_a G xa)), (0, .ref (ol_h G)), (1, .int (nI xa)), (2, .int (nI xb)), (3, .int (nI xa))]) hx hb d_o_carry_85 hl (by decide) rfl (fun ls hl => ?_)
        refine lv_aload hx hb d_o_carry_87 (lv_at hl 0 rfl) ?_
        refine lv_ifnonnull (tgt := 133) hx hb d_o_carry_89 (by decide) ?_
        have loop : ∀ (d j y : Nat), pa + 1 + j + d = pb → Z[pa + 1 + j]? = some y → ∀ (ls : Array Slot), lv_has ls 11 [(10, .ref (ol_a G y)), (7, .int (nI j)), (0, .ref (ol_h G)), (9, .ref (ol_a G xb))] → W p l e R s m args below meth c H locs 0 0 Q (F0 m 140 ls []) := by
          intro d
          induction d with
          | zero =>
            intro j y hd hy ls hl
            refine lv_aload hx hb d_o_carry_140 (lv_at hl 3 rfl) ?_
            refine lv_ifnull hx hb d_o_carry_142 ?_
            refine lv_aload hx hb d_o_carry_145 (lv_at hl 0 rfl) ?_
            refine lv_aload hx hb d_o_carry_147 (lv_at hl 3 rfl) ?_
            refine o_acmp_eq (tgt := 165) X (hb3 hy) (hb3 hb0) d_o_carry_149 (by decide) (fun q4 => ?_) (fun q4 => ?_)
            · refine lv_iload hx hb d_o_carry_165 (lv_at hl 1 rfl) ?_
              refine tp_i (nI (pb - pa - 1)) (congrArg nI (by omega)) ?_
              exact hend _ _ _ _ _ _ hP hS d_o_carry_167 ⟨rfl, h, hH, hlen⟩
            · exact absurd (Option.some.inj (hy.symm.trans (by rw [show pa + 1 + j = pb by omega]; exact hb0))) q4
          | succ d ih =>
            intro j y hd hy ls hl
            obtain ⟨y2, hy2⟩ := gt_ex (Z := Z) (i := pa + 1 + (j + 1)) (by have := gt_lt hb0; omega)
            refine lv_aload hx hb d_o_carry_140 (lv_at hl 3 rfl) ?_
            refine lv_ifnull hx hb d_o_carry_142 ?_
            refine lv_aload hx hb d_o_carry_145 (lv_at hl 0 rfl) ?_
            refine lv_aload hx hb d_o_carry_147 (lv_at hl 3 rfl) ?_
            refine o_acmp_eq (tgt := 165) X (hb3 hy) (hb3 hb0) d_o_carry_149 (by decide) (fun q4 => ?_) (fun q4 => ?_)
            · exact absurd (h.ndc _ _ _ hy (by rw [q4]; exact hb0)) (by omega)
            · refine lv_iinc (v := nI (j + 1)) (lv' := [(7, .int (nI (j + 1))), (10, .ref (ol_a G y)), (0, .ref (ol_h G)), (9, .ref (ol_a G xb))]) hx hb d_o_carry_152 hl (k := 1) rfl (nI_1 _) (by decide) rfl (fun ls hl => ?_)
              refine lv_aload hx hb d_o_carry_155 (lv_at hl 1 rfl) ?_
              refine g_next (o := (some y2)) X hP (hb3 hy) ((h.2.2.2.1 _ _ hy).trans hy2) d_o_carry_157 ?_
              refine lv_astore (lv' := [(10, .ref (ol_a G y2)), (7, .int (nI (j + 1))), (0, .ref (ol_h G)), (9, .ref (ol_a G xb))]) hx hb d_o_carry_160 hl (by decide) rfl (fun ls hl => ?_)
              refine lv_goto (tgt := 140) hx hb d_o_carry_162 (by decide) ?_
              exact ih (j + 1) y2 (by omega) hy2 ls (lv_sub hl [0, 1, 2, 3] rfl)
        obtain ⟨y, hy⟩ := gt_ex (Z := Z) (i := pa + 1 + 0) (by have := gt_lt hb0; omega)
        refine lv_aload hx hb d_o_carry_133 (lv_at hl 5 rfl) ?_
        refine g_next (o := (some y)) X hP (hb3 ha) ((h.2.2.2.1 _ _ ha).trans hy) d_o_carry_135 ?_
        refine lv_astore (lv' := [(10, .ref (ol_a G y)), (9, .ref (ol_a G xb)), (8, .ref (ol_a G xa)), (7, .int (nI 0)), (6, .ref (ol_a G xa)), (5, .ref (ol_a G xb)), (4, .ref (ol_a G xa)), (0, .ref (ol_h G)), (1, .int (nI xa)), (2, .int (nI xb)), (3, .int (nI xa))]) hx hb d_o_carry_138 hl (by decide) rfl (fun ls hl => ?_)
        exact loop (pb - pa - 1) 0 y (by omega) hy ls (lv_sub hl [0, 3, 7, 1] rfl)
    · exact absurd q2 (Nat.lt_irrefl _)
set_option maxHeartbeats 4000000 in
set_option maxRecDepth 100000 in
/-- carry(a, b, c), c ahead of a -/
theorem c_o_carryB (l : Launch) (G : OG) (hG : ol_ok G) {L : Nat → Nat} {b n : Nat → Option Nat} {t : Nat → Bool} {F : Nat → Nat} {nf la mn : Nat} {A1 A2 M S : List Nat} {xa xb xc : Nat} (hO : Ov (L, b, n, t, F, nf, la, mn) (A1 ++ xc :: (A2 ++ xa :: (M ++ xb :: S)))) : ol_M l y_o_carry b_o_carry 11 (some .int) ({ frames := 2, cells := 0, slots := 0, locals := 59 }) G [.int (nI xa), .int (nI xb), .int (nI xc)] (L, b, n, t, F, nf, la, mn) (ol_Qi G (fun r u => r = nI M.length ∧ Ov u (A1 ++ xc :: (M ++ (A2 ++ xa :: xb :: S))))) := by
  refine ol_mi (by decide) rfl hG (Nat.le_of_ble_eq_true rfl) (fun p e R s m args below meth c Q ls hR X hml hP hS hl hend => ?_)
  have hx := X.1
  have hb := X.2.1
  have hl : lv_has ls 11 [(0, .ref (ol_h G)), (1, .int (nI xa)), (2, .int (nI xb)), (3, .int (nI xc))] := hl
  have loop : ∀ (K M1 C0 : List Nat) (w0 j : Nat) (L : Nat → Nat) (b n : Nat → Option Nat) (t : Nat → Bool) (F : Nat → Nat) (nf la mn : Nat), C0 ++ [w0] = A1 ++ xc :: M1 → M1 ++ K = M → j = M1.length → Ov (L, b, n, t, F, nf, la, mn) (C0 ++ w0 :: (A2 ++ xa :: (K ++ xb :: S))) → ∀ (H : Heap) (locs : List Loc), ol_P G (L, b, n, t, F, nf, la, mn) H → va_S (ol_A G) s.heap H locs → ∀ (ls : Array Slot), lv_has ls 11 [(7, .int (nI j)), (8, .ref (ol_a G w0)), (9, .null), (0, .ref (ol_h G)), (4, .ref (ol_a G xa)), (5, .ref (ol_a G xb))] → W p l e R s m args below meth c H locs 0 0 Q (F0 m 87 ls []) := by
    intro K
    induction K with
    | nil =>
      intro M1 C0 w0 j L b n t F nf la mn hC hM hj hO H locs hP hS ls hl
      obtain ⟨h, hH, hlen⟩ := hO
      have hb3 : ∀ {i z : Nat}, (C0 ++ w0 :: (A2 ++ xa :: ([] ++ xb :: S)))[i]? = some z → z < 1000 := fun {i z} hz => h.2.2.1 i z hz
      have eZ : C0 ++ w0 :: (A2 ++ xa :: ([] ++ xb :: S)) = (C0 ++ w0 :: A2) ++ xa :: ([] ++ xb :: S) := by simp
      have ha : (C0 ++ w0 :: (A2 ++ xa :: ([] ++ xb :: S)))[(C0 ++ w0 :: A2).length]? = some xa := by rw [eZ]; exact app_at _ _ _
      have hb0 : (C0 ++ w0 :: (A2 ++ xa :: ([] ++ xb :: S)))[(C0 ++ w0 :: (A2 ++ xa :: [])).length]? = some xb := by
        rw [show C0 ++ w0 :: (A2 ++ xa :: ([] ++ xb :: S)) = (C0 ++ w0 :: (A2 ++ xa :: [])) ++ xb :: S by simp]; exact app_at _ _ _
      have hw0 : (C0 ++ w0 :: (A2 ++ xa :: ([] ++ xb :: S)))[C0.length]? = some w0 := app_at _ _ _
      refine lv_aloadN hx hb d_o_carry_87 (lv_at hl 2 rfl) ?_
      refine lv_ifnonnullN hx hb d_o_carry_89 ?_
      refine lv_aload hx hb d_o_carry_92 (lv_at hl 4 rfl) ?_
      refine g_next (o := (some xb)) X hP (hb3 ha) ((h.2.2.2.1 _ _ ha).trans (by rw [eZ, app_nx]; exact rfl)) d_o_carry_94 ?_
      refine lv_aload hx hb d_o_carry_97 (lv_at hl 5 rfl) ?_
      refine o_acmp_eq (tgt := 133) X (hb3 hb0) (hb3 hb0) d_o_carry_99 (by decide) (fun q => ?_) (fun q => ?_)
      · refine lv_aload hx hb d_o_carry_133 (lv_at hl 4 rfl) ?_
        refine g_next (o := (some xb)) X hP (hb3 ha) ((h.2.2.2.1 _ _ ha).trans (by rw [eZ, app_nx]; exact rfl)) d_o_carry_135 ?_
        refine lv_astore (lv' := [(10, .ref (ol_a G xb)), (7, .int (nI j)), (8, .ref (ol_a G w0)), (9, .null), (0, .ref (ol_h G)), (4, .ref (ol_a G xa)), (5, .ref (ol_a G xb))]) hx hb d_o_carry_138 hl (by decide) rfl (fun ls hl => ?_)
        refine lv_aloadN hx hb d_o_carry_140 (lv_at hl 3 rfl) ?_
        refine lv_ifnullN (tgt := 165) hx hb d_o_carry_142 (by decide) ?_
        refine lv_iload hx hb d_o_carry_165 (lv_at hl 1 rfl) ?_
        have hM0 : M1 = M := by rw [← hM, List.append_nil]
        have eR : A1 ++ xc :: (M ++ (A2 ++ xa :: xb :: S)) = C0 ++ w0 :: (A2 ++ xa :: ([] ++ xb :: S)) := by
          rw [← hM0, show C0 ++ w0 :: (A2 ++ xa :: ([] ++ xb :: S)) = (C0 ++ [w0]) ++ (A2 ++ xa :: xb :: S) by simp, hC]
          simp
        exact hend _ _ _ _ _ _ hP hS d_o_carry_167 ⟨by rw [hj, hM0], by rw [eR]; exact ⟨h, hH, hlen⟩⟩
      · exact absurd rfl q
    | cons y K ih =>
      intro M1 C0 w0 j L b n t F nf la mn hC hM hj hO H locs hP hS ls hl
      obtain ⟨h, hH, hlen⟩ := hO
      have hb3 : ∀ {i z : Nat}, (C0 ++ w0 :: (A2 ++ xa :: ((y :: K) ++ xb :: S)))[i]? = some z → z < 1000 := fun {i z} hz => h.2.2.1 i z hz
      have eZ : C0 ++ w0 :: (A2 ++ xa :: ((y :: K) ++ xb :: S)) = (C0 ++ w0 :: A2) ++ xa :: ((y :: K) ++ xb :: S) := by simp
      have ha : (C0 ++ w0 :: (A2 ++ xa :: ((y :: K) ++ xb :: S)))[(C0 ++ w0 :: A2).length]? = some xa := by rw [eZ]; exact app_at _ _ _
      have hb0 : (C0 ++ w0 :: (A2 ++ xa :: ((y :: K) ++ xb :: S)))[(C0 ++ w0 :: (A2 ++ xa :: (y :: K))).length]? = some xb := by
        rw [show C0 ++ w0 :: (A2 ++ xa :: ((y :: K) ++ xb :: S)) = (C0 ++ w0 :: (A2 ++ xa :: (y :: K))) ++ xb :: S by simp]; exact app_at _ _ _
      have hw0 : (C0 ++ w0 :: (A2 ++ xa :: ((y :: K) ++ xb :: S)))[C0.length]? = some w0 := app_at _ _ _
      have hy : (C0 ++ w0 :: (A2 ++ xa :: ((y :: K) ++ xb :: S)))[(C0 ++ w0 :: A2).length + 1]? = some y := by rw [eZ]; exact app_nx _ _ _
      have eE : (C0 ++ w0 :: (A2 ++ xa :: ((y :: K) ++ xb :: S))).eraseIdx ((C0 ++ w0 :: A2).length + 1) = C0 ++ w0 :: (A2 ++ xa :: (K ++ xb :: S)) := by
        rw [eZ]
        exact (era_seg (C0 ++ w0 :: A2) xa y (K ++ xb :: S)).trans (by simp)
      have hny : ∀ i : Nat, (C0 ++ w0 :: (A2 ++ xa :: (K ++ xb :: S)))[i]? ≠ some y := by
        rw [← eE]; exact (era_free h.ndc hy y).mp (Or.inr rfl)
      have hlK : (C0 ++ w0 :: (A2 ++ xa :: (K ++ xb :: S))).length ≤ 1000 := by
        rw [← eE, List.length_eraseIdx_of_lt (gt_lt hy)]; omega
      have hwK : (C0 ++ w0 :: (A2 ++ xa :: (K ++ xb :: S)))[C0.length]? = some w0 := app_at _ _ _
      have eI : (C0 ++ w0 :: (A2 ++ xa :: (K ++ xb :: S))).insertIdx (C0.length + 1) y = (C0 ++ [w0]) ++ y :: (A2 ++ xa :: (K ++ xb :: S)) := by
        rw [ins_seg]; simp
      refine lv_aloadN hx hb d_o_carry_87 (lv_at hl 2 rfl) ?_
      refine lv_ifnonnullN hx hb d_o_carry_89 ?_
      refine lv_aload hx hb d_o_carry_92 (lv_at hl 4 rfl) ?_
      refine g_next (o := (some y)) X hP (hb3 ha) ((h.2.2.2.1 _ _ ha).trans hy) d_o_carry_94 ?_
      refine lv_aload hx hb d_o_carry_97 (lv_at hl 5 rfl) ?_
      refine o_acmp_eq (tgt := 133) X (hb3 hy) (hb3 hb0) d_o_carry_99 (by decide) (fun q => ?_) (fun q => ?_)
      · exact absurd (h.ndc _ _ _ hy (hb0.trans (congrArg some q.symm))) (fun z => by simp at z <;> omega)
      · refine lv_aload hx hb d_o_carry_102 (lv_at hl 4 rfl) ?_
        refine g_next (o := (some y)) X hP (hb3 ha) ((h.2.2.2.1 _ _ ha).trans hy) d_o_carry_104 ?_
        refine lv_astore (lv' := [(10, .ref (ol_a G y)), (7, .int (nI j)), (8, .ref (ol_a G w0)), (9, .null), (0, .ref (ol_h G)), (4, .ref (ol_a G xa)), (5, .ref (ol_a G xb))]) hx hb d_o_carry_107 hl (by decide) rfl (fun ls hl => ?_)
        refine lv_aload_n hx hb d_o_carry_109 rfl (lv_at hl 4 rfl) ?_
        refine lv_aload hx hb d_o_carry_110 (lv_at hl 0 rfl) ?_
        refine ol_cv (n := 1) (As := [.ref (ol_a G y)]) (rest := []) X hml (c_o_unlink l G hG h hy ha) (gw_W X.2.2.2.1 ml_o_81 im_o_unlink se_o_unlink k_o_unlink in_o (by decide +kernel) rfl rfl (by rw [hR]; exact ⟨Nat.le_of_ble_eq_true rfl, Nat.le_of_ble_eq_true rfl⟩)) hP hS hl.1 rfl rfl (Nat.le_of_ble_eq_true rfl) d_o_carry_112 (fun u' H locs hq hP hS => ?_)
        obtain ⟨b', n', t', la', hu2, h2⟩ := hq
        rw [hu2] at hP
        rw [eE] at h2
        refine lv_aload_n hx hb d_o_carry_115 rfl (lv_at hl 4 rfl) ?_
        refine lv_aload hx hb d_o_carry_116 (lv_at hl 0 rfl) ?_
        refine lv_aload hx hb d_o_carry_118 (lv_at hl 2 rfl) ?_
        refine ol_cv (n := 2) (As := [.ref (ol_a G y), .ref (ol_a G w0)]) (rest := []) X hml (c_o_link l G hG h2 hlK hwK (hb3 hy) hny) (gw_W X.2.2.2.1 ml_o_74 im_o_link se_o_link k_o_link in_o (by decide +kernel) rfl rfl (by rw [hR]; exact ⟨Nat.le_of_ble_eq_true rfl, Nat.le_of_ble_eq_true rfl⟩)) hP hS hl.1 rfl rfl (Nat.le_of_ble_eq_true rfl) d_o_carry_120 (fun u' H locs hq hP hS => ?_)
        obtain ⟨L', b2, n2, t2, la2, hu3, h3⟩ := hq
        rw [hu3] at hP
        rw [eI] at h3
        have hO2 := Ov.perm h3 (Z := C0 ++ w0 :: (A2 ++ xa :: ((y :: K) ++ xb :: S))) (fun x => by simp only [List.mem_append, List.mem_cons, List.not_mem_nil, or_false]; grind) (by simp; omega) hH hlen
        refine lv_aload hx hb d_o_carry_123 (lv_at hl 0 rfl) ?_
        refine lv_astore (lv' := [(8, .ref (ol_a G y)), (10, .ref (ol_a G y)), (7, .int (nI j)), (9, .null), (0, .ref (ol_h G)), (4, .ref (ol_a G xa)), (5, .ref (ol_a G xb))]) hx hb d_o_carry_125 hl (by decide) rfl (fun ls hl => ?_)
        refine lv_iinc (v := nI (j + 1)) (lv' := [(7, .int (nI (j + 1))), (8, .ref (ol_a G y)), (10, .ref (ol_a G y)), (9, .null), (0, .ref (ol_h G)), (4, .ref (ol_a G xa)), (5, .ref (ol_a G xb))]) hx hb d_o_carry_127 hl (k := 2) rfl (nI_1 _) (by decide) rfl (fun ls hl => ?_)
        refine lv_goto (tgt := 87) hx hb d_o_carry_130 (by decide) ?_
        exact ih (M1 ++ [y]) (C0 ++ [w0]) y (j + 1) _ _ _ _ _ _ _ _ (by rw [hC]; simp) (by rw [← hM]; simp) (by rw [hj]; simp) hO2 _ _ hP hS ls (lv_sub hl [0, 1, 3, 4, 5, 6] rfl)
  obtain ⟨h, hH, hlen⟩ := hO
  have hb3 : ∀ {i z : Nat}, (A1 ++ xc :: (A2 ++ xa :: (M ++ xb :: S)))[i]? = some z → z < 1000 := fun {i z} hz => h.2.2.1 i z hz
  have ha : (A1 ++ xc :: (A2 ++ xa :: (M ++ xb :: S)))[(A1 ++ xc :: A2).length]? = some xa := by
    rw [show A1 ++ xc :: (A2 ++ xa :: (M ++ xb :: S)) = (A1 ++ xc :: A2) ++ xa :: (M ++ xb :: S) by simp]; exact app_at _ _ _
  have hb0 : (A1 ++ xc :: (A2 ++ xa :: (M ++ xb :: S)))[(A1 ++ xc :: (A2 ++ xa :: M)).length]? = some xb := by
    rw [show A1 ++ xc :: (A2 ++ xa :: (M ++ xb :: S)) = (A1 ++ xc :: (A2 ++ xa :: M)) ++ xb :: S by simp]; exact app_at _ _ _
  have hc0 : (A1 ++ xc :: (A2 ++ xa :: (M ++ xb :: S)))[A1.length]? = some xc := app_at _ _ _
  have hab : (A1 ++ xc :: A2).length < (A1 ++ xc :: (A2 ++ xa :: M)).length := by simp
  have hca : A1.length < (A1 ++ xc :: A2).length := by simp
  have hne0 : xc ≠ xa := fun e => by have := h.ndc _ _ _ hc0 (ha.trans (congrArg some e.symm)); omega
  have hLa : L xa < 2 ^ 40 := h.2.2.2.2.2.2.2.1 _ _ ha
  have hLb : L xb < 2 ^ 40 := h.2.2.2.2.2.2.2.1 _ _ hb0
  have hLc : L xc < 2 ^ 40 := h.2.2.2.2.2.2.2.1 _ _ hc0
  refine lv_aload_n hx hb d_o_carry_0 rfl (lv_at hl 0 rfl) ?_
  refine lv_iload_n hx hb d_o_carry_1 rfl (lv_at hl 1 rfl) ?_
  refine ol_cr (n := 1) (As := [.int (nI xa)]) (rest := []) X hml (c_o_of l G hG (hb3 ha) ((h.2.2.2.2.2.2.2.2.1 _ (hb3 ha)).mpr ⟨_, ha⟩)) (gw_W X.2.2.2.1 ml_o_66 im_o_of se_o_of k_o_of in_o (by decide +kernel) rfl rfl (by rw [hR]; exact ⟨Nat.le_of_ble_eq_true rfl, Nat.le_of_ble_eq_true rfl⟩)) hP hS hl.1 rfl rfl (Nat.le_of_ble_eq_true rfl) d_o_carry_2 (fun r u' H locs hq hP hS => ?_)
  obtain ⟨hr0, hu0⟩ := hq
  rw [hr0]
  rw [hu0] at hP
  refine lv_astore (lv' := [(4, .ref (ol_a G xa)), (0, .ref (ol_h G)), (1, .int (nI xa)), (2, .int (nI xb)), (3, .int (nI xc))]) hx hb d_o_carry_5 hl (by decide) rfl (fun ls hl => ?_)
  refine lv_aload_n hx hb d_o_carry_7 rfl (lv_at hl 1 rfl) ?_
  refine lv_iload_n hx hb d_o_carry_8 rfl (lv_at hl 3 rfl) ?_
  refine ol_cr (n := 1) (As := [.int (nI xb)]) (rest := []) X hml (c_o_of l G hG (hb3 hb0) ((h.2.2.2.2.2.2.2.2.1 _ (hb3 hb0)).mpr ⟨_, hb0⟩)) (gw_W X.2.2.2.1 ml_o_66 im_o_of se_o_of k_o_of in_o (by decide +kernel) rfl rfl (by rw [hR]; exact ⟨Nat.le_of_ble_eq_true rfl, Nat.le_of_ble_eq_true rfl⟩)) hP hS hl.1 rfl rfl (Nat.le_of_ble_eq_true rfl) d_o_carry_9 (fun r u' H locs hq hP hS => ?_)
  obtain ⟨hr0, hu0⟩ := hq
  rw [hr0]
  rw [hu0] at hP
  refine lv_astore (lv' := [(5, .ref (ol_a G xb)), (4, .ref (ol_a G xa)), (0, .ref (ol_h G)), (1, .int (nI xa)), (2, .int (nI xb)), (3, .int (nI xc))]) hx hb d_o_carry_12 hl (by decide) rfl (fun ls hl => ?_)
  refine lv_aload_n hx hb d_o_carry_14 rfl (lv_at hl 2 rfl) ?_
  refine lv_iload_n hx hb d_o_carry_15 rfl (lv_at hl 5 rfl) ?_
  refine ol_cr (n := 1) (As := [.int (nI xc)]) (rest := []) X hml (c_o_of l G hG (hb3 hc0) ((h.2.2.2.2.2.2.2.2.1 _ (hb3 hc0)).mpr ⟨_, hc0⟩)) (gw_W X.2.2.2.1 ml_o_66 im_o_of se_o_of k_o_of in_o (by decide +kernel) rfl rfl (by rw [hR]; exact ⟨Nat.le_of_ble_eq_true rfl, Nat.le_of_ble_eq_true rfl⟩)) hP hS hl.1 rfl rfl (Nat.le_of_ble_eq_true rfl) d_o_carry_16 (fun r u' H locs hq hP hS => ?_)
  obtain ⟨hr0, hu0⟩ := hq
  rw [hr0]
  rw [hu0] at hP
  refine lv_astore (lv' := [(6, .ref (ol_a G xc)), (5, .ref (ol_a G xb)), (4, .ref (ol_a G xa)), (0, .ref (ol_h G)), (1, .int (nI xa)), (2, .int (nI xb)), (3, .int (nI xc))]) hx hb d_o_carry_19 hl (by decide) rfl (fun ls hl => ?_)
  refine lv_aload hx hb d_o_carry_21 (lv_at hl 2 rfl) ?_
  refine g_label X hP (hb3 ha) d_o_carry_23 ?_
  refine lv_aload hx hb d_o_carry_26 (lv_at hl 1 rfl) ?_
  refine g_label X hP (hb3 hb0) d_o_carry_28 ?_
  refine lb_ge (tgt := 63) hx hb (by omega) (by omega) d_o_carry_31 d_o_carry_32 (by decide) (fun q => ?_) (fun q => ?_)
  · exact absurd ((h.lt ha hb0).mpr hab) (by omega)
  · refine lv_aload hx hb d_o_carry_35 (lv_at hl 0 rfl) ?_
    refine g_label X hP (hb3 hc0) d_o_carry_37 ?_
    refine lv_aload hx hb d_o_carry_40 (lv_at hl 2 rfl) ?_
    refine g_label X hP (hb3 ha) d_o_carry_42 ?_
    refine lb_le (tgt := 65) hx hb (by omega) (by omega) d_o_carry_45 d_o_carry_46 (by decide) (fun q2 => ?_) (fun q2 => ?_)
    · refine lv_iconst (v := (nI 0)) hx hb d_o_carry_65 (by decide) ?_
      refine lv_istore (lv' := [(7, .int (nI 0)), (6, .ref (ol_a G xc)), (5, .ref (ol_a G xb)), (4, .ref (ol_a G xa)), (0, .ref (ol_h G)), (1, .int (nI xa)), (2, .int (nI xb)), (3, .int (nI xc))]) hx hb d_o_carry_66 hl (by decide) rfl (fun ls hl => ?_)
      refine lv_aload hx hb d_o_carry_68 (lv_at hl 1 rfl) ?_
      refine lv_astore (lv' := [(8, .ref (ol_a G xc)), (7, .int (nI 0)), (6, .ref (ol_a G xc)), (5, .ref (ol_a G xb)), (4, .ref (ol_a G xa)), (0, .ref (ol_h G)), (1, .int (nI xa)), (2, .int (nI xb)), (3, .int (nI xc))]) hx hb d_o_carry_70 hl (by decide) rfl (fun ls hl => ?_)
      refine lv_aload hx hb d_o_carry_72 (lv_at hl 2 rfl) ?_
      refine lv_aload hx hb d_o_carry_74 (lv_at hl 4 rfl) ?_
      refine o_acmp_ne (tgt := 84) X (hb3 hc0) (hb3 ha) d_o_carry_76 (by decide) (fun q3 => ?_) (fun q3 => ?_)
      · refine lv_null hx hb d_o_carry_84 ?_
        refine lv_astoreN (lv' := [(9, .null), (8, .ref (ol_a G xc)), (7, .int (nI 0)), (6, .ref (ol_a G xc)), (5, .ref (ol_a G xb)), (4, .ref (ol_a G xa)), (0, .ref (ol_h G)), (1, .int (nI xa)), (2, .int (nI xb)), (3, .int (nI xc))]) hx hb d_o_carry_85 hl (by decide) rfl (fun ls hl => ?_)
        exact loop M [] A1 xc 0 L b n t F nf la mn rfl rfl rfl ⟨h, hH, hlen⟩ _ _ hP hS ls (lv_sub hl [2, 1, 0, 6, 5, 4] rfl)
      · exact absurd q3 hne0
    · exact absurd ((h.lt hc0 ha).mpr hca) (by omega)
set_option maxHeartbeats 4000000 in
set_option maxRecDepth 100000 in
/-- carry(a, b, c), c is b or behind it -/
theorem c_o_carryC (l : Launch) (G : OG) (hG : ol_ok G) {L : Nat → Nat} {b n : Nat → Option Nat} {t : Nat → Bool} {F : Nat → Nat} {nf la mn : Nat} {A M Q0 S : List Nat} {xa xb xc : Nat} (hO : Ov (L, b, n, t, F, nf, la, mn) (A ++ xa :: (M ++ (Q0 ++ xc :: S)))) (hhd : (Q0 ++ [xc])[0]? = some xb) : ol_M l y_o_carry b_o_carry 11 (some .int) ({ frames := 2, cells := 0, slots := 0, locals := 59 }) G [.int (nI xa), .int (nI xb), .int (nI xc)] (L, b, n, t, F, nf, la, mn) (ol_Qi G (fun r u => r = nI M.length ∧ Ov u (A ++ xa :: (Q0 ++ xc :: (M ++ S))))) := by
  refine ol_mi (by decide) rfl hG (Nat.le_of_ble_eq_true rfl) (fun p e R s m args below meth c Q ls hR X hml hP hS hl hend => ?_)
  have hx := X.1
  have hb := X.2.1
  have hl : lv_has ls 11 [(0, .ref (ol_h G)), (1, .int (nI xa)), (2, .int (nI xb)), (3, .int (nI xc))] := hl
  have loop : ∀ (K M1 C0 : List Nat) (w0 j : Nat) (L : Nat → Nat) (b n : Nat → Option Nat) (t : Nat → Bool) (F : Nat → Nat) (nf la mn : Nat), C0 ++ [w0] = Q0 ++ xc :: M1 → M1 ++ K = M → j = M1.length → Ov (L, b, n, t, F, nf, la, mn) (A ++ xa :: (K ++ (C0 ++ w0 :: S))) → ∀ (H : Heap) (locs : List Loc), ol_P G (L, b, n, t, F, nf, la, mn) H → va_S (ol_A G) s.heap H locs → ∀ (ls : Array Slot), lv_has ls 11 [(7, .int (nI j)), (8, .ref (ol_a G w0)), (9, .null), (0, .ref (ol_h G)), (4, .ref (ol_a G xa)), (5, .ref (ol_a G xb))] → W p l e R s m args below meth c H locs 0 0 Q (F0 m 87 ls []) := by
    intro K
    induction K with
    | nil =>
      intro M1 C0 w0 j L b n t F nf la mn hC hM hj hO H locs hP hS ls hl
      obtain ⟨h, hH, hlen⟩ := hO
      have hb3 : ∀ {i z : Nat}, (A ++ xa :: ([] ++ (C0 ++ w0 :: S)))[i]? = some z → z < 1000 := fun {i z} hz => h.2.2.1 i z hz
      have eZ : A ++ xa :: ([] ++ (C0 ++ w0 :: S)) = A ++ xa :: ([] ++ (C0 ++ w0 :: S)) := by simp
      have ha : (A ++ xa :: ([] ++ (C0 ++ w0 :: S)))[A.length]? = some xa := by rw [eZ]; exact app_at _ _ _
      have hh2 : (C0 ++ w0 :: S)[0]? = some xb := by
        rw [hd_app, hC, hd_app]; exact hhd
      have hb0 : (A ++ xa :: ([] ++ (C0 ++ w0 :: S)))[(A ++ xa :: []).length]? = some xb := by
        rw [show A ++ xa :: ([] ++ (C0 ++ w0 :: S)) = (A ++ xa :: []) ++ (C0 ++ w0 :: S) by simp, List.getElem?_append_right (Nat.le_refl _), Nat.sub_self]; exact hh2
      refine lv_aloadN hx hb d_o_carry_87 (lv_at hl 2 rfl) ?_
      refine lv_ifnonnullN hx hb d_o_carry_89 ?_
      refine lv_aload hx hb d_o_carry_92 (lv_at hl 4 rfl) ?_
      refine g_next (o := (some xb)) X hP (hb3 ha) ((h.2.2.2.1 _ _ ha).trans (by rw [eZ, app_nx]; exact hh2)) d_o_carry_94 ?_
      refine lv_aload hx hb d_o_carry_97 (lv_at hl 5 rfl) ?_
      refine o_acmp_eq (tgt := 133) X (hb3 hb0) (hb3 hb0) d_o_carry_99 (by decide) (fun q => ?_) (fun q => ?_)
      · refine lv_aload hx hb d_o_carry_133 (lv_at hl 4 rfl) ?_
        refine g_next (o := (some xb)) X hP (hb3 ha) ((h.2.2.2.1 _ _ ha).trans (by rw [eZ, app_nx]; exact hh2)) d_o_carry_135 ?_
        refine lv_astore (lv' := [(10, .ref (ol_a G xb)), (7, .int (nI j)), (8, .ref (ol_a G w0)), (9, .null), (0, .ref (ol_h G)), (4, .ref (ol_a G xa)), (5, .ref (ol_a G xb))]) hx hb d_o_carry_138 hl (by decide) rfl (fun ls hl => ?_)
        refine lv_aloadN hx hb d_o_carry_140 (lv_at hl 3 rfl) ?_
        refine lv_ifnullN (tgt := 165) hx hb d_o_carry_142 (by decide) ?_
        refine lv_iload hx hb d_o_carry_165 (lv_at hl 1 rfl) ?_
        have hM0 : M1 = M := by rw [← hM, List.append_nil]
        have eR : A ++ xa :: (Q0 ++ xc :: (M ++ S)) = A ++ xa :: ([] ++ (C0 ++ w0 :: S)) := by
          rw [← hM0, show A ++ xa :: ([] ++ (C0 ++ w0 :: S)) = A ++ xa :: ((C0 ++ [w0]) ++ S) by simp, hC]
          simp
        exact hend _ _ _ _ _ _ hP hS d_o_carry_167 ⟨by rw [hj, hM0], by rw [eR]; exact ⟨h, hH, hlen⟩⟩
      · exact absurd rfl q
    | cons y K ih =>
      intro M1 C0 w0 j L b n t F nf la mn hC hM hj hO H locs hP hS ls hl
      obtain ⟨h, hH, hlen⟩ := hO
      have hb3 : ∀ {i z : Nat}, (A ++ xa :: ((y :: K) ++ (C0 ++ w0 :: S)))[i]? = some z → z < 1000 := fun {i z} hz => h.2.2.1 i z hz
      have eZ : A ++ xa :: ((y :: K) ++ (C0 ++ w0 :: S)) = A ++ xa :: ((y :: K) ++ (C0 ++ w0 :: S)) := by simp
      have ha : (A ++ xa :: ((y :: K) ++ (C0 ++ w0 :: S)))[A.length]? = some xa := by rw [eZ]; exact app_at _ _ _
      have hh2 : (C0 ++ w0 :: S)[0]? = some xb := by
        rw [hd_app, hC, hd_app]; exact hhd
      have hb0 : (A ++ xa :: ((y :: K) ++ (C0 ++ w0 :: S)))[(A ++ xa :: (y :: K)).length]? = some xb := by
        rw [show A ++ xa :: ((y :: K) ++ (C0 ++ w0 :: S)) = (A ++ xa :: (y :: K)) ++ (C0 ++ w0 :: S) by simp, List.getElem?_append_right (Nat.le_refl _), Nat.sub_self]; exact hh2
      have hy : (A ++ xa :: ((y :: K) ++ (C0 ++ w0 :: S)))[A.length + 1]? = some y := by rw [eZ]; exact app_nx _ _ _
      have eE : (A ++ xa :: ((y :: K) ++ (C0 ++ w0 :: S))).eraseIdx (A.length + 1) = A ++ xa :: (K ++ (C0 ++ w0 :: S)) := by
        rw [eZ]
        exact (era_seg A xa y (K ++ (C0 ++ w0 :: S))).trans (by simp)
      have hny : ∀ i : Nat, (A ++ xa :: (K ++ (C0 ++ w0 :: S)))[i]? ≠ some y := by
        rw [← eE]; exact (era_free h.ndc hy y).mp (Or.inr rfl)
      have hlK : (A ++ xa :: (K ++ (C0 ++ w0 :: S))).length ≤ 1000 := by
        rw [← eE, List.length_eraseIdx_of_lt (gt_lt hy)]; omega
      have eK : A ++ xa :: (K ++ (C0 ++ w0 :: S)) = (A ++ xa :: (K ++ C0)) ++ w0 :: S := by simp
      have hwK : (A ++ xa :: (K ++ (C0 ++ w0 :: S)))[(A ++ xa :: (K ++ C0)).length]? = some w0 := by rw [eK]; exact app_at _ _ _
      have eI : (A ++ xa :: (K ++ (C0 ++ w0 :: S))).insertIdx ((A ++ xa :: (K ++ C0)).length + 1) y = A ++ xa :: (K ++ ((C0 ++ [w0]) ++ y :: S)) := by
        rw [eK, ins_seg]; simp
      refine lv_aloadN hx hb d_o_carry_87 (lv_at hl 2 rfl) ?_
      refine lv_ifnonnullN hx hb d_o_carry_89 ?_
      refine lv_aload hx hb d_o_carry_92 (lv_at hl 4 rfl) ?_
      refine g_next (o := (some y)) X hP (hb3 ha) ((h.2.2.2.1 _ _ ha).trans hy) d_o_carry_94 ?_
      refine lv_aload hx hb d_o_carry_97 (lv_at hl 5 rfl) ?_
      refine o_acmp_eq (tgt := 133) X (hb3 hy) (hb3 hb0) d_o_carry_99 (by decide) (fun q => ?_) (fun q => ?_)
      · exact absurd (h.ndc _ _ _ hy (hb0.trans (congrArg some q.symm))) (fun z => by simp at z <;> omega)
      · refine lv_aload hx hb d_o_carry_102 (lv_at hl 4 rfl) ?_
        refine g_next (o := (some y)) X hP (hb3 ha) ((h.2.2.2.1 _ _ ha).trans hy) d_o_carry_104 ?_
        refine lv_astore (lv' := [(10, .ref (ol_a G y)), (7, .int (nI j)), (8, .ref (ol_a G w0)), (9, .null), (0, .ref (ol_h G)), (4, .ref (ol_a G xa)), (5, .ref (ol_a G xb))]) hx hb d_o_carry_107 hl (by decide) rfl (fun ls hl => ?_)
        refine lv_aload_n hx hb d_o_carry_109 rfl (lv_at hl 4 rfl) ?_
        refine lv_aload hx hb d_o_carry_110 (lv_at hl 0 rfl) ?_
        refine ol_cv (n := 1) (As := [.ref (ol_a G y)]) (rest := []) X hml (c_o_unlink l G hG h hy ha) (gw_W X.2.2.2.1 ml_o_81 im_o_unlink se_o_unlink k_o_unlink in_o (by decide +kernel) rfl rfl (by rw [hR]; exact ⟨Nat.le_of_ble_eq_true rfl, Nat.le_of_ble_eq_true rfl⟩)) hP hS hl.1 rfl rfl (Nat.le_of_ble_eq_true rfl) d_o_carry_112 (fun u' H locs hq hP hS => ?_)
        obtain ⟨b', n', t', la', hu2, h2⟩ := hq
        rw [hu2] at hP
        rw [eE] at h2
        refine lv_aload_n hx hb d_o_carry_115 rfl (lv_at hl 4 rfl) ?_
        refine lv_aload hx hb d_o_carry_116 (lv_at hl 0 rfl) ?_
        refine lv_aload hx hb d_o_carry_118 (lv_at hl 2 rfl) ?_
        refine ol_cv (n := 2) (As := [.ref (ol_a G y), .ref (ol_a G w0)]) (rest := []) X hml (c_o_link l G hG h2 hlK hwK (hb3 hy) hny) (gw_W X.2.2.2.1 ml_o_74 im_o_link se_o_link k_o_link in_o (by decide +kernel) rfl rfl (by rw [hR]; exact ⟨Nat.le_of_ble_eq_true rfl, Nat.le_of_ble_eq_true rfl⟩)) hP hS hl.1 rfl rfl (Nat.le_of_ble_eq_true rfl) d_o_carry_120 (fun u' H locs hq hP hS => ?_)
        obtain ⟨L', b2, n2, t2, la2, hu3, h3⟩ := hq
        rw [hu3] at hP
        rw [eI] at h3
        have hO2 := Ov.perm h3 (Z := A ++ xa :: ((y :: K) ++ (C0 ++ w0 :: S))) (fun x => by simp only [List.mem_append, List.mem_cons, List.not_mem_nil, or_false]; grind) (by simp; omega) hH hlen
        refine lv_aload hx hb d_o_carry_123 (lv_at hl 0 rfl) ?_
        refine lv_astore (lv' := [(8, .ref (ol_a G y)), (10, .ref (ol_a G y)), (7, .int (nI j)), (9, .null), (0, .ref (ol_h G)), (4, .ref (ol_a G xa)), (5, .ref (ol_a G xb))]) hx hb d_o_carry_125 hl (by decide) rfl (fun ls hl => ?_)
        refine lv_iinc (v := nI (j + 1)) (lv' := [(7, .int (nI (j + 1))), (8, .ref (ol_a G y)), (10, .ref (ol_a G y)), (9, .null), (0, .ref (ol_h G)), (4, .ref (ol_a G xa)), (5, .ref (ol_a G xb))]) hx hb d_o_carry_127 hl (k := 2) rfl (nI_1 _) (by decide) rfl (fun ls hl => ?_)
        refine lv_goto (tgt := 87) hx hb d_o_carry_130 (by decide) ?_
        exact ih (M1 ++ [y]) (C0 ++ [w0]) y (j + 1) _ _ _ _ _ _ _ _ (by rw [hC]; simp) (by rw [← hM]; simp) (by rw [hj]; simp) hO2 _ _ hP hS ls (lv_sub hl [0, 1, 3, 4, 5, 6] rfl)
  obtain ⟨h, hH, hlen⟩ := hO
  have hb3 : ∀ {i z : Nat}, (A ++ xa :: (M ++ (Q0 ++ xc :: S)))[i]? = some z → z < 1000 := fun {i z} hz => h.2.2.1 i z hz
  have ha : (A ++ xa :: (M ++ (Q0 ++ xc :: S)))[A.length]? = some xa := app_at _ _ _
  have hb0 : (A ++ xa :: (M ++ (Q0 ++ xc :: S)))[(A ++ xa :: M).length]? = some xb := by
    rw [show A ++ xa :: (M ++ (Q0 ++ xc :: S)) = (A ++ xa :: M) ++ (Q0 ++ xc :: S) by simp, List.getElem?_append_right (Nat.le_refl _), Nat.sub_self, hd_app]; exact hhd
  have hc0 : (A ++ xa :: (M ++ (Q0 ++ xc :: S)))[(A ++ xa :: (M ++ Q0)).length]? = some xc := by
    rw [show A ++ xa :: (M ++ (Q0 ++ xc :: S)) = (A ++ xa :: (M ++ Q0)) ++ xc :: S by simp]; exact app_at _ _ _
  have hab : A.length < (A ++ xa :: M).length := by simp
  have hbc : (A ++ xa :: M).length ≤ (A ++ xa :: (M ++ Q0)).length := by simp
  have hne0 : xc ≠ xa := fun e => by have := h.ndc _ _ _ hc0 (ha.trans (congrArg some e.symm)); omega
  have hLa : L xa < 2 ^ 40 := h.2.2.2.2.2.2.2.1 _ _ ha
  have hLb : L xb < 2 ^ 40 := h.2.2.2.2.2.2.2.1 _ _ hb0
  have hLc : L xc < 2 ^ 40 := h.2.2.2.2.2.2.2.1 _ _ hc0
  refine lv_aload_n hx hb d_o_carry_0 rfl (lv_at hl 0 rfl) ?_
  refine lv_iload_n hx hb d_o_carry_1 rfl (lv_at hl 1 rfl) ?_
  refine ol_cr (n := 1) (As := [.int (nI xa)]) (rest := []) X hml (c_o_of l G hG (hb3 ha) ((h.2.2.2.2.2.2.2.2.1 _ (hb3 ha)).mpr ⟨_, ha⟩)) (gw_W X.2.2.2.1 ml_o_66 im_o_of se_o_of k_o_of in_o (by decide +kernel) rfl rfl (by rw [hR]; exact ⟨Nat.le_of_ble_eq_true rfl, Nat.le_of_ble_eq_true rfl⟩)) hP hS hl.1 rfl rfl (Nat.le_of_ble_eq_true rfl) d_o_carry_2 (fun r u' H locs hq hP hS => ?_)
  obtain ⟨hr0, hu0⟩ := hq
  rw [hr0]
  rw [hu0] at hP
  refine lv_astore (lv' := [(4, .ref (ol_a G xa)), (0, .ref (ol_h G)), (1, .int (nI xa)), (2, .int (nI xb)), (3, .int (nI xc))]) hx hb d_o_carry_5 hl (by decide) rfl (fun ls hl => ?_)
  refine lv_aload_n hx hb d_o_carry_7 rfl (lv_at hl 1 rfl) ?_
  refine lv_iload_n hx hb d_o_carry_8 rfl (lv_at hl 3 rfl) ?_
  refine ol_cr (n := 1) (As := [.int (nI xb)]) (rest := []) X hml (c_o_of l G hG (hb3 hb0) ((h.2.2.2.2.2.2.2.2.1 _ (hb3 hb0)).mpr ⟨_, hb0⟩)) (gw_W X.2.2.2.1 ml_o_66 im_o_of se_o_of k_o_of in_o (by decide +kernel) rfl rfl (by rw [hR]; exact ⟨Nat.le_of_ble_eq_true rfl, Nat.le_of_ble_eq_true rfl⟩)) hP hS hl.1 rfl rfl (Nat.le_of_ble_eq_true rfl) d_o_carry_9 (fun r u' H locs hq hP hS => ?_)
  obtain ⟨hr0, hu0⟩ := hq
  rw [hr0]
  rw [hu0] at hP
  refine lv_astore (lv' := [(5, .ref (ol_a G xb)), (4, .ref (ol_a G xa)), (0, .ref (ol_h G)), (1, .int (nI xa)), (2, .int (nI xb)), (3, .int (nI xc))]) hx hb d_o_carry_12 hl (by decide) rfl (fun ls hl => ?_)
  refine lv_aload_n hx hb d_o_carry_14 rfl (lv_at hl 2 rfl) ?_
  refine lv_iload_n hx hb d_o_carry_15 rfl (lv_at hl 5 rfl) ?_
  refine ol_cr (n := 1) (As := [.int (nI xc)]) (rest := []) X hml (c_o_of l G hG (hb3 hc0) ((h.2.2.2.2.2.2.2.2.1 _ (hb3 hc0)).mpr ⟨_, hc0⟩)) (gw_W X.2.2.2.1 ml_o_66 im_o_of se_o_of k_o_of in_o (by decide +kernel) rfl rfl (by rw [hR]; exact ⟨Nat.le_of_ble_eq_true rfl, Nat.le_of_ble_eq_true rfl⟩)) hP hS hl.1 rfl rfl (Nat.le_of_ble_eq_true rfl) d_o_carry_16 (fun r u' H locs hq hP hS => ?_)
  obtain ⟨hr0, hu0⟩ := hq
  rw [hr0]
  rw [hu0] at hP
  refine lv_astore (lv' := [(6, .ref (ol_a G xc)), (5, .ref (ol_a G xb)), (4, .ref (ol_a G xa)), (0, .ref (ol_h G)), (1, .int (nI xa)), (2, .int (nI xb)), (3, .int (nI xc))]) hx hb d_o_carry_19 hl (by decide) rfl (fun ls hl => ?_)
  refine lv_aload hx hb d_o_carry_21 (lv_at hl 2 rfl) ?_
  refine g_label X hP (hb3 ha) d_o_carry_23 ?_
  refine lv_aload hx hb d_o_carry_26 (lv_at hl 1 rfl) ?_
  refine g_label X hP (hb3 hb0) d_o_carry_28 ?_
  refine lb_ge (tgt := 63) hx hb (by omega) (by omega) d_o_carry_31 d_o_carry_32 (by decide) (fun q => ?_) (fun q => ?_)
  · exact absurd ((h.lt ha hb0).mpr hab) (by omega)
  · refine lv_aload hx hb d_o_carry_35 (lv_at hl 0 rfl) ?_
    refine g_label X hP (hb3 hc0) d_o_carry_37 ?_
    refine lv_aload hx hb d_o_carry_40 (lv_at hl 2 rfl) ?_
    refine g_label X hP (hb3 ha) d_o_carry_42 ?_
    refine lb_le (tgt := 65) hx hb (by omega) (by omega) d_o_carry_45 d_o_carry_46 (by decide) (fun q2 => ?_) (fun q2 => ?_)
    · exact absurd ((h.lt ha hc0).mpr (by omega)) (by omega)
    · refine lv_aload hx hb d_o_carry_49 (lv_at hl 0 rfl) ?_
      refine g_label X hP (hb3 hc0) d_o_carry_51 ?_
      refine lv_aload hx hb d_o_carry_54 (lv_at hl 1 rfl) ?_
      refine g_label X hP (hb3 hb0) d_o_carry_56 ?_
      refine lb_ge (tgt := 65) hx hb (by omega) (by omega) d_o_carry_59 d_o_carry_60 (by decide) (fun q4 => ?_) (fun q4 => ?_)
      · refine lv_iconst (v := (nI 0)) hx hb d_o_carry_65 (by decide) ?_
        refine lv_istore (lv' := [(7, .int (nI 0)), (6, .ref (ol_a G xc)), (5, .ref (ol_a G xb)), (4, .ref (ol_a G xa)), (0, .ref (ol_h G)), (1, .int (nI xa)), (2, .int (nI xb)), (3, .int (nI xc))]) hx hb d_o_carry_66 hl (by decide) rfl (fun ls hl => ?_)
        refine lv_aload hx hb d_o_carry_68 (lv_at hl 1 rfl) ?_
        refine lv_astore (lv' := [(8, .ref (ol_a G xc)), (7, .int (nI 0)), (6, .ref (ol_a G xc)), (5, .ref (ol_a G xb)), (4, .ref (ol_a G xa)), (0, .ref (ol_h G)), (1, .int (nI xa)), (2, .int (nI xb)), (3, .int (nI xc))]) hx hb d_o_carry_70 hl (by decide) rfl (fun ls hl => ?_)
        refine lv_aload hx hb d_o_carry_72 (lv_at hl 2 rfl) ?_
        refine lv_aload hx hb d_o_carry_74 (lv_at hl 4 rfl) ?_
        refine o_acmp_ne (tgt := 84) X (hb3 hc0) (hb3 ha) d_o_carry_76 (by decide) (fun q3 => ?_) (fun q3 => ?_)
        · refine lv_null hx hb d_o_carry_84 ?_
          refine lv_astoreN (lv' := [(9, .null), (8, .ref (ol_a G xc)), (7, .int (nI 0)), (6, .ref (ol_a G xc)), (5, .ref (ol_a G xb)), (4, .ref (ol_a G xa)), (0, .ref (ol_h G)), (1, .int (nI xa)), (2, .int (nI xb)), (3, .int (nI xc))]) hx hb d_o_carry_85 hl (by decide) rfl (fun ls hl => ?_)
          exact loop M [] Q0 xc 0 L b n t F nf la mn rfl rfl rfl ⟨h, hH, hlen⟩ _ _ hP hS ls (lv_sub hl [2, 1, 0, 6, 5, 4] rfl)
        · exact absurd q3 hne0
      · exact absurd ((h.lt hc0 hb0).mp q4) (by omega)
end
section
/-! 25: OrderLineModel's world: its cells, its rows, how its methods begin, end and are called -/
abbrev MG : Type := va_G × Nat × Nat × Nat × ClassId × ClassId
def om_D (B : MG) : va_G := B.1
def om_h (B : MG) : Nat := B.2.1
def om_i (B : MG) : Nat := B.2.2.1
def om_j (B : MG) : Nat := B.2.2.2.1
def om_ki (B : MG) : ClassId := B.2.2.2.2.1
def om_kj (B : MG) : ClassId := B.2.2.2.2.2
/-- thrown, the line, how many, what was put aside -/
abbrev MS : Type := Nat × (Nat → Nat) × Nat × (Nat → Nat)
def om_C (B : MG) (u : MS) : va_W := match u with
  | (th, f, mn, g) => [(om_h B, .inr (2, [.int (nI th), .ref (om_i B), .int (nI mn), .ref (om_j B)])), (om_i B, .inl (om_ki B, 1000, .inl (fun i => nI (f i)))), (om_j B, .inl (om_kj B, 1000, .inl (fun i => nI (g i))))]
def om_A (B : MG) : Nat → Prop := fun q => q = om_h B ∨ q = om_i B ∨ q = om_j B
def om_ok (B : MG) : Prop := om_h B ≠ om_i B ∧ om_h B ≠ om_j B ∧ om_i B ≠ om_j B
def om_P (B : MG) (u : MS) (H : Heap) : Prop := va_P (om_D B) ol_cl (om_C B u) H
theorem om_key {B : MG} {u : MS} {i : Nat} {q : Nat × va_E} (h : (om_C B u)[i]? = some q) : (i = 0 ∧ q.1 = om_h B) ∨ (i = 1 ∧ q.1 = om_i B) ∨ (i = 2 ∧ q.1 = om_j B) := by
  obtain ⟨th, f, mn, g⟩ := u
  match i, h with
  | 0, h => cases h; exact Or.inl ⟨rfl, rfl⟩
  | 1, h => cases h; exact Or.inr (Or.inl ⟨rfl, rfl⟩)
  | 2, h => cases h; exact Or.inr (Or.inr ⟨rfl, rfl⟩)
  | k + 3, h => cases h
theorem om_DD {B : MG} (hB : om_ok B) (u : MS) : va_D (om_A B) (om_C B u) := by
  obtain ⟨h1, h2, h3⟩ := hB
  refine ⟨fun i j p q hi hj e => ?_, fun k q h => ?_⟩
  · rcases om_key hi with ⟨a1, a2⟩ | ⟨a1, a2⟩ | ⟨a1, a2⟩ <;> rcases om_key hj with ⟨b1, b2⟩ | ⟨b1, b2⟩ | ⟨b1, b2⟩ <;> rw [a2, b2] at e <;> first | omega | exact absurd e h1 | exact absurd e h2 | exact absurd e h3 | exact absurd e.symm h1 | exact absurd e.symm h2 | exact absurd e.symm h3
  · rcases om_key h with ⟨a1, a2⟩ | ⟨a1, a2⟩ | ⟨a1, a2⟩
    · exact Or.inl a2
    · exact Or.inr (Or.inl a2)
    · exact Or.inr (Or.inr a2)
theorem om_P.kept {B : MG} {u : MS} {H H1 : Heap} (h : om_P B u H) (hq : ∀ q, om_A B q → H1[q]? = H[q]?) : om_P B u H1 := va_P.kept h (fun k q hk => hq q.1 (by
  rcases om_key hk with ⟨_, a2⟩ | ⟨_, a2⟩ | ⟨_, a2⟩
  · exact Or.inl a2
  · exact Or.inr (Or.inl a2)
  · exact Or.inr (Or.inr a2)))
theorem om_P.lt {B : MG} {u : MS} {H : Heap} (h : om_P B u H) {q : Nat} (hq : om_A B q) : q < H.size := by
  obtain ⟨th, f, mn, g⟩ := u
  rcases hq with rfl | rfl | rfl
  · exact (h 0 _ rfl).lt
  · exact (h 1 _ rfl).lt
  · exact (h 2 _ rfl).lt
def om_ty (B : MG) : List (ClassId × FieldType) := [(om_ki B, .int), (om_kj B, .int)]
def om_X (p : Program) (s : State) (m : MethodId) (args : Array Value) (c : Code) (cc : ByteArray) (B : MG) : Prop :=
  p.tables.exec = Jvm.exec ∧ c.code = cc ∧ s.vm.findClass "OrderLineModel" = some m.cls ∧ (∀ w ∈ GW, w.before args s = true) ∧ va_K (om_D B) ol_cl (om_ty B) s ∧ om_ok B
def om_U (B : MG) (u : MS) (U : State) : Prop := va_K (om_D B) ol_cl (om_ty B) U ∧ om_P B u U.heap
section OMR
variable {p : Program} {l : Launch} {e : Env} {R : Room} {s : State} {m : MethodId} {args : Array Value} {below : List Frame} {meth : Method} {c : Code} {H : Heap} {locs : List Loc} {cells slots : Nat} {Q : State → Prop}
variable {cc : ByteArray} {pc : Nat} {ls : Array Slot} {rest : List Value} {B : MG} {th mn k : Nat} {f g : Nat → Nat}
theorem g_thrown (X : om_X p s m args c cc B) (hP : om_P B (th, f, mn, g) H) (hd : decode cc pc = .ok (.getfield 20, 3))
    (kk : W p l e R s m args below meth c H locs cells slots Q (F0 m (pc + 3) ls (.int (nI th) :: rest))) : W p l e R s m args below meth c H locs cells slots Q (F0 m pc ls (.ref (om_h B) :: rest)) :=
  va_get (own := "OrderLineModel") (ref := "OrderLineModel") (D := om_D B) (cl := ol_cl) (ci := 2) (C := R_m) (T := F_m) (N := 4) X.1 X.2.1 X.2.2.2.1 i_m X.2.2.1 X.2.2.2.2.1 hP 0 rfl rfl 0 (by decide) (X.2.2.2.1 _ fl_m_20) (fun _ h => h) rfl hd kk
theorem g_line (X : om_X p s m args c cc B) (hP : om_P B (th, f, mn, g) H) (hd : decode cc pc = .ok (.getfield 7, 3))
    (kk : W p l e R s m args below meth c H locs cells slots Q (F0 m (pc + 3) ls (.ref (om_i B) :: rest))) : W p l e R s m args below meth c H locs cells slots Q (F0 m pc ls (.ref (om_h B) :: rest)) :=
  va_get (own := "OrderLineModel") (ref := "OrderLineModel") (D := om_D B) (cl := ol_cl) (ci := 2) (C := R_m) (T := F_m) (N := 4) X.1 X.2.1 X.2.2.2.1 i_m X.2.2.1 X.2.2.2.2.1 hP 0 rfl rfl 1 (by decide) (X.2.2.2.1 _ fl_m_7) (fun _ h => h) rfl hd kk
theorem g_manym (X : om_X p s m args c cc B) (hP : om_P B (th, f, mn, g) H) (hd : decode cc pc = .ok (.getfield 13, 3))
    (kk : W p l e R s m args below meth c H locs cells slots Q (F0 m (pc + 3) ls (.int (nI mn) :: rest))) : W p l e R s m args below meth c H locs cells slots Q (F0 m pc ls (.ref (om_h B) :: rest)) :=
  va_get (own := "OrderLineModel") (ref := "OrderLineModel") (D := om_D B) (cl := ol_cl) (ci := 2) (C := R_m) (T := F_m) (N := 4) X.1 X.2.1 X.2.2.2.1 i_m X.2.2.1 X.2.2.2.2.1 hP 0 rfl rfl 2 (by decide) (X.2.2.2.1 _ fl_m_13) (fun _ h => h) rfl hd kk
theorem g_aside (X : om_X p s m args c cc B) (hP : om_P B (th, f, mn, g) H) (hd : decode cc pc = .ok (.getfield 17, 3))
    (kk : W p l e R s m args below meth c H locs cells slots Q (F0 m (pc + 3) ls (.ref (om_j B) :: rest))) : W p l e R s m args below meth c H locs cells slots Q (F0 m pc ls (.ref (om_h B) :: rest)) :=
  va_get (own := "OrderLineModel") (ref := "OrderLineModel") (D := om_D B) (cl := ol_cl) (ci := 2) (C := R_m) (T := F_m) (N := 4) X.1 X.2.1 X.2.2.2.1 i_m X.2.2.1 X.2.2.2.2.1 hP 0 rfl rfl 3 (by decide) (X.2.2.2.1 _ fl_m_17) (fun _ h => h) rfl hd kk
theorem p_thrown (X : om_X p s m args c cc B) (hP : om_P B (th, f, mn, g) H) (hS : va_S (om_A B) s.heap H locs) {v : Nat} (hd : decode cc pc = .ok (.putfield 20, 3))
    (kk : ∀ (H1 : Heap) (locs1 : List Loc), om_P B (v, f, mn, g) H1 → va_S (om_A B) s.heap H1 locs1 → W p l e R s m args below meth c H1 locs1 cells slots Q (F0 m (pc + 3) ls rest)) : W p l e R s m args below meth c H locs cells slots Q (F0 m pc ls (.int (nI v) :: .ref (om_h B) :: rest)) :=
  va_put (own := "OrderLineModel") (ref := "OrderLineModel") (D := om_D B) (cl := ol_cl) (ci := 2) (v := .int (nI v)) (ty := .int) (C := R_m) (T := F_m) (N := 4) X.1 X.2.1 X.2.2.2.1 i_m t_m t_m_ok n_m X.2.2.1 X.2.2.2.2.1 hP (om_DD X.2.2.2.2.2 _) hS 0 rfl rfl 0 (by decide) (X.2.2.2.1 _ fl_m_20) (fun _ h => h) rfl (by decide +kernel) rfl rfl (Nat.le_of_ble_eq_true rfl) hd (fun H1 locs1 hP1 _ hS1 => kk H1 locs1 hP1 hS1)
theorem p_manym (X : om_X p s m args c cc B) (hP : om_P B (th, f, mn, g) H) (hS : va_S (om_A B) s.heap H locs) {v : Nat} (hd : decode cc pc = .ok (.putfield 13, 3))
    (kk : ∀ (H1 : Heap) (locs1 : List Loc), om_P B (th, f, v, g) H1 → va_S (om_A B) s.heap H1 locs1 → W p l e R s m args below meth c H1 locs1 cells slots Q (F0 m (pc + 3) ls rest)) : W p l e R s m args below meth c H locs cells slots Q (F0 m pc ls (.int (nI v) :: .ref (om_h B) :: rest)) :=
  va_put (own := "OrderLineModel") (ref := "OrderLineModel") (D := om_D B) (cl := ol_cl) (ci := 2) (v := .int (nI v)) (ty := .int) (C := R_m) (T := F_m) (N := 4) X.1 X.2.1 X.2.2.2.1 i_m t_m t_m_ok n_m X.2.2.1 X.2.2.2.2.1 hP (om_DD X.2.2.2.2.2 _) hS 0 rfl rfl 2 (by decide) (X.2.2.2.1 _ fl_m_13) (fun _ h => h) rfl (by decide +kernel) rfl rfl (Nat.le_of_ble_eq_true rfl) hd (fun H1 locs1 hP1 _ hS1 => kk H1 locs1 hP1 hS1)
theorem a_line (X : om_X p s m args c cc B) (hP : om_P B (th, f, mn, g) H) (hk : k < 1000) (hd : decode cc pc = .ok (.iaload, 1))
    (kk : W p l e R s m args below meth c H locs cells slots Q (F0 m (pc + 1) ls (.int (nI (f k)) :: rest))) : W p l e R s m args below meth c H locs cells slots Q (F0 m pc ls (.int (nI k) :: .ref (om_i B) :: rest)) :=
  va_iald (D := om_D B) (cl := ol_cl) X.1 X.2.1 X.2.2.2.2.1 hP 1 0 rfl rfl (vp_in_nI hk (by decide)) hd (by rw [nI_clamp (by omega)]; exact kk)
theorem a_aside (X : om_X p s m args c cc B) (hP : om_P B (th, f, mn, g) H) (hk : k < 1000) (hd : decode cc pc = .ok (.iaload, 1))
    (kk : W p l e R s m args below meth c H locs cells slots Q (F0 m (pc + 1) ls (.int (nI (g k)) :: rest))) : W p l e R s m args below meth c H locs cells slots Q (F0 m pc ls (.int (nI k) :: .ref (om_j B) :: rest)) :=
  va_iald (D := om_D B) (cl := ol_cl) X.1 X.2.1 X.2.2.2.2.1 hP 2 1 rfl rfl (vp_in_nI hk (by decide)) hd (by rw [nI_clamp (by omega)]; exact kk)
theorem s_line (X : om_X p s m args c cc B) (hP : om_P B (th, f, mn, g) H) (hS : va_S (om_A B) s.heap H locs) (hk : k < 1000) {v : Nat} (hd : decode cc pc = .ok (.iastore, 1))
    (kk : ∀ (H1 : Heap) (locs1 : List Loc), om_P B (th, va_up f k v, mn, g) H1 → va_S (om_A B) s.heap H1 locs1 → W p l e R s m args below meth c H1 locs1 cells slots Q (F0 m (pc + 1) ls rest)) : W p l e R s m args below meth c H locs cells slots Q (F0 m pc ls (.int (nI v) :: .int (nI k) :: .ref (om_i B) :: rest)) := by
  refine va_iast (D := om_D B) (cl := ol_cl) X.1 X.2.1 X.2.2.2.2.1 hP (om_DD X.2.2.2.2.2 _) hS 1 0 rfl rfl (vp_in_nI hk (by decide)) hd (fun H1 locs1 hP1 _ hS1 => kk H1 locs1 ?_ hS1)
  rw [nI_clamp (by omega), show upd (fun i => nI (f i)) k (nI v) = (fun i => nI (va_up f k v i)) from funext fun j => by by_cases hj : j = k <;> simp [upd, va_up, hj]] at hP1
  exact hP1
theorem s_aside (X : om_X p s m args c cc B) (hP : om_P B (th, f, mn, g) H) (hS : va_S (om_A B) s.heap H locs) (hk : k < 1000) {v : Nat} (hd : decode cc pc = .ok (.iastore, 1))
    (kk : ∀ (H1 : Heap) (locs1 : List Loc), om_P B (th, f, mn, va_up g k v) H1 → va_S (om_A B) s.heap H1 locs1 → W p l e R s m args below meth c H1 locs1 cells slots Q (F0 m (pc + 1) ls rest)) : W p l e R s m args below meth c H locs cells slots Q (F0 m pc ls (.int (nI v) :: .int (nI k) :: .ref (om_j B) :: rest)) := by
  refine va_iast (D := om_D B) (cl := ol_cl) X.1 X.2.1 X.2.2.2.2.1 hP (om_DD X.2.2.2.2.2 _) hS 2 1 rfl rfl (vp_in_nI hk (by decide)) hd (fun H1 locs1 hP1 _ hS1 => kk H1 locs1 ?_ hS1)
  rw [nI_clamp (by omega), show upd (fun i => nI (g i)) k (nI v) = (fun i => nI (va_up g k v i)) from funext fun j => by by_cases hj : j = k <;> simp [upd, va_up, hj]] at hP1
  exact hP1
end OMR
section OMM
variable {l : Launch} {y : MethodName} {cc : ByteArray} {maxL : Nat} {rm : Room} {As : List Value} {B : MG} {u : MS}
/-- a method's body, from its entry -/
def om_body (l : Launch) (cc : ByteArray) (maxL : Nat) (rm : Room) (As : List Value) (B : MG) (u : MS) (ends : (p : Program) → (e : Env) → (R : Room) → (s : State) → (m : MethodId) → (args : Array Value) → (below : List Frame) → (meth : Method) → (c : Code) → (Q : State → Prop) → Prop) : Prop :=
  ∀ (p : Program) (e : Env) (R : Room) (s : State) (m : MethodId) (args : Array Value) (below : List Frame) (meth : Method) (c : Code) (Q : State → Prop) (ls : Array Slot), R = rm → om_X p s m args c cc B → c.maxLocals = maxL → om_P B u s.heap → va_S (om_A B) s.heap s.heap [] → lv_has ls maxL (lv_args 0 (.ref (om_h B) :: As)) → ends p e R s m args below meth c Q → W p l e R s m args below meth c s.heap [] 0 0 Q (F0 m 0 ls [])
theorem om_met {ret : Option FieldType} {Qc : Array Value → State → Outcome → State → Prop} {ends : (p : Program) → (e : Env) → (R : Room) → (s : State) → (m : MethodId) → (args : Array Value) → (below : List Frame) → (meth : Method) → (c : Code) → (Q : State → Prop) → Prop} (hy : plainName y.cls = true) (hyc : y.cls = "OrderLineModel") (hB : om_ok B) (hn : (lg_sl (.ref (om_h B) :: As)).length ≤ maxL)
    (he : ∀ p e s m args below meth c, p.tables.exec = Jvm.exec → c.code = cc → meth.sig.returnType = ret → meth.locks = false → ends p e rm s m args below meth c (MQ below Qc args s 0 0 (om_A B))) (body : om_body l cc maxL rm As B u ends) :
    Met l y (.code y cc maxL ret :: GW) rm (va_Pc (.ref (om_h B) :: As) (om_U B u)) Qc 0 0 (om_A B) := by
  refine Met.ofW (cc := cc) (maxL := maxL) (ret := ret) hy rfl ?_
  intro p e s m args below meth c s₁ BL hml hv
  obtain ⟨rfl, hK, hP⟩ := hv
  have hts := atoms_spec (ws := .code y cc maxL ret :: GW) BL.pre
  have hown : s.vm.findClass "OrderLineModel" = some m.cls := by rw [← hyc]; exact findClass_of_methodNamed BL.named
  have hl := lv_entry (.ref (om_h B) :: As) (n := maxL) hn
  rw [lg_entry_eq]
  exact body p e _ s m _ below meth c _ _ rfl ⟨BL.exec, BL.bytes, hown, fun w hw => hts w (List.mem_cons_of_mem _ hw), hK, hB⟩ hml hP va_S.rf hl (he p e s m _ below meth c BL.exec BL.bytes BL.returns BL.notSynchronized)
/-- the ends -/
def om_ei (l : Launch) (cc : ByteArray) (B : MG) (post : Int32 → MS → Prop) (p : Program) (e : Env) (R : Room) (s : State) (m : MethodId) (args : Array Value) (below : List Frame) (meth : Method) (c : Code) (Q : State → Prop) : Prop :=
  ∀ (v : Int32) (u' : MS) (H : Heap) (locs : List Loc) (pc : Nat) (ls : Array Slot), om_P B u' H → va_S (om_A B) s.heap H locs → decode cc pc = .ok (.ireturn, 1) → post v u' → W p l e R s m args below meth c H locs 0 0 Q (F0 m pc ls [.int v])
def om_ez (l : Launch) (cc : ByteArray) (B : MG) (post : Bool → MS → Prop) (p : Program) (e : Env) (R : Room) (s : State) (m : MethodId) (args : Array Value) (below : List Frame) (meth : Method) (c : Code) (Q : State → Prop) : Prop :=
  ∀ (v : Bool) (x : Int32) (u' : MS) (H : Heap) (locs : List Loc) (pc : Nat) (ls : Array Slot), x = ol_z v → om_P B u' H → va_S (om_A B) s.heap H locs → decode cc pc = .ok (.ireturn, 1) → post v u' → W p l e R s m args below meth c H locs 0 0 Q (F0 m pc ls [.int x])
def om_ev (l : Launch) (cc : ByteArray) (B : MG) (post : MS → Prop) (p : Program) (e : Env) (R : Room) (s : State) (m : MethodId) (args : Array Value) (below : List Frame) (meth : Method) (c : Code) (Q : State → Prop) : Prop :=
  ∀ (u' : MS) (H : Heap) (locs : List Loc) (pc : Nat) (ls : Array Slot), om_P B u' H → va_S (om_A B) s.heap H locs → decode cc pc = .ok (.return_, 1) → post u' → W p l e R s m args below meth c H locs 0 0 Q (F0 m pc ls [])
abbrev om_Qi (B : MG) (post : Int32 → MS → Prop) : Array Value → State → Outcome → State → Prop := va_Qi post (fun u' t => om_P B u' t.heap) (om_A B)
abbrev om_Qz (B : MG) (post : Bool → MS → Prop) : Array Value → State → Outcome → State → Prop := va_Qi (fun x (q : Bool × MS) => x = ol_z q.1 ∧ post q.1 q.2) (fun q t => om_P B q.2 t.heap) (om_A B)
abbrev om_Qv (B : MG) (post : MS → Prop) : Array Value → State → Outcome → State → Prop := va_Qv post (fun u' t => om_P B u' t.heap) (om_A B)
abbrev om_M (l : Launch) (y : MethodName) (cc : ByteArray) (maxL : Nat) (ret : Option FieldType) (rm : Room) (B : MG) (As : List Value) (u : MS) (Qc : Array Value → State → Outcome → State → Prop) : Prop := Met l y (.code y cc maxL ret :: GW) rm (va_Pc (.ref (om_h B) :: As) (om_U B u)) Qc 0 0 (om_A B)
theorem om_mi {post : Int32 → MS → Prop} (hy : plainName y.cls = true) (hyc : y.cls = "OrderLineModel") (hB : om_ok B) (hn : (lg_sl (.ref (om_h B) :: As)).length ≤ maxL) (body : om_body l cc maxL rm As B u (om_ei l cc B post)) : om_M l y cc maxL (some .int) rm B As u (om_Qi B post) :=
  om_met hy hyc hB hn (fun p e s m args below meth c hx hb hr hk v u' H locs pc ls hP hS hd hpo => W.iret hx hb hr (fun t ht hW => ⟨⟨v, u', rfl, hpo, by subst ht; exact hP⟩, hS.F ht⟩) hS.2.2 hd hk) body
theorem om_mz {post : Bool → MS → Prop} (hy : plainName y.cls = true) (hyc : y.cls = "OrderLineModel") (hB : om_ok B) (hn : (lg_sl (.ref (om_h B) :: As)).length ≤ maxL) (body : om_body l cc maxL rm As B u (om_ez l cc B post)) : om_M l y cc maxL (some .boolean) rm B As u (om_Qz B post) :=
  om_met hy hyc hB hn (fun p e s m args below meth c hx hb hr hk v x u' H locs pc ls hxv hP hS hd hpo => W.zret hx hb hr (by subst hxv; cases v <;> rfl) (fun t ht hW => ⟨⟨x, (v, u'), rfl, ⟨hxv, hpo⟩, by subst ht; exact hP⟩, hS.F ht⟩) hS.2.2 hd hk) body
theorem om_mv {post : MS → Prop} (hy : plainName y.cls = true) (hyc : y.cls = "OrderLineModel") (hB : om_ok B) (hn : (lg_sl (.ref (om_h B) :: As)).length ≤ maxL) (body : om_body l cc maxL rm As B u (om_ev l cc B post)) : om_M l y cc maxL none rm B As u (om_Qv B post) :=
  om_met hy hyc hB hn (fun p e s m args below meth c hx hb hr hk u' H locs pc ls hP hS hd hpo => W.vret hx hb hr (fun t ht hW => ⟨⟨u', rfl, hpo, by subst ht; exact hP⟩, hS.F ht⟩) hS.2.2 hd hk) body
end OMM
section OMC
variable {p : Program} {l : Launch} {e : Env} {R : Room} {s : State} {m : MethodId} {args : Array Value} {below : List Frame} {meth : Method} {c : Code} {H : Heap} {locs : List Loc} {Q : State → Prop}
variable {cc bytes : ByteArray} {pc nL maxL n index : Nat} {ls : Array Slot} {rest st0 : List Value} {B : MG} {u : MS} {y : MethodName} {As : List Value} {rm : Room} {ret : Option FieldType}
theorem om_pre (X : om_X p s m args c cc B) (hP : om_P B u H) : PreV s H "OrderLineModel" (om_h B) (va_Pc (.ref (om_h B) :: As) (om_U B u)) As :=
  ⟨fun a U g mk q => ⟨q.1, va_K.moved (u := U) (U := U.calling g mk a) (Vm.Alike.refl U.vm) q.2.1, q.2.2⟩, by obtain ⟨th, f, mn, g⟩ := u; exact va_recv X.2.2.2.2.1 hP (ci := 2) (q0 := 0) rfl rfl, fun U hU hW => ⟨rfl, va_K.moved hW.alike X.2.2.2.2.1, by rw [hU]; exact hP⟩⟩
theorem om_run {Qc : Array Value → State → Outcome → State → Prop} (X : om_X p s m args c cc B) (hml : c.maxLocals = nL) (hM : om_M l y bytes maxL ret rm B As u Qc) (cw : CallW R s args "OrderLineModel" "OrderLineModel" index y bytes maxL ret (.code y bytes maxL ret :: GW) rm 0 0 n) (hP : om_P B u H) (hsz : ls.size = nL) (hn : As.length = n) (hst : st0 = As.reverse ++ .ref (om_h B) :: rest) (hro : (rest.map fun v => v.category).sum ≤ 8) (hd : decode cc pc = .ok (.invokevirtual index, 3)) : va_Run p l e R s m args below meth c H locs 0 0 0 0 (F0 m pc ls st0) rest (Qc (.ref (om_h B) :: As).toArray) (om_A B) :=
  va_runV (C := "OrderLineModel") ⟨X.1, X.2.1, hml, X.2.2.1, X.2.2.2.1⟩ hM cw (om_pre X hP) rfl hn hsz hst (lv_room hro) hd ⟨Nat.zero_le _, Nat.zero_le _⟩
theorem om_ci {post : Int32 → MS → Prop} (X : om_X p s m args c cc B) (hml : c.maxLocals = nL) (hM : om_M l y bytes maxL ret rm B As u (om_Qi B post)) (cw : CallW R s args "OrderLineModel" "OrderLineModel" index y bytes maxL ret (.code y bytes maxL ret :: GW) rm 0 0 n) (hP : om_P B u H) (hS : va_S (om_A B) s.heap H locs) (hsz : ls.size = nL) (hn : As.length = n) (hst : st0 = As.reverse ++ .ref (om_h B) :: rest) (hro : (rest.map fun v => v.category).sum ≤ 8) (hd : decode cc pc = .ok (.invokevirtual index, 3))
    (kk : ∀ (r : Int32) (u' : MS) (H1 : Heap) (locs1 : List Loc), post r u' → om_P B u' H1 → va_S (om_A B) s.heap H1 locs1 → W p l e R s m args below meth c H1 locs1 0 0 Q (F0 m (pc + 3) ls (.int r :: rest))) : W p l e R s m args below meth c H locs 0 0 Q (F0 m pc ls st0) :=
  va_calli (om_run X hml hM cw hP hsz hn hst hro hd) hS (fun q _ h => h) (fun q h => h) (fun r u' t H1 locs1 ht hvm hpo hB hz hk hS1 => kk r u' H1 locs1 hpo (by rw [← ht]; exact hB) hS1)
theorem om_cz {post : Bool → MS → Prop} (X : om_X p s m args c cc B) (hml : c.maxLocals = nL) (hM : om_M l y bytes maxL ret rm B As u (om_Qz B post)) (cw : CallW R s args "OrderLineModel" "OrderLineModel" index y bytes maxL ret (.code y bytes maxL ret :: GW) rm 0 0 n) (hP : om_P B u H) (hS : va_S (om_A B) s.heap H locs) (hsz : ls.size = nL) (hn : As.length = n) (hst : st0 = As.reverse ++ .ref (om_h B) :: rest) (hro : (rest.map fun v => v.category).sum ≤ 8) (hd : decode cc pc = .ok (.invokevirtual index, 3))
    (kk : ∀ (r : Bool) (u' : MS) (H1 : Heap) (locs1 : List Loc), post r u' → om_P B u' H1 → va_S (om_A B) s.heap H1 locs1 → W p l e R s m args below meth c H1 locs1 0 0 Q (F0 m (pc + 3) ls (.int (ol_z r) :: rest))) : W p l e R s m args below meth c H locs 0 0 Q (F0 m pc ls st0) :=
  va_calli (om_run X hml hM cw hP hsz hn hst hro hd) hS (fun q _ h => h) (fun q h => h) (fun r u' t H1 locs1 ht hvm hpo hB hz hk hS1 => by rw [hpo.1]; exact kk u'.1 u'.2 H1 locs1 hpo.2 (by rw [← ht]; exact hB) hS1)
theorem om_cv {post : MS → Prop} (X : om_X p s m args c cc B) (hml : c.maxLocals = nL) (hM : om_M l y bytes maxL ret rm B As u (om_Qv B post)) (cw : CallW R s args "OrderLineModel" "OrderLineModel" index y bytes maxL ret (.code y bytes maxL ret :: GW) rm 0 0 n) (hP : om_P B u H) (hS : va_S (om_A B) s.heap H locs) (hsz : ls.size = nL) (hn : As.length = n) (hst : st0 = As.reverse ++ .ref (om_h B) :: rest) (hro : (rest.map fun v => v.category).sum ≤ 8) (hd : decode cc pc = .ok (.invokevirtual index, 3))
    (kk : ∀ (u' : MS) (H1 : Heap) (locs1 : List Loc), post u' → om_P B u' H1 → va_S (om_A B) s.heap H1 locs1 → W p l e R s m args below meth c H1 locs1 0 0 Q (F0 m (pc + 3) ls rest)) : W p l e R s m args below meth c H locs 0 0 Q (F0 m pc ls st0) :=
  va_callv (om_run X hml hM cw hP hsz hn hst hro hd) hS (fun q _ h => h) (fun q h => h) (fun u' t H1 locs1 ht hvm hpo hB hz hk hS1 => kk u' H1 locs1 hpo (by rw [← ht]; exact hB) hS1)
end OMC
/-- a line as the model may hold it -/
def Zk (Z : List Nat) : Prop := nd Z ∧ (∀ i x : Nat, Z[i]? = some x → x < 1000) ∧ Z.length ≤ 1000 ∧ Z[0]? = some 0
def Mi (f : Nat → Nat) (mn : Nat) (Z : List Nat) : Prop := mn = Z.length ∧ ∀ i x : Nat, Z[i]? = some x → f i = x
theorem Mi.ins {f f' : Nat → Nat} {mn q x : Nat} {Z : List Nat} (h : Mi f mn Z) (hq : q ≤ mn) (hf : ∀ i, i ≤ mn → f' i = if i < q then f i else if i = q then x else f (i - 1)) : Mi f' (mn + 1) (Z.insertIdx q x) := by
  have hq' : q ≤ Z.length := by rw [← h.1]; exact hq
  refine ⟨by rw [List.length_insertIdx_of_le_length hq', h.1], fun i y hy => ?_⟩
  have hi := gt_lt hy
  rw [List.length_insertIdx_of_le_length hq', ← h.1] at hi
  rw [ins_get hq'] at hy
  rw [hf i (by omega)]
  by_cases c1 : i < q
  · rw [if_pos c1] at hy ⊢; exact h.2 i y hy
  · rw [if_neg c1] at hy ⊢
    by_cases c2 : i = q
    · rw [if_pos c2] at hy ⊢; exact Option.some.inj hy
    · rw [if_neg c2] at hy ⊢; exact h.2 _ y hy
theorem Mi.del {f f' : Nat → Nat} {mn q : Nat} {Z : List Nat} (h : Mi f mn Z) (hq : q < mn) (hf : ∀ i, i < mn - 1 → f' i = if i < q then f i else f (i + 1)) : Mi f' (mn - 1) (Z.eraseIdx q) := by
  have hq' : q < Z.length := by rw [← h.1]; exact hq
  refine ⟨by rw [List.length_eraseIdx_of_lt hq', h.1], fun i y hy => ?_⟩
  have hi := gt_lt hy
  rw [List.length_eraseIdx_of_lt hq', ← h.1] at hi
  rw [era_get] at hy
  rw [hf i hi]
  by_cases c1 : i < q
  · rw [if_pos c1] at hy ⊢; exact h.2 i y hy
  · rw [if_neg c1] at hy ⊢; exact h.2 _ y hy
end
section
/-! 26: OrderLineModel's leaves: find, free, put, drop, lacks, thrown (by program: gen/m1.py) -/
set_option maxHeartbeats 4000000 in
set_option maxRecDepth 100000 in
/-- find(x), x at pp -/
theorem c_m_find (l : Launch) (B : MG) (hB : om_ok B) {th mn : Nat} {f g : Nat → Nat} {Z : List Nat} {pp x : Nat} (hZ : Zk Z) (hM : Mi f mn Z) (hx0 : Z[pp]? = some x) : om_M l y_m_find b_m_find 3 (some .int) ({ frames := 0, cells := 0, slots := 0, locals := 0 }) B [.int (nI x)] (th, f, mn, g) (om_Qi B (fun r u => r = nI pp ∧ u = (th, f, mn, g))) := by
  refine om_mi (by decide) rfl hB (Nat.le_of_ble_eq_true rfl) (fun p e R s m args below meth c Q ls hR X hml hP hS hl hend => ?_)
  have hx := X.1
  have hb := X.2.1
  have hl : lv_has ls 3 [(0, .ref (om_h B)), (1, .int (nI x))] := hl
  have hmn := hM.1
  have hZl := hZ.2.2.1
  have hb3 : ∀ {i z : Nat}, Z[i]? = some z → z < 1000 := fun {i z} hz => hZ.2.1 i z hz
  have hpl := gt_lt hx0
  have hxb := hb3 hx0
  have loop : ∀ (d k : Nat), k + d = pp → ∀ (ls : Array Slot), lv_has ls 3 [(2, .int (nI k)), (0, .ref (om_h B)), (1, .int (nI x))] → W p l e R s m args below meth c s.heap [] 0 0 Q (F0 m 2 ls []) := by
    intro d
    induction d with
    | zero =>
      intro k hd ls hl
      have hfk : f k = x := hM.2 k x (by rw [show k = pp by omega]; exact hx0)
      refine lv_iload_n hx hb d_m_find_2 rfl (lv_at hl 0 rfl) ?_
      refine lv_aload_n hx hb d_m_find_3 rfl (lv_at hl 1 rfl) ?_
      refine g_manym X hP d_m_find_4 ?_
      refine nb_ge (tgt := 28) hx hb (by omega) (by omega) d_m_find_7 (by decide) (fun q => ?_) (fun q => ?_)
      · exact absurd q (by omega)
      · refine lv_aload_n hx hb d_m_find_10 rfl (lv_at hl 1 rfl) ?_
        refine g_line X hP d_m_find_11 ?_
        refine lv_iload_n hx hb d_m_find_14 rfl (lv_at hl 0 rfl) ?_
        refine a_line X hP (by omega) d_m_find_15 ?_
        refine lv_iload_n hx hb d_m_find_16 rfl (lv_at hl 2 rfl) ?_
        refine nb_ne (tgt := 22) hx hb (by omega) (by omega) d_m_find_17 (by decide) (fun q2 => ?_) (fun q2 => ?_)
        · exact absurd hfk q2
        · refine lv_iload_n hx hb d_m_find_20 rfl (lv_at hl 0 rfl) ?_
          refine tp_i (nI pp) (congrArg nI (by omega)) ?_
          exact hend _ _ _ _ _ _ hP hS d_m_find_21 ⟨rfl, rfl⟩
    | succ d ih =>
      intro k hd ls hl
      obtain ⟨y, hy⟩ := gt_ex (Z := Z) (i := k) (by omega)
      have hfk : f k = y := hM.2 k y hy
      have hyb := hb3 hy
      refine lv_iload_n hx hb d_m_find_2 rfl (lv_at hl 0 rfl) ?_
      refine lv_aload_n hx hb d_m_find_3 rfl (lv_at hl 1 rfl) ?_
      refine g_manym X hP d_m_find_4 ?_
      refine nb_ge (tgt := 28) hx hb (by omega) (by omega) d_m_find_7 (by decide) (fun q => ?_) (fun q => ?_)
      · exact absurd q (by omega)
      · refine lv_aload_n hx hb d_m_find_10 rfl (lv_at hl 1 rfl) ?_
        refine g_line X hP d_m_find_11 ?_
        refine lv_iload_n hx hb d_m_find_14 rfl (lv_at hl 0 rfl) ?_
        refine a_line X hP (by omega) d_m_find_15 ?_
        refine lv_iload_n hx hb d_m_find_16 rfl (lv_at hl 2 rfl) ?_
        refine nb_ne (tgt := 22) hx hb (by omega) (by omega) d_m_find_17 (by decide) (fun q2 => ?_) (fun q2 => ?_)
        · refine lv_iinc (v := nI (k + 1)) (lv' := [(2, .int (nI (k + 1))), (0, .ref (om_h B)), (1, .int (nI x))]) hx hb d_m_find_22 hl (k := 0) rfl (nI_1 _) (by decide) rfl (fun ls hl => ?_)
          refine lv_goto (tgt := 2) hx hb d_m_find_25 (by decide) ?_
          exact ih (k + 1) (by omega) ls (lv_sub hl [0, 1, 2] rfl)
        · exact absurd (hZ.1 _ _ _ hy (by rw [← hfk, q2]; exact hx0)) (by omega)
  refine lv_iconst (v := (nI 0)) hx hb d_m_find_0 (by decide) ?_
  refine lv_istore_n (lv' := [(2, .int (nI 0)), (0, .ref (om_h B)), (1, .int (nI x))]) hx hb d_m_find_1 rfl hl (by decide) rfl (fun ls hl => ?_)
  exact loop pp 0 (by omega) ls (lv_sub hl [0, 1, 2] rfl)
set_option maxHeartbeats 4000000 in
set_option maxRecDepth 100000 in
/-- find(x), nowhere -/
theorem c_m_findN (l : Launch) (B : MG) (hB : om_ok B) {th mn : Nat} {f g : Nat → Nat} {Z : List Nat} {x : Int32} (hZ : Zk Z) (hM : Mi f mn Z) (hbd : bd Z x) : om_M l y_m_find b_m_find 3 (some .int) ({ frames := 0, cells := 0, slots := 0, locals := 0 }) B [.int x] (th, f, mn, g) (om_Qi B (fun r u => r = -1 ∧ u = (th, f, mn, g))) := by
  refine om_mi (by decide) rfl hB (Nat.le_of_ble_eq_true rfl) (fun p e R s m args below meth c Q ls hR X hml hP hS hl hend => ?_)
  have hx := X.1
  have hb := X.2.1
  have hl : lv_has ls 3 [(0, .ref (om_h B)), (1, .int x)] := hl
  have hmn := hM.1
  have hZl := hZ.2.2.1
  have hb3 : ∀ {i z : Nat}, Z[i]? = some z → z < 1000 := fun {i z} hz => hZ.2.1 i z hz
  have loop : ∀ (d k : Nat), k + d = mn → ∀ (ls : Array Slot), lv_has ls 3 [(2, .int (nI k)), (0, .ref (om_h B)), (1, .int x)] → W p l e R s m args below meth c s.heap [] 0 0 Q (F0 m 2 ls []) := by
    intro d
    induction d with
    | zero =>
      intro k hd ls hl
      refine lv_iload_n hx hb d_m_find_2 rfl (lv_at hl 0 rfl) ?_
      refine lv_aload_n hx hb d_m_find_3 rfl (lv_at hl 1 rfl) ?_
      refine g_manym X hP d_m_find_4 ?_
      refine nb_ge (tgt := 28) hx hb (by omega) (by omega) d_m_find_7 (by decide) (fun q => ?_) (fun q => ?_)
      · refine lv_iconst (v := (-1)) hx hb d_m_find_28 (by decide) ?_
        exact hend _ _ _ _ _ _ hP hS d_m_find_29 ⟨rfl, rfl⟩
      · exact absurd q (by omega)
    | succ d ih =>
      intro k hd ls hl
      obtain ⟨y, hy⟩ := gt_ex (Z := Z) (i := k) (by omega)
      have hfk : f k = y := hM.2 k y hy
      refine lv_iload_n hx hb d_m_find_2 rfl (lv_at hl 0 rfl) ?_
      refine lv_aload_n hx hb d_m_find_3 rfl (lv_at hl 1 rfl) ?_
      refine g_manym X hP d_m_find_4 ?_
      refine nb_ge (tgt := 28) hx hb (by omega) (by omega) d_m_find_7 (by decide) (fun q => ?_) (fun q => ?_)
      · exact absurd q (by omega)
      · refine lv_aload_n hx hb d_m_find_10 rfl (lv_at hl 1 rfl) ?_
        refine g_line X hP d_m_find_11 ?_
        refine lv_iload_n hx hb d_m_find_14 rfl (lv_at hl 0 rfl) ?_
        refine a_line X hP (by omega) d_m_find_15 ?_
        refine lv_iload_n hx hb d_m_find_16 rfl (lv_at hl 2 rfl) ?_
        refine lv_icmp_ne (tgt := 22) hx hb d_m_find_17 (by decide) (fun q2 => ?_) (fun q2 => ?_)
        · refine lv_iinc (v := nI (k + 1)) (lv' := [(2, .int (nI (k + 1))), (0, .ref (om_h B)), (1, .int x)]) hx hb d_m_find_22 hl (k := 0) rfl (nI_1 _) (by decide) rfl (fun ls hl => ?_)
          refine lv_goto (tgt := 2) hx hb d_m_find_25 (by decide) ?_
          exact ih (k + 1) (by omega) ls (lv_sub hl [0, 1, 2] rfl)
        · exact absurd (by rw [← q2, hfk]) (hbd k y hy)
  refine lv_iconst (v := (nI 0)) hx hb d_m_find_0 (by decide) ?_
  refine lv_istore_n (lv' := [(2, .int (nI 0)), (0, .ref (om_h B)), (1, .int x)]) hx hb d_m_find_1 rfl hl (by decide) rfl (fun ls hl => ?_)
  exact loop mn 0 (by omega) ls (lv_sub hl [0, 1, 2] rfl)
set_option maxHeartbeats 4000000 in
set_option maxRecDepth 100000 in
/-- free() -/
theorem c_m_free (l : Launch) (B : MG) (hB : om_ok B) {th mn : Nat} {f g : Nat → Nat} {Z : List Nat} {mm : Nat} (hZ : Zk Z) (hM : Mi f mn Z) (hfr : fr Z mm) : om_M l y_m_free b_m_free 2 (some .int) ({ frames := 1, cells := 0, slots := 0, locals := 22 }) B [] (th, f, mn, g) (om_Qi B (fun r u => r = nI mm ∧ u = (th, f, mn, g))) := by
  refine om_mi (by decide) rfl hB (Nat.le_of_ble_eq_true rfl) (fun p e R s m args below meth c Q ls hR X hml hP hS hl hend => ?_)
  have hx := X.1
  have hb := X.2.1
  have hl : lv_has ls 2 [(0, .ref (om_h B))] := hl
  have hmn := hM.1
  have hZl := hZ.2.2.1
  have hb3 : ∀ {i z : Nat}, Z[i]? = some z → z < 1000 := fun {i z} hz => hZ.2.1 i z hz
  have hmm := hfr.1
  have loop : ∀ (d k : Nat), k + d = mm → ∀ (H : Heap) (locs : List Loc), om_P B (th, f, mn, g) H → va_S (om_A B) s.heap H locs → ∀ (ls : Array Slot), lv_has ls 2 [(1, .int (nI k)), (0, .ref (om_h B))] → W p l e R s m args below meth c H locs 0 0 Q (F0 m 2 ls []) := by
    intro d
    induction d with
    | zero =>
      intro k hd H locs hP hS ls hl
      refine lv_iload_n hx hb d_m_free_2 rfl (lv_at hl 0 rfl) ?_
      refine lv_sipush (v := (nI 1000)) hx hb d_m_free_3 (by decide) ?_
      refine nb_ge (tgt := 23) hx hb (by omega) (by omega) d_m_free_6 (by decide) (fun q => ?_) (fun q => ?_)
      · exact absurd q (by omega)
      · refine lv_aload_n hx hb d_m_free_9 rfl (lv_at hl 1 rfl) ?_
        refine lv_iload_n hx hb d_m_free_10 rfl (lv_at hl 0 rfl) ?_
        refine om_ci (n := 1) (As := [.int (nI k)]) (rest := []) X hml (c_m_findN l B hB hZ hM (fun i z hz e => hfr.2.1 i (by rw [hz, show mm = z from by have := (nI_eq (by omega) (by have := hb3 hz; omega)).mp e; omega]))) (gw_W X.2.2.2.1 ml_m_23 im_m_find se_m_find k_m_find in_m (by decide +kernel) rfl rfl (by rw [hR]; exact ⟨Nat.le_of_ble_eq_true rfl, Nat.le_of_ble_eq_true rfl⟩)) hP hS hl.1 rfl rfl (Nat.le_of_ble_eq_true rfl) d_m_free_11 (fun r u' H locs hq hP hS => ?_)
        obtain ⟨hr0, hu0⟩ := hq
        rw [hr0]
        rw [hu0] at hP
        refine lv_if_lt (tgt := 23) hx hb d_m_free_14 (by decide) (fun qn => ?_) (fun qn => ?_)
        · refine lv_iload_n hx hb d_m_free_23 rfl (lv_at hl 0 rfl) ?_
          refine lv_sipush (v := (nI 1000)) hx hb d_m_free_24 (by decide) ?_
          refine nb_ge (tgt := 34) hx hb (by omega) (by omega) d_m_free_27 (by decide) (fun q2 => ?_) (fun q2 => ?_)
          · exact absurd q2 (by omega)
          · refine lv_iload_n hx hb d_m_free_30 rfl (lv_at hl 0 rfl) ?_
            refine lv_goto (tgt := 35) hx hb d_m_free_31 (by decide) ?_
            refine tp_i (nI mm) (congrArg nI (by omega)) ?_
            exact hend _ _ _ _ _ _ hP hS d_m_free_35 ⟨rfl, rfl⟩
        · exact absurd (by decide) qn
    | succ d ih =>
      intro k hd H locs hP hS ls hl
      obtain ⟨i, hi⟩ := hfr.2.2 k (by omega)
      have hil := gt_lt hi
      refine lv_iload_n hx hb d_m_free_2 rfl (lv_at hl 0 rfl) ?_
      refine lv_sipush (v := (nI 1000)) hx hb d_m_free_3 (by decide) ?_
      refine nb_ge (tgt := 23) hx hb (by omega) (by omega) d_m_free_6 (by decide) (fun q => ?_) (fun q => ?_)
      · exact absurd q (by omega)
      · refine lv_aload_n hx hb d_m_free_9 rfl (lv_at hl 1 rfl) ?_
        refine lv_iload_n hx hb d_m_free_10 rfl (lv_at hl 0 rfl) ?_
        refine om_ci (n := 1) (As := [.int (nI k)]) (rest := []) X hml (c_m_find l B hB hZ hM hi) (gw_W X.2.2.2.1 ml_m_23 im_m_find se_m_find k_m_find in_m (by decide +kernel) rfl rfl (by rw [hR]; exact ⟨Nat.le_of_ble_eq_true rfl, Nat.le_of_ble_eq_true rfl⟩)) hP hS hl.1 rfl rfl (Nat.le_of_ble_eq_true rfl) d_m_free_11 (fun r u' H locs hq hP hS => ?_)
        obtain ⟨hr0, hu0⟩ := hq
        rw [hr0]
        rw [hu0] at hP
        refine nz_lt (tgt := 23) hx hb (by omega) d_m_free_14 (by decide) ?_
        refine lv_iinc (v := nI (k + 1)) (lv' := [(1, .int (nI (k + 1))), (0, .ref (om_h B))]) hx hb d_m_free_17 hl (k := 0) rfl (nI_1 _) (by decide) rfl (fun ls hl => ?_)
        refine lv_goto (tgt := 2) hx hb d_m_free_20 (by decide) ?_
        exact ih (k + 1) (by omega) _ _ hP hS ls (lv_sub hl [0, 1] rfl)
  refine lv_iconst (v := (nI 0)) hx hb d_m_free_0 (by decide) ?_
  refine lv_istore_n (lv' := [(1, .int (nI 0)), (0, .ref (om_h B))]) hx hb d_m_free_1 rfl hl (by decide) rfl (fun ls hl => ?_)
  exact loop mm 0 (by omega) _ _ hP hS ls (lv_sub hl [0, 1] rfl)
set_option maxHeartbeats 4000000 in
set_option maxRecDepth 100000 in
/-- free() -/
theorem c_m_freeN (l : Launch) (B : MG) (hB : om_ok B) {th mn : Nat} {f g : Nat → Nat} {Z : List Nat} (hZ : Zk Z) (hM : Mi f mn Z) (hfu : full Z) : om_M l y_m_free b_m_free 2 (some .int) ({ frames := 1, cells := 0, slots := 0, locals := 22 }) B [] (th, f, mn, g) (om_Qi B (fun r u => r = -1 ∧ u = (th, f, mn, g))) := by
  refine om_mi (by decide) rfl hB (Nat.le_of_ble_eq_true rfl) (fun p e R s m args below meth c Q ls hR X hml hP hS hl hend => ?_)
  have hx := X.1
  have hb := X.2.1
  have hl : lv_has ls 2 [(0, .ref (om_h B))] := hl
  have hmn := hM.1
  have hZl := hZ.2.2.1
  have hb3 : ∀ {i z : Nat}, Z[i]? = some z → z < 1000 := fun {i z} hz => hZ.2.1 i z hz
  have loop : ∀ (d k : Nat), k + d = 1000 → ∀ (H : Heap) (locs : List Loc), om_P B (th, f, mn, g) H → va_S (om_A B) s.heap H locs → ∀ (ls : Array Slot), lv_has ls 2 [(1, .int (nI k)), (0, .ref (om_h B))] → W p l e R s m args below meth c H locs 0 0 Q (F0 m 2 ls []) := by
    intro d
    induction d with
    | zero =>
      intro k hd H locs hP hS ls hl
      refine lv_iload_n hx hb d_m_free_2 rfl (lv_at hl 0 rfl) ?_
      refine lv_sipush (v := (nI 1000)) hx hb d_m_free_3 (by decide) ?_
      refine nb_ge (tgt := 23) hx hb (by omega) (by omega) d_m_free_6 (by decide) (fun q => ?_) (fun q => ?_)
      · refine lv_iload_n hx hb d_m_free_23 rfl (lv_at hl 0 rfl) ?_
        refine lv_sipush (v := (nI 1000)) hx hb d_m_free_24 (by decide) ?_
        refine nb_ge (tgt := 34) hx hb (by omega) (by omega) d_m_free_27 (by decide) (fun q2 => ?_) (fun q2 => ?_)
        · refine lv_iconst (v := (-1)) hx hb d_m_free_34 (by decide) ?_
          exact hend _ _ _ _ _ _ hP hS d_m_free_35 ⟨rfl, rfl⟩
        · exact absurd q2 (by omega)
      · exact absurd q (by omega)
    | succ d ih =>
      intro k hd H locs hP hS ls hl
      obtain ⟨i, hi⟩ := hfu k (by omega)
      have hil := gt_lt hi
      refine lv_iload_n hx hb d_m_free_2 rfl (lv_at hl 0 rfl) ?_
      refine lv_sipush (v := (nI 1000)) hx hb d_m_free_3 (by decide) ?_
      refine nb_ge (tgt := 23) hx hb (by omega) (by omega) d_m_free_6 (by decide) (fun q => ?_) (fun q => ?_)
      · exact absurd q (by omega)
      · refine lv_aload_n hx hb d_m_free_9 rfl (lv_at hl 1 rfl) ?_
        refine lv_iload_n hx hb d_m_free_10 rfl (lv_at hl 0 rfl) ?_
        refine om_ci (n := 1) (As := [.int (nI k)]) (rest := []) X hml (c_m_find l B hB hZ hM hi) (gw_W X.2.2.2.1 ml_m_23 im_m_find se_m_find k_m_find in_m (by decide +kernel) rfl rfl (by rw [hR]; exact ⟨Nat.le_of_ble_eq_true rfl, Nat.le_of_ble_eq_true rfl⟩)) hP hS hl.1 rfl rfl (Nat.le_of_ble_eq_true rfl) d_m_free_11 (fun r u' H locs hq hP hS => ?_)
        obtain ⟨hr0, hu0⟩ := hq
        rw [hr0]
        rw [hu0] at hP
        refine nz_lt (tgt := 23) hx hb (by omega) d_m_free_14 (by decide) ?_
        refine lv_iinc (v := nI (k + 1)) (lv' := [(1, .int (nI (k + 1))), (0, .ref (om_h B))]) hx hb d_m_free_17 hl (k := 0) rfl (nI_1 _) (by decide) rfl (fun ls hl => ?_)
        refine lv_goto (tgt := 2) hx hb d_m_free_20 (by decide) ?_
        exact ih (k + 1) (by omega) _ _ hP hS ls (lv_sub hl [0, 1] rfl)
  refine lv_iconst (v := (nI 0)) hx hb d_m_free_0 (by decide) ?_
  refine lv_istore_n (lv' := [(1, .int (nI 0)), (0, .ref (om_h B))]) hx hb d_m_free_1 rfl hl (by decide) rfl (fun ls hl => ?_)
  exact loop 1000 0 (by omega) _ _ hP hS ls (lv_sub hl [0, 1] rfl)
set_option maxHeartbeats 4000000 in
set_option maxRecDepth 100000 in
/-- put(x, q) -/
theorem c_m_put (l : Launch) (B : MG) (hB : om_ok B) {th mn : Nat} {f g : Nat → Nat} {Z : List Nat} {x qq : Nat} (hZ : Zk Z) (hM : Mi f mn Z) (hq0 : qq ≤ mn) (hq1 : mn < 1000) : om_M l y_m_put b_m_put 4 none ({ frames := 0, cells := 0, slots := 0, locals := 0 }) B [.int (nI x), .int (nI qq)] (th, f, mn, g) (om_Qv B (fun u => ∃ f', u = (th, f', mn + 1, g) ∧ Mi f' (mn + 1) (Z.insertIdx qq x))) := by
  refine om_mv (by decide) rfl hB (Nat.le_of_ble_eq_true rfl) (fun p e R s m args below meth c Q ls hR X hml hP hS hl hend => ?_)
  have hx := X.1
  have hb := X.2.1
  have hl : lv_has ls 4 [(0, .ref (om_h B)), (1, .int (nI x)), (2, .int (nI qq))] := hl
  have hmn := hM.1
  have hZl := hZ.2.2.1
  have hb3 : ∀ {i z : Nat}, Z[i]? = some z → z < 1000 := fun {i z} hz => hZ.2.1 i z hz
  have loop : ∀ (d k : Nat) (f' : Nat → Nat), qq + d = k → k ≤ mn → (∀ i, i ≤ mn → f' i = if k < i then f (i - 1) else f i) → ∀ (H : Heap) (locs : List Loc), om_P B (th, f', mn, g) H → va_S (om_A B) s.heap H locs → ∀ (ls : Array Slot), lv_has ls 4 [(3, .int (nI k)), (0, .ref (om_h B)), (1, .int (nI x)), (2, .int (nI qq))] → W p l e R s m args below meth c H locs 0 0 Q (F0 m 5 ls []) := by
    intro d
    induction d with
    | zero =>
      intro k f' hd hk hf H locs hP hS ls hl
      refine lv_iload_n hx hb d_m_put_5 rfl (lv_at hl 0 rfl) ?_
      refine lv_iload_n hx hb d_m_put_6 rfl (lv_at hl 3 rfl) ?_
      refine nb_le (tgt := 30) hx hb (by omega) (by omega) d_m_put_7 (by decide) (fun q => ?_) (fun q => ?_)
      · refine lv_aload_n hx hb d_m_put_30 rfl (lv_at hl 1 rfl) ?_
        refine g_line X hP d_m_put_31 ?_
        refine lv_iload_n hx hb d_m_put_34 rfl (lv_at hl 3 rfl) ?_
        refine lv_iload_n hx hb d_m_put_35 rfl (lv_at hl 2 rfl) ?_
        refine s_line X hP hS (by omega) d_m_put_36 (fun H locs hP hS => ?_)
        refine lv_aload_n hx hb d_m_put_37 rfl (lv_at hl 1 rfl) ?_
        refine lv_dup hx hb d_m_put_38 rfl ?_
        refine g_manym X hP d_m_put_39 ?_
        refine lv_iconst (v := (nI 1)) hx hb d_m_put_42 (by decide) ?_
        refine lv_iadd hx hb d_m_put_43 ?_
        refine tp_i (nI (mn + 1)) (nI_add _ _) ?_
        refine p_manym X hP hS d_m_put_44 (fun H locs hP hS => ?_)
        exact hend _ _ _ _ _ hP hS d_m_put_47 ⟨_, rfl, hM.ins hq0 (fun i hi => by
          by_cases c1 : i = qq
          · rw [c1, up_s, if_neg (Nat.lt_irrefl _), if_pos rfl]
          · rw [up_n c1, hf i hi, if_neg c1]
            by_cases c2 : i < qq
            · rw [if_neg (by omega), if_pos c2]
            · rw [if_pos (by omega), if_neg c2])⟩
      · exact absurd q (by omega)
    | succ d ih =>
      intro k f' hd hk hf H locs hP hS ls hl
      refine lv_iload_n hx hb d_m_put_5 rfl (lv_at hl 0 rfl) ?_
      refine lv_iload_n hx hb d_m_put_6 rfl (lv_at hl 3 rfl) ?_
      refine nb_le (tgt := 30) hx hb (by omega) (by omega) d_m_put_7 (by decide) (fun q => ?_) (fun q => ?_)
      · exact absurd q (by omega)
      · refine lv_aload_n hx hb d_m_put_10 rfl (lv_at hl 1 rfl) ?_
        refine g_line X hP d_m_put_11 ?_
        refine lv_iload_n hx hb d_m_put_14 rfl (lv_at hl 0 rfl) ?_
        refine lv_aload_n hx hb d_m_put_15 rfl (lv_at hl 1 rfl) ?_
        refine g_line X hP d_m_put_16 ?_
        refine lv_iload_n hx hb d_m_put_19 rfl (lv_at hl 0 rfl) ?_
        refine lv_iconst (v := (nI 1)) hx hb d_m_put_20 (by decide) ?_
        refine lv_isub hx hb d_m_put_21 ?_
        refine tp_i (nI (k - 1)) (pk_sub (by omega)) ?_
        refine a_line X hP (by omega) d_m_put_22 ?_
        refine s_line X hP hS (by omega) d_m_put_23 (fun H locs hP hS => ?_)
        refine lv_iinc (v := nI (k - 1)) (lv' := [(3, .int (nI (k - 1))), (0, .ref (om_h B)), (1, .int (nI x)), (2, .int (nI qq))]) hx hb d_m_put_24 hl (k := 0) rfl (by rw [litm1]; exact sb_m1 (by omega)) (by decide) rfl (fun ls hl => ?_)
        refine lv_goto (tgt := 5) hx hb d_m_put_27 (by decide) ?_
        refine ih (k - 1) _ (by omega) (by omega) (fun i hi => ?_) _ _ hP hS ls (lv_sub hl [0, 1, 2, 3] rfl)
        by_cases c1 : i = k
        · rw [c1, up_s, hf (k - 1) (by omega), if_neg (by omega), if_pos (by omega)]
        · rw [up_n c1, hf i hi]
          by_cases c2 : k < i
          · rw [if_pos c2, if_pos (by omega)]
          · rw [if_neg c2, if_neg (by omega)]
  refine lv_aload_n hx hb d_m_put_0 rfl (lv_at hl 0 rfl) ?_
  refine g_manym X hP d_m_put_1 ?_
  refine lv_istore_n (lv' := [(3, .int (nI mn)), (0, .ref (om_h B)), (1, .int (nI x)), (2, .int (nI qq))]) hx hb d_m_put_4 rfl hl (by decide) rfl (fun ls hl => ?_)
  exact loop (mn - qq) mn f (by omega) (Nat.le_refl _) (fun i hi => by rw [if_neg (by omega)]) _ _ hP hS ls (lv_sub hl [0, 1, 2, 3] rfl)
set_option maxHeartbeats 4000000 in
set_option maxRecDepth 100000 in
/-- drop(q) -/
theorem c_m_drop (l : Launch) (B : MG) (hB : om_ok B) {th mn : Nat} {f g : Nat → Nat} {Z : List Nat} {qq : Nat} (hZ : Zk Z) (hM : Mi f mn Z) (hq0 : qq < mn) : om_M l y_m_drop b_m_drop 3 none ({ frames := 0, cells := 0, slots := 0, locals := 0 }) B [.int (nI qq)] (th, f, mn, g) (om_Qv B (fun u => ∃ f', u = (th, f', mn - 1, g) ∧ Mi f' (mn - 1) (Z.eraseIdx qq))) := by
  refine om_mv (by decide) rfl hB (Nat.le_of_ble_eq_true rfl) (fun p e R s m args below meth c Q ls hR X hml hP hS hl hend => ?_)
  have hx := X.1
  have hb := X.2.1
  have hl : lv_has ls 3 [(0, .ref (om_h B)), (1, .int (nI qq))] := hl
  have hmn := hM.1
  have hZl := hZ.2.2.1
  have hb3 : ∀ {i z : Nat}, Z[i]? = some z → z < 1000 := fun {i z} hz => hZ.2.1 i z hz
  have loop : ∀ (d k : Nat) (f' : Nat → Nat), k + d = mn - 1 → qq ≤ k → (∀ i, i < mn → f' i = if qq ≤ i ∧ i < k then f (i + 1) else f i) → ∀ (H : Heap) (locs : List Loc), om_P B (th, f', mn - 1, g) H → va_S (om_A B) s.heap H locs → ∀ (ls : Array Slot), lv_has ls 3 [(2, .int (nI k)), (0, .ref (om_h B)), (1, .int (nI qq))] → W p l e R s m args below meth c H locs 0 0 Q (F0 m 12 ls []) := by
    intro d
    induction d with
    | zero =>
      intro k f' hd hk hf H locs hP hS ls hl
      refine lv_iload_n hx hb d_m_drop_12 rfl (lv_at hl 0 rfl) ?_
      refine lv_aload_n hx hb d_m_drop_13 rfl (lv_at hl 1 rfl) ?_
      refine g_manym X hP d_m_drop_14 ?_
      refine nb_ge (tgt := 40) hx hb (by omega) (by omega) d_m_drop_17 (by decide) (fun q => ?_) (fun q => ?_)
      · exact hend _ _ _ _ _ hP hS d_m_drop_40 ⟨_, rfl, hM.del hq0 (fun i hi => by
          rw [hf i (by omega)]
          by_cases c2 : i < qq
          · rw [if_neg (by omega), if_pos c2]
          · rw [if_pos ⟨by omega, by omega⟩, if_neg c2])⟩
      · exact absurd q (by omega)
    | succ d ih =>
      intro k f' hd hk hf H locs hP hS ls hl
      refine lv_iload_n hx hb d_m_drop_12 rfl (lv_at hl 0 rfl) ?_
      refine lv_aload_n hx hb d_m_drop_13 rfl (lv_at hl 1 rfl) ?_
      refine g_manym X hP d_m_drop_14 ?_
      refine nb_ge (tgt := 40) hx hb (by omega) (by omega) d_m_drop_17 (by decide) (fun q => ?_) (fun q => ?_)
      · exact absurd q (by omega)
      · refine lv_aload_n hx hb d_m_drop_20 rfl (lv_at hl 1 rfl) ?_
        refine g_line X hP d_m_drop_21 ?_
        refine lv_iload_n hx hb d_m_drop_24 rfl (lv_at hl 0 rfl) ?_
        refine lv_aload_n hx hb d_m_drop_25 rfl (lv_at hl 1 rfl) ?_
        refine g_line X hP d_m_drop_26 ?_
        refine lv_iload_n hx hb d_m_drop_29 rfl (lv_at hl 0 rfl) ?_
        refine lv_iconst (v := (nI 1)) hx hb d_m_drop_30 (by decide) ?_
        refine lv_iadd hx hb d_m_drop_31 ?_
        refine tp_i (nI (k + 1)) (nI_add _ _) ?_
        refine a_line X hP (by omega) d_m_drop_32 ?_
        refine s_line X hP hS (by omega) d_m_drop_33 (fun H locs hP hS => ?_)
        refine lv_iinc (v := nI (k + 1)) (lv' := [(2, .int (nI (k + 1))), (0, .ref (om_h B)), (1, .int (nI qq))]) hx hb d_m_drop_34 hl (k := 0) rfl (nI_1 _) (by decide) rfl (fun ls hl => ?_)
        refine lv_goto (tgt := 12) hx hb d_m_drop_37 (by decide) ?_
        refine ih (k + 1) _ (by omega) (by omega) (fun i hi => ?_) _ _ hP hS ls (lv_sub hl [0, 1, 2] rfl)
        by_cases c1 : i = k
        · rw [c1, up_s, hf (k + 1) (by omega), if_neg (by omega), if_pos ⟨by omega, by omega⟩]
        · rw [up_n c1, hf i hi]
          by_cases c2 : qq ≤ i ∧ i < k
          · rw [if_pos c2, if_pos ⟨c2.1, by omega⟩]
          · rw [if_neg c2, if_neg (by omega)]
  refine lv_aload_n hx hb d_m_drop_0 rfl (lv_at hl 0 rfl) ?_
  refine lv_dup hx hb d_m_drop_1 rfl ?_
  refine g_manym X hP d_m_drop_2 ?_
  refine lv_iconst (v := (nI 1)) hx hb d_m_drop_5 (by decide) ?_
  refine lv_isub hx hb d_m_drop_6 ?_
  refine tp_i (nI (mn - 1)) (pk_sub (by omega)) ?_
  refine p_manym X hP hS d_m_drop_7 (fun H locs hP hS => ?_)
  refine lv_iload_n hx hb d_m_drop_10 rfl (lv_at hl 1 rfl) ?_
  refine lv_istore_n (lv' := [(2, .int (nI qq)), (0, .ref (om_h B)), (1, .int (nI qq))]) hx hb d_m_drop_11 rfl hl (by decide) rfl (fun ls hl => ?_)
  exact loop (mn - 1 - qq) qq f (by omega) (Nat.le_refl _) (fun i hi => by rw [if_neg (by omega)]) _ _ hP hS ls (lv_sub hl [0, 1, 2] rfl)
set_option maxHeartbeats 4000000 in
set_option maxRecDepth 100000 in
/-- lacks(x, y, z): none -/
theorem c_m_lacks (l : Launch) (B : MG) (hB : om_ok B) {th mn : Nat} {f g : Nat → Nat} {Z : List Nat} {pa pb pq xa xb xc : Nat} (hZ : Zk Z) (hM : Mi f mn Z) (ha : Z[pa]? = some xa) (hb0 : Z[pb]? = some xb) (hc0 : Z[pq]? = some xc) : om_M l y_m_lacks b_m_lacks 4 (some .boolean) ({ frames := 1, cells := 0, slots := 0, locals := 22 }) B [.int (nI xa), .int (nI xb), .int (nI xc)] (th, f, mn, g) (om_Qz B (fun r u => r = false ∧ u = (0, f, mn, g))) := by
  refine om_mz (by decide) rfl hB (Nat.le_of_ble_eq_true rfl) (fun p e R s m args below meth c Q ls hR X hml hP hS hl hend => ?_)
  have hx := X.1
  have hb := X.2.1
  have hl : lv_has ls 4 [(0, .ref (om_h B)), (1, .int (nI xa)), (2, .int (nI xb)), (3, .int (nI xc))] := hl
  have hmn := hM.1
  have hZl := hZ.2.2.1
  have hb3 : ∀ {i z : Nat}, Z[i]? = some z → z < 1000 := fun {i z} hz => hZ.2.1 i z hz
  have h1 := gt_lt ha
  have h2 := gt_lt hb0
  have h3 := gt_lt hc0
  refine lv_aload_n hx hb d_m_lacks_0 rfl (lv_at hl 0 rfl) ?_
  refine lv_aload_n hx hb d_m_lacks_1 rfl (lv_at hl 0 rfl) ?_
  refine lv_iload_n hx hb d_m_lacks_2 rfl (lv_at hl 1 rfl) ?_
  refine om_ci (n := 1) (As := [.int (nI xa)]) (rest := [.ref (om_h B)]) X hml (c_m_find l B hB hZ hM ha) (gw_W X.2.2.2.1 ml_m_23 im_m_find se_m_find k_m_find in_m (by decide +kernel) rfl rfl (by rw [hR]; exact ⟨Nat.le_of_ble_eq_true rfl, Nat.le_of_ble_eq_true rfl⟩)) hP hS hl.1 rfl rfl (Nat.le_of_ble_eq_true rfl) d_m_lacks_3 (fun r u' H locs hq hP hS => ?_)
  obtain ⟨hr0, hu0⟩ := hq
  rw [hr0]
  rw [hu0] at hP
  refine nz_lt (tgt := 29) hx hb (by omega) d_m_lacks_6 (by decide) ?_
  refine lv_aload_n hx hb d_m_lacks_9 rfl (lv_at hl 0 rfl) ?_
  refine lv_iload_n hx hb d_m_lacks_10 rfl (lv_at hl 2 rfl) ?_
  refine om_ci (n := 1) (As := [.int (nI xb)]) (rest := [.ref (om_h B)]) X hml (c_m_find l B hB hZ hM hb0) (gw_W X.2.2.2.1 ml_m_23 im_m_find se_m_find k_m_find in_m (by decide +kernel) rfl rfl (by rw [hR]; exact ⟨Nat.le_of_ble_eq_true rfl, Nat.le_of_ble_eq_true rfl⟩)) hP hS hl.1 rfl rfl (Nat.le_of_ble_eq_true rfl) d_m_lacks_11 (fun r u' H locs hq hP hS => ?_)
  obtain ⟨hr0, hu0⟩ := hq
  rw [hr0]
  rw [hu0] at hP
  refine nz_lt (tgt := 29) hx hb (by omega) d_m_lacks_14 (by decide) ?_
  refine lv_aload_n hx hb d_m_lacks_17 rfl (lv_at hl 0 rfl) ?_
  refine lv_iload_n hx hb d_m_lacks_18 rfl (lv_at hl 3 rfl) ?_
  refine om_ci (n := 1) (As := [.int (nI xc)]) (rest := [.ref (om_h B)]) X hml (c_m_find l B hB hZ hM hc0) (gw_W X.2.2.2.1 ml_m_23 im_m_find se_m_find k_m_find in_m (by decide +kernel) rfl rfl (by rw [hR]; exact ⟨Nat.le_of_ble_eq_true rfl, Nat.le_of_ble_eq_true rfl⟩)) hP hS hl.1 rfl rfl (Nat.le_of_ble_eq_true rfl) d_m_lacks_19 (fun r u' H locs hq hP hS => ?_)
  obtain ⟨hr0, hu0⟩ := hq
  rw [hr0]
  rw [hu0] at hP
  refine nz_lt (tgt := 29) hx hb (by omega) d_m_lacks_22 (by decide) ?_
  refine lv_iconst (v := (nI 0)) hx hb d_m_lacks_25 (by decide) ?_
  refine lv_goto (tgt := 30) hx hb d_m_lacks_26 (by decide) ?_
  refine p_thrown X hP hS d_m_lacks_30 (fun H locs hP hS => ?_)
  refine lv_aload_n hx hb d_m_lacks_33 rfl (lv_at hl 0 rfl) ?_
  refine g_thrown X hP d_m_lacks_34 ?_
  refine nz_le (tgt := 44) hx hb (by omega) d_m_lacks_37 (by decide) (fun q => ?_) (fun q => ?_)
  · refine lv_iconst (v := (nI 0)) hx hb d_m_lacks_44 (by decide) ?_
    exact hend false _ _ _ _ _ _ (by decide) hP hS d_m_lacks_45 ⟨rfl, rfl⟩
  · exact absurd q (by omega)
set_option maxHeartbeats 4000000 in
set_option maxRecDepth 100000 in
/-- lacks(x, y, z): one -/
theorem c_m_lacks1 (l : Launch) (B : MG) (hB : om_ok B) {th mn : Nat} {f g : Nat → Nat} {Z : List Nat} {x1 x2 x3 : Int32} (hZ : Zk Z) (hM : Mi f mn Z) (hbd : bd Z x1) : om_M l y_m_lacks b_m_lacks 4 (some .boolean) ({ frames := 1, cells := 0, slots := 0, locals := 22 }) B [.int x1, .int x2, .int x3] (th, f, mn, g) (om_Qz B (fun r u => r = true ∧ u = (1, f, mn, g))) := by
  refine om_mz (by decide) rfl hB (Nat.le_of_ble_eq_true rfl) (fun p e R s m args below meth c Q ls hR X hml hP hS hl hend => ?_)
  have hx := X.1
  have hb := X.2.1
  have hl : lv_has ls 4 [(0, .ref (om_h B)), (1, .int x1), (2, .int x2), (3, .int x3)] := hl
  have hmn := hM.1
  have hZl := hZ.2.2.1
  have hb3 : ∀ {i z : Nat}, Z[i]? = some z → z < 1000 := fun {i z} hz => hZ.2.1 i z hz
  refine lv_aload_n hx hb d_m_lacks_0 rfl (lv_at hl 0 rfl) ?_
  refine lv_aload_n hx hb d_m_lacks_1 rfl (lv_at hl 0 rfl) ?_
  refine lv_iload_n hx hb d_m_lacks_2 rfl (lv_at hl 1 rfl) ?_
  refine om_ci (n := 1) (As := [.int x1]) (rest := [.ref (om_h B)]) X hml (c_m_findN l B hB hZ hM hbd) (gw_W X.2.2.2.1 ml_m_23 im_m_find se_m_find k_m_find in_m (by decide +kernel) rfl rfl (by rw [hR]; exact ⟨Nat.le_of_ble_eq_true rfl, Nat.le_of_ble_eq_true rfl⟩)) hP hS hl.1 rfl rfl (Nat.le_of_ble_eq_true rfl) d_m_lacks_3 (fun r u' H locs hq hP hS => ?_)
  obtain ⟨hr0, hu0⟩ := hq
  rw [hr0]
  rw [hu0] at hP
  refine lv_if_lt (tgt := 29) hx hb d_m_lacks_6 (by decide) (fun qn => ?_) (fun qn => ?_)
  · refine lv_iconst (v := (nI 1)) hx hb d_m_lacks_29 (by decide) ?_
    refine p_thrown X hP hS d_m_lacks_30 (fun H locs hP hS => ?_)
    refine lv_aload_n hx hb d_m_lacks_33 rfl (lv_at hl 0 rfl) ?_
    refine g_thrown X hP d_m_lacks_34 ?_
    refine nz_le (tgt := 44) hx hb (by omega) d_m_lacks_37 (by decide) (fun q => ?_) (fun q => ?_)
    · exact absurd q (by omega)
    · refine lv_iconst (v := (nI 1)) hx hb d_m_lacks_40 (by decide) ?_
      refine lv_goto (tgt := 45) hx hb d_m_lacks_41 (by decide) ?_
      exact hend true _ _ _ _ _ _ (by decide) hP hS d_m_lacks_45 ⟨rfl, rfl⟩
  · exact absurd (by decide) qn
set_option maxHeartbeats 4000000 in
set_option maxRecDepth 100000 in
/-- lacks(x, y, z): one -/
theorem c_m_lacks2 (l : Launch) (B : MG) (hB : om_ok B) {th mn : Nat} {f g : Nat → Nat} {Z : List Nat} {pa xa : Nat} {x2 x3 : Int32} (hZ : Zk Z) (hM : Mi f mn Z) (ha : Z[pa]? = some xa) (hbd : bd Z x2) : om_M l y_m_lacks b_m_lacks 4 (some .boolean) ({ frames := 1, cells := 0, slots := 0, locals := 22 }) B [.int (nI xa), .int x2, .int x3] (th, f, mn, g) (om_Qz B (fun r u => r = true ∧ u = (1, f, mn, g))) := by
  refine om_mz (by decide) rfl hB (Nat.le_of_ble_eq_true rfl) (fun p e R s m args below meth c Q ls hR X hml hP hS hl hend => ?_)
  have hx := X.1
  have hb := X.2.1
  have hl : lv_has ls 4 [(0, .ref (om_h B)), (1, .int (nI xa)), (2, .int x2), (3, .int x3)] := hl
  have hmn := hM.1
  have hZl := hZ.2.2.1
  have hb3 : ∀ {i z : Nat}, Z[i]? = some z → z < 1000 := fun {i z} hz => hZ.2.1 i z hz
  have h1 := gt_lt ha
  refine lv_aload_n hx hb d_m_lacks_0 rfl (lv_at hl 0 rfl) ?_
  refine lv_aload_n hx hb d_m_lacks_1 rfl (lv_at hl 0 rfl) ?_
  refine lv_iload_n hx hb d_m_lacks_2 rfl (lv_at hl 1 rfl) ?_
  refine om_ci (n := 1) (As := [.int (nI xa)]) (rest := [.ref (om_h B)]) X hml (c_m_find l B hB hZ hM ha) (gw_W X.2.2.2.1 ml_m_23 im_m_find se_m_find k_m_find in_m (by decide +kernel) rfl rfl (by rw [hR]; exact ⟨Nat.le_of_ble_eq_true rfl, Nat.le_of_ble_eq_true rfl⟩)) hP hS hl.1 rfl rfl (Nat.le_of_ble_eq_true rfl) d_m_lacks_3 (fun r u' H locs hq hP hS => ?_)
  obtain ⟨hr0, hu0⟩ := hq
  rw [hr0]
  rw [hu0] at hP
  refine nz_lt (tgt := 29) hx hb (by omega) d_m_lacks_6 (by decide) ?_
  refine lv_aload_n hx hb d_m_lacks_9 rfl (lv_at hl 0 rfl) ?_
  refine lv_iload_n hx hb d_m_lacks_10 rfl (lv_at hl 2 rfl) ?_
  refine om_ci (n := 1) (As := [.int x2]) (rest := [.ref (om_h B)]) X hml (c_m_findN l B hB hZ hM hbd) (gw_W X.2.2.2.1 ml_m_23 im_m_find se_m_find k_m_find in_m (by decide +kernel) rfl rfl (by rw [hR]; exact ⟨Nat.le_of_ble_eq_true rfl, Nat.le_of_ble_eq_true rfl⟩)) hP hS hl.1 rfl rfl (Nat.le_of_ble_eq_true rfl) d_m_lacks_11 (fun r u' H locs hq hP hS => ?_)
  obtain ⟨hr0, hu0⟩ := hq
  rw [hr0]
  rw [hu0] at hP
  refine lv_if_lt (tgt := 29) hx hb d_m_lacks_14 (by decide) (fun qn => ?_) (fun qn => ?_)
  · refine lv_iconst (v := (nI 1)) hx hb d_m_lacks_29 (by decide) ?_
    refine p_thrown X hP hS d_m_lacks_30 (fun H locs hP hS => ?_)
    refine lv_aload_n hx hb d_m_lacks_33 rfl (lv_at hl 0 rfl) ?_
    refine g_thrown X hP d_m_lacks_34 ?_
    refine nz_le (tgt := 44) hx hb (by omega) d_m_lacks_37 (by decide) (fun q => ?_) (fun q => ?_)
    · exact absurd q (by omega)
    · refine lv_iconst (v := (nI 1)) hx hb d_m_lacks_40 (by decide) ?_
      refine lv_goto (tgt := 45) hx hb d_m_lacks_41 (by decide) ?_
      exact hend true _ _ _ _ _ _ (by decide) hP hS d_m_lacks_45 ⟨rfl, rfl⟩
  · exact absurd (by decide) qn
set_option maxHeartbeats 4000000 in
set_option maxRecDepth 100000 in
/-- lacks(x, y, z): one -/
theorem c_m_lacks3 (l : Launch) (B : MG) (hB : om_ok B) {th mn : Nat} {f g : Nat → Nat} {Z : List Nat} {pa xa pb xb : Nat} {x3 : Int32} (hZ : Zk Z) (hM : Mi f mn Z) (ha : Z[pa]? = some xa) (hb0 : Z[pb]? = some xb) (hbd : bd Z x3) : om_M l y_m_lacks b_m_lacks 4 (some .boolean) ({ frames := 1, cells := 0, slots := 0, locals := 22 }) B [.int (nI xa), .int (nI xb), .int x3] (th, f, mn, g) (om_Qz B (fun r u => r = true ∧ u = (1, f, mn, g))) := by
  refine om_mz (by decide) rfl hB (Nat.le_of_ble_eq_true rfl) (fun p e R s m args below meth c Q ls hR X hml hP hS hl hend => ?_)
  have hx := X.1
  have hb := X.2.1
  have hl : lv_has ls 4 [(0, .ref (om_h B)), (1, .int (nI xa)), (2, .int (nI xb)), (3, .int x3)] := hl
  have hmn := hM.1
  have hZl := hZ.2.2.1
  have hb3 : ∀ {i z : Nat}, Z[i]? = some z → z < 1000 := fun {i z} hz => hZ.2.1 i z hz
  have h1 := gt_lt ha
  have h2 := gt_lt hb0
  refine lv_aload_n hx hb d_m_lacks_0 rfl (lv_at hl 0 rfl) ?_
  refine lv_aload_n hx hb d_m_lacks_1 rfl (lv_at hl 0 rfl) ?_
  refine lv_iload_n hx hb d_m_lacks_2 rfl (lv_at hl 1 rfl) ?_
  refine om_ci (n := 1) (As := [.int (nI xa)]) (rest := [.ref (om_h B)]) X hml (c_m_find l B hB hZ hM ha) (gw_W X.2.2.2.1 ml_m_23 im_m_find se_m_find k_m_find in_m (by decide +kernel) rfl rfl (by rw [hR]; exact ⟨Nat.le_of_ble_eq_true rfl, Nat.le_of_ble_eq_true rfl⟩)) hP hS hl.1 rfl rfl (Nat.le_of_ble_eq_true rfl) d_m_lacks_3 (fun r u' H locs hq hP hS => ?_)
  obtain ⟨hr0, hu0⟩ := hq
  rw [hr0]
  rw [hu0] at hP
  refine nz_lt (tgt := 29) hx hb (by omega) d_m_lacks_6 (by decide) ?_
  refine lv_aload_n hx hb d_m_lacks_9 rfl (lv_at hl 0 rfl) ?_
  refine lv_iload_n hx hb d_m_lacks_10 rfl (lv_at hl 2 rfl) ?_
  refine om_ci (n := 1) (As := [.int (nI xb)]) (rest := [.ref (om_h B)]) X hml (c_m_find l B hB hZ hM hb0) (gw_W X.2.2.2.1 ml_m_23 im_m_find se_m_find k_m_find in_m (by decide +kernel) rfl rfl (by rw [hR]; exact ⟨Nat.le_of_ble_eq_true rfl, Nat.le_of_ble_eq_true rfl⟩)) hP hS hl.1 rfl rfl (Nat.le_of_ble_eq_true rfl) d_m_lacks_11 (fun r u' H locs hq hP hS => ?_)
  obtain ⟨hr0, hu0⟩ := hq
  rw [hr0]
  rw [hu0] at hP
  refine nz_lt (tgt := 29) hx hb (by omega) d_m_lacks_14 (by decide) ?_
  refine lv_aload_n hx hb d_m_lacks_17 rfl (lv_at hl 0 rfl) ?_
  refine lv_iload_n hx hb d_m_lacks_18 rfl (lv_at hl 3 rfl) ?_
  refine om_ci (n := 1) (As := [.int x3]) (rest := [.ref (om_h B)]) X hml (c_m_findN l B hB hZ hM hbd) (gw_W X.2.2.2.1 ml_m_23 im_m_find se_m_find k_m_find in_m (by decide +kernel) rfl rfl (by rw [hR]; exact ⟨Nat.le_of_ble_eq_true rfl, Nat.le_of_ble_eq_true rfl⟩)) hP hS hl.1 rfl rfl (Nat.le_of_ble_eq_true rfl) d_m_lacks_19 (fun r u' H locs hq hP hS => ?_)
  obtain ⟨hr0, hu0⟩ := hq
  rw [hr0]
  rw [hu0] at hP
  refine lv_if_lt (tgt := 29) hx hb d_m_lacks_22 (by decide) (fun qn => ?_) (fun qn => ?_)
  · refine lv_iconst (v := (nI 1)) hx hb d_m_lacks_29 (by decide) ?_
    refine p_thrown X hP hS d_m_lacks_30 (fun H locs hP hS => ?_)
    refine lv_aload_n hx hb d_m_lacks_33 rfl (lv_at hl 0 rfl) ?_
    refine g_thrown X hP d_m_lacks_34 ?_
    refine nz_le (tgt := 44) hx hb (by omega) d_m_lacks_37 (by decide) (fun q => ?_) (fun q => ?_)
    · exact absurd q (by omega)
    · refine lv_iconst (v := (nI 1)) hx hb d_m_lacks_40 (by decide) ?_
      refine lv_goto (tgt := 45) hx hb d_m_lacks_41 (by decide) ?_
      exact hend true _ _ _ _ _ _ (by decide) hP hS d_m_lacks_45 ⟨rfl, rfl⟩
  · exact absurd (by decide) qn
set_option maxHeartbeats 4000000 in
set_option maxRecDepth 100000 in
/-- thrown() -/
theorem c_m_thrown (l : Launch) (B : MG) (hB : om_ok B) {th mn : Nat} {f g : Nat → Nat} {Z : List Nat} (hZ : Zk Z) (hM : Mi f mn Z) : om_M l y_m_thrown b_m_thrown 1 (some .int) ({ frames := 0, cells := 0, slots := 0, locals := 0 }) B [] (th, f, mn, g) (om_Qi B (fun r u => r = nI th ∧ u = (th, f, mn, g))) := by
  refine om_mi (by decide) rfl hB (Nat.le_of_ble_eq_true rfl) (fun p e R s m args below meth c Q ls hR X hml hP hS hl hend => ?_)
  have hx := X.1
  have hb := X.2.1
  have hl : lv_has ls 1 [(0, .ref (om_h B))] := hl
  have hmn := hM.1
  have hZl := hZ.2.2.1
  have hb3 : ∀ {i z : Nat}, Z[i]? = some z → z < 1000 := fun {i z} hz => hZ.2.1 i z hz
  refine lv_aload_n hx hb d_m_thrown_0 rfl (lv_at hl 0 rfl) ?_
  refine g_thrown X hP d_m_thrown_1 ?_
  exact hend _ _ _ _ _ _ hP hS d_m_thrown_4 ⟨rfl, rfl⟩
end
section
/-! 27: plain laws: lines that the model may hold -/
theorem nd_iff {Z : List Nat} : nd Z ↔ Z.Nodup := by
  constructor
  · intro h
    rw [List.nodup_iff_pairwise_ne, List.pairwise_iff_getElem]
    intro i j hi hj hij e
    have := h i j Z[i] (List.getElem?_eq_getElem hi) (by rw [List.getElem?_eq_getElem hj, e])
    omega
  · intro h i j x hi hj
    rw [List.nodup_iff_pairwise_ne, List.pairwise_iff_getElem] at h
    obtain ⟨hi1, hi2⟩ := List.getElem?_eq_some_iff.mp hi
    obtain ⟨hj1, hj2⟩ := List.getElem?_eq_some_iff.mp hj
    rcases Nat.lt_trichotomy i j with a | a | a
    · exact absurd (hi2.trans hj2.symm) (h i j hi1 hj1 a)
    · exact a
    · exact absurd (hj2.trans hi2.symm) (h j i hj1 hi1 a)
theorem Zk.ins {Z : List Nat} (h : Zk Z) {q m : Nat} (hq : q ≤ Z.length) (hq1 : 1 ≤ q) (hl : Z.length < 1000) (hm : m < 1000) (hn : ∀ i : Nat, Z[i]? ≠ some m) : Zk (Z.insertIdx q m) := by
  refine ⟨nd_ins h.1 hq hn, fun i x hx => ?_, by rw [List.length_insertIdx_of_le_length hq]; omega, by rw [ins_get hq, if_pos (by omega)]; exact h.2.2.2⟩
  rw [ins_get hq] at hx
  split at hx
  · exact h.2.1 _ _ hx
  · split at hx
    · cases hx; exact hm
    · exact h.2.1 _ _ hx
theorem Zk.del {Z : List Nat} (h : Zk Z) {q : Nat} (hq1 : 1 ≤ q) : Zk (Z.eraseIdx q) := by
  refine ⟨fun i j x hi hj => ?_, fun i x hx => ?_, Nat.le_trans (List.length_eraseIdx_le _ _) h.2.2.1, by rw [era_get, if_pos (by omega)]; exact h.2.2.2⟩
  · rw [era_get] at hi hj
    split at hi <;> split at hj <;> (have := h.1 _ _ x hi hj; omega)
  · rw [era_get] at hx
    split at hx <;> exact h.2.1 _ _ hx
theorem Zk.of {L : Nat → Nat} {b n : Nat → Option Nat} {t : Nat → Bool} {F : Nat → Nat} {nf la mn : Nat} {Z : List Nat} (h : Ov (L, b, n, t, F, nf, la, mn) Z) : Zk Z := ⟨h.1.2.1, h.1.2.2.1, by have := h.2.2; omega, h.1.1⟩
/-- what is left of a line that was carried in part -/
theorem Zk.seg {A T M M1 K U V : List Nat} {xa xc : Nat} (h : Zk (A ++ xa :: (M ++ T))) (e : A ++ xa :: T = U ++ xc :: V) (hM : M1 ++ K = M) : Zk (U ++ xc :: (M1 ++ V)) := by
  have hp : List.Perm (A ++ xa :: (M ++ T)) (M ++ (U ++ xc :: V)) := by
    rw [← e]
    have h1 : List.Perm (A ++ xa :: (M ++ T)) ((M ++ T) ++ (A ++ [xa])) := by
      rw [show A ++ xa :: (M ++ T) = (A ++ [xa]) ++ (M ++ T) by simp]
      exact List.perm_append_comm
    refine h1.trans ?_
    rw [List.append_assoc]
    refine List.Perm.append_left M ?_
    rw [show A ++ xa :: T = (A ++ [xa]) ++ T by simp]
    exact List.perm_append_comm
  have hs : List.Sublist (M1 ++ (U ++ xc :: V)) (M ++ (U ++ xc :: V)) := by
    rw [← hM]
    exact List.Sublist.append_right (List.sublist_append_left M1 K) _
  have hp2 : List.Perm (M1 ++ (U ++ xc :: V)) (U ++ xc :: (M1 ++ V)) := by
    have h1 : List.Perm (M1 ++ (U ++ xc :: V)) (M1 ++ (U ++ [xc]) ++ V) := by
      rw [show M1 ++ (U ++ xc :: V) = M1 ++ (U ++ [xc]) ++ V by simp]
    refine h1.trans ?_
    rw [show U ++ xc :: (M1 ++ V) = (U ++ [xc]) ++ M1 ++ V by simp]
    exact List.Perm.append_right V List.perm_append_comm
  have hnd : (U ++ xc :: (M1 ++ V)).Nodup := (hp2.nodup_iff.mp ((hp.nodup_iff.mp (nd_iff.mp h.1)).sublist hs))
  have hmem : ∀ x, x ∈ U ++ xc :: (M1 ++ V) → x ∈ A ++ xa :: (M ++ T) := fun x hx => hp.mem_iff.mpr (hs.subset (hp2.mem_iff.mpr hx))
  refine ⟨nd_iff.mpr hnd, fun i x hx => ?_, ?_, ?_⟩
  · obtain ⟨j, hj⟩ := List.mem_iff_getElem?.mp (hmem x (List.mem_of_getElem? hx))
    exact h.2.1 j x hj
  · rw [← hp2.length_eq]
    exact Nat.le_trans hs.length_le (by rw [← hp.length_eq]; exact h.2.2.1)
  · rw [hd_app, ← hd_app U xc V, ← e, hd_app, ← hd_app A xa (M ++ T)]
    exact h.2.2.2
theorem Mi.th {f : Nat → Nat} {mn : Nat} {Z : List Nat} (h : Mi f mn Z) : mn = Z.length := h.1
end
section
/-! 28: OrderLineModel's calls (by program: gen/m2.py) -/
set_option maxHeartbeats 4000000 in
set_option maxRecDepth 100000 in
/-- m_behind: a stamp is lacking -/
theorem c_m_behindT (l : Launch) (B : MG) (hB : om_ok B) {th mn : Nat} {f g : Nat → Nat} {Z : List Nat} {x : Int32} (hZ : Zk Z) (hM : Mi f mn Z) (hbd : bd Z x) : om_M l y_m_behind b_m_behind 3 (some .int) ({ frames := 2, cells := 0, slots := 0, locals := 45 }) B [.int x] (th, f, mn, g) (om_Qi B (fun _ u => u = (1, f, mn, g))) := by
  refine om_mi (by decide) rfl hB (Nat.le_of_ble_eq_true rfl) (fun p e R s m args below meth c Q ls hR X hml hP hS hl hend => ?_)
  have hx := X.1
  have hb := X.2.1
  have hl : lv_has ls 3 [(0, .ref (om_h B)), (1, .int x)] := hl
  have hmn := hM.1
  have hZl := hZ.2.2.1
  have hb3 : ∀ {i z : Nat}, Z[i]? = some z → z < 1000 := fun {i z} hz => hZ.2.1 i z hz
  refine lv_aload_n hx hb d_m_behind_0 rfl (lv_at hl 0 rfl) ?_
  refine lv_iload_n hx hb d_m_behind_1 rfl (lv_at hl 1 rfl) ?_
  refine lv_iconst (v := (nI 0)) hx hb d_m_behind_2 (by decide) ?_
  refine lv_iconst (v := (nI 0)) hx hb d_m_behind_3 (by decide) ?_
  refine om_cz (n := 3) (As := [.int x, .int (nI 0), .int (nI 0)]) (rest := []) X hml (c_m_lacks1 l B hB hZ hM hbd) (gw_W X.2.2.2.1 ml_m_27 im_m_lacks se_m_lacks k_m_lacks in_m (by decide +kernel) rfl rfl (by rw [hR]; exact ⟨Nat.le_of_ble_eq_true rfl, Nat.le_of_ble_eq_true rfl⟩)) hP hS hl.1 rfl rfl (Nat.le_of_ble_eq_true rfl) d_m_behind_4 (fun r u' H locs hq hP hS => ?_)
  obtain ⟨hr0, hu0⟩ := hq
  rw [hr0]
  rw [hu0] at hP
  refine z_eq (tgt := 12) hx hb d_m_behind_7 (by decide) (fun qz => ?_) (fun qz => ?_)
  · cases qz
  · refine lv_iconst (v := (nI 0)) hx hb d_m_behind_10 (by decide) ?_
    exact hend _ _ _ _ _ _ hP hS d_m_behind_11 rfl
set_option maxHeartbeats 4000000 in
set_option maxRecDepth 100000 in
/-- m_several: a stamp is lacking -/
theorem c_m_severalT (l : Launch) (B : MG) (hB : om_ok B) {th mn : Nat} {f g : Nat → Nat} {Z : List Nat} {x v : Int32} (hZ : Zk Z) (hM : Mi f mn Z) (hbd : bd Z x) : om_M l y_m_several b_m_several 6 (some .int) ({ frames := 2, cells := 0, slots := 0, locals := 45 }) B [.int x, .int v] (th, f, mn, g) (om_Qi B (fun _ u => u = (1, f, mn, g))) := by
  refine om_mi (by decide) rfl hB (Nat.le_of_ble_eq_true rfl) (fun p e R s m args below meth c Q ls hR X hml hP hS hl hend => ?_)
  have hx := X.1
  have hb := X.2.1
  have hl : lv_has ls 6 [(0, .ref (om_h B)), (1, .int x), (2, .int v)] := hl
  have hmn := hM.1
  have hZl := hZ.2.2.1
  have hb3 : ∀ {i z : Nat}, Z[i]? = some z → z < 1000 := fun {i z} hz => hZ.2.1 i z hz
  refine lv_aload_n hx hb d_m_several_0 rfl (lv_at hl 0 rfl) ?_
  refine lv_iload_n hx hb d_m_several_1 rfl (lv_at hl 1 rfl) ?_
  refine lv_iconst (v := (nI 0)) hx hb d_m_several_2 (by decide) ?_
  refine lv_iconst (v := (nI 0)) hx hb d_m_several_3 (by decide) ?_
  refine om_cz (n := 3) (As := [.int x, .int (nI 0), .int (nI 0)]) (rest := []) X hml (c_m_lacks1 l B hB hZ hM hbd) (gw_W X.2.2.2.1 ml_m_27 im_m_lacks se_m_lacks k_m_lacks in_m (by decide +kernel) rfl rfl (by rw [hR]; exact ⟨Nat.le_of_ble_eq_true rfl, Nat.le_of_ble_eq_true rfl⟩)) hP hS hl.1 rfl rfl (Nat.le_of_ble_eq_true rfl) d_m_several_4 (fun r u' H locs hq hP hS => ?_)
  obtain ⟨hr0, hu0⟩ := hq
  rw [hr0]
  rw [hu0] at hP
  refine z_eq (tgt := 12) hx hb d_m_several_7 (by decide) (fun qz => ?_) (fun qz => ?_)
  · cases qz
  · refine lv_iconst (v := (nI 0)) hx hb d_m_several_10 (by decide) ?_
    exact hend _ _ _ _ _ _ hP hS d_m_several_11 rfl
set_option maxHeartbeats 4000000 in
set_option maxRecDepth 100000 in
/-- m_next: a stamp is lacking -/
theorem c_m_nextT (l : Launch) (B : MG) (hB : om_ok B) {th mn : Nat} {f g : Nat → Nat} {Z : List Nat} {x v : Int32} (hZ : Zk Z) (hM : Mi f mn Z) (hbd : bd Z x) : om_M l y_m_next b_m_next 4 (some .int) ({ frames := 2, cells := 0, slots := 0, locals := 45 }) B [.int x, .int v] (th, f, mn, g) (om_Qi B (fun _ u => u = (1, f, mn, g))) := by
  refine om_mi (by decide) rfl hB (Nat.le_of_ble_eq_true rfl) (fun p e R s m args below meth c Q ls hR X hml hP hS hl hend => ?_)
  have hx := X.1
  have hb := X.2.1
  have hl : lv_has ls 4 [(0, .ref (om_h B)), (1, .int x), (2, .int v)] := hl
  have hmn := hM.1
  have hZl := hZ.2.2.1
  have hb3 : ∀ {i z : Nat}, Z[i]? = some z → z < 1000 := fun {i z} hz => hZ.2.1 i z hz
  refine lv_aload_n hx hb d_m_next_0 rfl (lv_at hl 0 rfl) ?_
  refine lv_iload_n hx hb d_m_next_1 rfl (lv_at hl 1 rfl) ?_
  refine lv_iconst (v := (nI 0)) hx hb d_m_next_2 (by decide) ?_
  refine lv_iconst (v := (nI 0)) hx hb d_m_next_3 (by decide) ?_
  refine om_cz (n := 3) (As := [.int x, .int (nI 0), .int (nI 0)]) (rest := []) X hml (c_m_lacks1 l B hB hZ hM hbd) (gw_W X.2.2.2.1 ml_m_27 im_m_lacks se_m_lacks k_m_lacks in_m (by decide +kernel) rfl rfl (by rw [hR]; exact ⟨Nat.le_of_ble_eq_true rfl, Nat.le_of_ble_eq_true rfl⟩)) hP hS hl.1 rfl rfl (Nat.le_of_ble_eq_true rfl) d_m_next_4 (fun r u' H locs hq hP hS => ?_)
  obtain ⟨hr0, hu0⟩ := hq
  rw [hr0]
  rw [hu0] at hP
  refine z_eq (tgt := 12) hx hb d_m_next_7 (by decide) (fun qz => ?_) (fun qz => ?_)
  · cases qz
  · refine lv_iconst (v := (nI 0)) hx hb d_m_next_10 (by decide) ?_
    exact hend _ _ _ _ _ _ hP hS d_m_next_11 rfl
set_option maxHeartbeats 4000000 in
set_option maxRecDepth 100000 in
/-- m_place: a stamp is lacking -/
theorem c_m_placeT (l : Launch) (B : MG) (hB : om_ok B) {th mn : Nat} {f g : Nat → Nat} {Z : List Nat} {x : Int32} (hZ : Zk Z) (hM : Mi f mn Z) (hbd : bd Z x) : om_M l y_m_place b_m_place 2 (some .int) ({ frames := 2, cells := 0, slots := 0, locals := 45 }) B [.int x] (th, f, mn, g) (om_Qi B (fun _ u => u = (1, f, mn, g))) := by
  refine om_mi (by decide) rfl hB (Nat.le_of_ble_eq_true rfl) (fun p e R s m args below meth c Q ls hR X hml hP hS hl hend => ?_)
  have hx := X.1
  have hb := X.2.1
  have hl : lv_has ls 2 [(0, .ref (om_h B)), (1, .int x)] := hl
  have hmn := hM.1
  have hZl := hZ.2.2.1
  have hb3 : ∀ {i z : Nat}, Z[i]? = some z → z < 1000 := fun {i z} hz => hZ.2.1 i z hz
  refine lv_aload_n hx hb d_m_place_0 rfl (lv_at hl 0 rfl) ?_
  refine lv_iload_n hx hb d_m_place_1 rfl (lv_at hl 1 rfl) ?_
  refine lv_iconst (v := (nI 0)) hx hb d_m_place_2 (by decide) ?_
  refine lv_iconst (v := (nI 0)) hx hb d_m_place_3 (by decide) ?_
  refine om_cz (n := 3) (As := [.int x, .int (nI 0), .int (nI 0)]) (rest := []) X hml (c_m_lacks1 l B hB hZ hM hbd) (gw_W X.2.2.2.1 ml_m_27 im_m_lacks se_m_lacks k_m_lacks in_m (by decide +kernel) rfl rfl (by rw [hR]; exact ⟨Nat.le_of_ble_eq_true rfl, Nat.le_of_ble_eq_true rfl⟩)) hP hS hl.1 rfl rfl (Nat.le_of_ble_eq_true rfl) d_m_place_4 (fun r u' H locs hq hP hS => ?_)
  obtain ⟨hr0, hu0⟩ := hq
  rw [hr0]
  rw [hu0] at hP
  refine z_eq (tgt := 14) hx hb d_m_place_7 (by decide) (fun qz => ?_) (fun qz => ?_)
  · cases qz
  · refine lv_iconst (v := (nI 0)) hx hb d_m_place_10 (by decide) ?_
    refine lv_goto (tgt := 19) hx hb d_m_place_11 (by decide) ?_
    exact hend _ _ _ _ _ _ hP hS d_m_place_19 rfl
set_option maxHeartbeats 4000000 in
set_option maxRecDepth 100000 in
/-- m_clear: a stamp is lacking -/
theorem c_m_clearT1 (l : Launch) (B : MG) (hB : om_ok B) {th mn : Nat} {f g : Nat → Nat} {Z : List Nat} {x v : Int32} (hZ : Zk Z) (hM : Mi f mn Z) (hbd : bd Z x) : om_M l y_m_clear b_m_clear 4 (some .int) ({ frames := 2, cells := 0, slots := 0, locals := 45 }) B [.int x, .int v] (th, f, mn, g) (om_Qi B (fun _ u => u = (1, f, mn, g))) := by
  refine om_mi (by decide) rfl hB (Nat.le_of_ble_eq_true rfl) (fun p e R s m args below meth c Q ls hR X hml hP hS hl hend => ?_)
  have hx := X.1
  have hb := X.2.1
  have hl : lv_has ls 4 [(0, .ref (om_h B)), (1, .int x), (2, .int v)] := hl
  have hmn := hM.1
  have hZl := hZ.2.2.1
  have hb3 : ∀ {i z : Nat}, Z[i]? = some z → z < 1000 := fun {i z} hz => hZ.2.1 i z hz
  refine lv_aload_n hx hb d_m_clear_0 rfl (lv_at hl 0 rfl) ?_
  refine lv_iload_n hx hb d_m_clear_1 rfl (lv_at hl 1 rfl) ?_
  refine lv_iload_n hx hb d_m_clear_2 rfl (lv_at hl 2 rfl) ?_
  refine lv_iconst (v := (nI 0)) hx hb d_m_clear_3 (by decide) ?_
  refine om_cz (n := 3) (As := [.int x, .int v, .int (nI 0)]) (rest := []) X hml (c_m_lacks1 l B hB hZ hM hbd) (gw_W X.2.2.2.1 ml_m_27 im_m_lacks se_m_lacks k_m_lacks in_m (by decide +kernel) rfl rfl (by rw [hR]; exact ⟨Nat.le_of_ble_eq_true rfl, Nat.le_of_ble_eq_true rfl⟩)) hP hS hl.1 rfl rfl (Nat.le_of_ble_eq_true rfl) d_m_clear_4 (fun r u' H locs hq hP hS => ?_)
  obtain ⟨hr0, hu0⟩ := hq
  rw [hr0]
  rw [hu0] at hP
  refine z_eq (tgt := 12) hx hb d_m_clear_7 (by decide) (fun qz => ?_) (fun qz => ?_)
  · cases qz
  · refine lv_iconst (v := (nI 0)) hx hb d_m_clear_10 (by decide) ?_
    exact hend _ _ _ _ _ _ hP hS d_m_clear_11 rfl
set_option maxHeartbeats 4000000 in
set_option maxRecDepth 100000 in
/-- m_clear: a stamp is lacking -/
theorem c_m_clearT2 (l : Launch) (B : MG) (hB : om_ok B) {th mn : Nat} {f g : Nat → Nat} {Z : List Nat} {pa xa : Nat} {v : Int32} (hZ : Zk Z) (hM : Mi f mn Z) (ha : Z[pa]? = some xa) (hbd : bd Z v) : om_M l y_m_clear b_m_clear 4 (some .int) ({ frames := 2, cells := 0, slots := 0, locals := 45 }) B [.int (nI xa), .int v] (th, f, mn, g) (om_Qi B (fun _ u => u = (1, f, mn, g))) := by
  refine om_mi (by decide) rfl hB (Nat.le_of_ble_eq_true rfl) (fun p e R s m args below meth c Q ls hR X hml hP hS hl hend => ?_)
  have hx := X.1
  have hb := X.2.1
  have hl : lv_has ls 4 [(0, .ref (om_h B)), (1, .int (nI xa)), (2, .int v)] := hl
  have hmn := hM.1
  have hZl := hZ.2.2.1
  have hb3 : ∀ {i z : Nat}, Z[i]? = some z → z < 1000 := fun {i z} hz => hZ.2.1 i z hz
  refine lv_aload_n hx hb d_m_clear_0 rfl (lv_at hl 0 rfl) ?_
  refine lv_iload_n hx hb d_m_clear_1 rfl (lv_at hl 1 rfl) ?_
  refine lv_iload_n hx hb d_m_clear_2 rfl (lv_at hl 2 rfl) ?_
  refine lv_iconst (v := (nI 0)) hx hb d_m_clear_3 (by decide) ?_
  refine om_cz (n := 3) (As := [.int (nI xa), .int v, .int (nI 0)]) (rest := []) X hml (c_m_lacks2 l B hB hZ hM ha hbd) (gw_W X.2.2.2.1 ml_m_27 im_m_lacks se_m_lacks k_m_lacks in_m (by decide +kernel) rfl rfl (by rw [hR]; exact ⟨Nat.le_of_ble_eq_true rfl, Nat.le_of_ble_eq_true rfl⟩)) hP hS hl.1 rfl rfl (Nat.le_of_ble_eq_true rfl) d_m_clear_4 (fun r u' H locs hq hP hS => ?_)
  obtain ⟨hr0, hu0⟩ := hq
  rw [hr0]
  rw [hu0] at hP
  refine z_eq (tgt := 12) hx hb d_m_clear_7 (by decide) (fun qz => ?_) (fun qz => ?_)
  · cases qz
  · refine lv_iconst (v := (nI 0)) hx hb d_m_clear_10 (by decide) ?_
    exact hend _ _ _ _ _ _ hP hS d_m_clear_11 rfl
set_option maxHeartbeats 4000000 in
set_option maxRecDepth 100000 in
/-- m_compare: a stamp is lacking -/
theorem c_m_compareT1 (l : Launch) (B : MG) (hB : om_ok B) {th mn : Nat} {f g : Nat → Nat} {Z : List Nat} {x v : Int32} (hZ : Zk Z) (hM : Mi f mn Z) (hbd : bd Z x) : om_M l y_m_compare b_m_compare 5 (some .int) ({ frames := 2, cells := 0, slots := 0, locals := 45 }) B [.int x, .int v] (th, f, mn, g) (om_Qi B (fun _ u => u = (1, f, mn, g))) := by
  refine om_mi (by decide) rfl hB (Nat.le_of_ble_eq_true rfl) (fun p e R s m args below meth c Q ls hR X hml hP hS hl hend => ?_)
  have hx := X.1
  have hb := X.2.1
  have hl : lv_has ls 5 [(0, .ref (om_h B)), (1, .int x), (2, .int v)] := hl
  have hmn := hM.1
  have hZl := hZ.2.2.1
  have hb3 : ∀ {i z : Nat}, Z[i]? = some z → z < 1000 := fun {i z} hz => hZ.2.1 i z hz
  refine lv_aload_n hx hb d_m_compare_0 rfl (lv_at hl 0 rfl) ?_
  refine lv_iload_n hx hb d_m_compare_1 rfl (lv_at hl 1 rfl) ?_
  refine lv_iload_n hx hb d_m_compare_2 rfl (lv_at hl 2 rfl) ?_
  refine lv_iconst (v := (nI 0)) hx hb d_m_compare_3 (by decide) ?_
  refine om_cz (n := 3) (As := [.int x, .int v, .int (nI 0)]) (rest := []) X hml (c_m_lacks1 l B hB hZ hM hbd) (gw_W X.2.2.2.1 ml_m_27 im_m_lacks se_m_lacks k_m_lacks in_m (by decide +kernel) rfl rfl (by rw [hR]; exact ⟨Nat.le_of_ble_eq_true rfl, Nat.le_of_ble_eq_true rfl⟩)) hP hS hl.1 rfl rfl (Nat.le_of_ble_eq_true rfl) d_m_compare_4 (fun r u' H locs hq hP hS => ?_)
  obtain ⟨hr0, hu0⟩ := hq
  rw [hr0]
  rw [hu0] at hP
  refine z_eq (tgt := 12) hx hb d_m_compare_7 (by decide) (fun qz => ?_) (fun qz => ?_)
  · cases qz
  · refine lv_iconst (v := (nI 0)) hx hb d_m_compare_10 (by decide) ?_
    exact hend _ _ _ _ _ _ hP hS d_m_compare_11 rfl
set_option maxHeartbeats 4000000 in
set_option maxRecDepth 100000 in
/-- m_compare: a stamp is lacking -/
theorem c_m_compareT2 (l : Launch) (B : MG) (hB : om_ok B) {th mn : Nat} {f g : Nat → Nat} {Z : List Nat} {pa xa : Nat} {v : Int32} (hZ : Zk Z) (hM : Mi f mn Z) (ha : Z[pa]? = some xa) (hbd : bd Z v) : om_M l y_m_compare b_m_compare 5 (some .int) ({ frames := 2, cells := 0, slots := 0, locals := 45 }) B [.int (nI xa), .int v] (th, f, mn, g) (om_Qi B (fun _ u => u = (1, f, mn, g))) := by
  refine om_mi (by decide) rfl hB (Nat.le_of_ble_eq_true rfl) (fun p e R s m args below meth c Q ls hR X hml hP hS hl hend => ?_)
  have hx := X.1
  have hb := X.2.1
  have hl : lv_has ls 5 [(0, .ref (om_h B)), (1, .int (nI xa)), (2, .int v)] := hl
  have hmn := hM.1
  have hZl := hZ.2.2.1
  have hb3 : ∀ {i z : Nat}, Z[i]? = some z → z < 1000 := fun {i z} hz => hZ.2.1 i z hz
  refine lv_aload_n hx hb d_m_compare_0 rfl (lv_at hl 0 rfl) ?_
  refine lv_iload_n hx hb d_m_compare_1 rfl (lv_at hl 1 rfl) ?_
  refine lv_iload_n hx hb d_m_compare_2 rfl (lv_at hl 2 rfl) ?_
  refine lv_iconst (v := (nI 0)) hx hb d_m_compare_3 (by decide) ?_
  refine om_cz (n := 3) (As := [.int (nI xa), .int v, .int (nI 0)]) (rest := []) X hml (c_m_lacks2 l B hB hZ hM ha hbd) (gw_W X.2.2.2.1 ml_m_27 im_m_lacks se_m_lacks k_m_lacks in_m (by decide +kernel) rfl rfl (by rw [hR]; exact ⟨Nat.le_of_ble_eq_true rfl, Nat.le_of_ble_eq_true rfl⟩)) hP hS hl.1 rfl rfl (Nat.le_of_ble_eq_true rfl) d_m_compare_4 (fun r u' H locs hq hP hS => ?_)
  obtain ⟨hr0, hu0⟩ := hq
  rw [hr0]
  rw [hu0] at hP
  refine z_eq (tgt := 12) hx hb d_m_compare_7 (by decide) (fun qz => ?_) (fun qz => ?_)
  · cases qz
  · refine lv_iconst (v := (nI 0)) hx hb d_m_compare_10 (by decide) ?_
    exact hend _ _ _ _ _ _ hP hS d_m_compare_11 rfl
set_option maxHeartbeats 4000000 in
set_option maxRecDepth 100000 in
/-- m_greatest: a stamp is lacking -/
theorem c_m_greatestT1 (l : Launch) (B : MG) (hB : om_ok B) {th mn : Nat} {f g : Nat → Nat} {Z : List Nat} {x v : Int32} (hZ : Zk Z) (hM : Mi f mn Z) (hbd : bd Z x) : om_M l y_m_greatest b_m_greatest 5 (some .int) ({ frames := 2, cells := 0, slots := 0, locals := 45 }) B [.int x, .int v] (th, f, mn, g) (om_Qi B (fun _ u => u = (1, f, mn, g))) := by
  refine om_mi (by decide) rfl hB (Nat.le_of_ble_eq_true rfl) (fun p e R s m args below meth c Q ls hR X hml hP hS hl hend => ?_)
  have hx := X.1
  have hb := X.2.1
  have hl : lv_has ls 5 [(0, .ref (om_h B)), (1, .int x), (2, .int v)] := hl
  have hmn := hM.1
  have hZl := hZ.2.2.1
  have hb3 : ∀ {i z : Nat}, Z[i]? = some z → z < 1000 := fun {i z} hz => hZ.2.1 i z hz
  refine lv_aload_n hx hb d_m_greatest_0 rfl (lv_at hl 0 rfl) ?_
  refine lv_iload_n hx hb d_m_greatest_1 rfl (lv_at hl 1 rfl) ?_
  refine lv_iload_n hx hb d_m_greatest_2 rfl (lv_at hl 2 rfl) ?_
  refine lv_iconst (v := (nI 0)) hx hb d_m_greatest_3 (by decide) ?_
  refine om_cz (n := 3) (As := [.int x, .int v, .int (nI 0)]) (rest := []) X hml (c_m_lacks1 l B hB hZ hM hbd) (gw_W X.2.2.2.1 ml_m_27 im_m_lacks se_m_lacks k_m_lacks in_m (by decide +kernel) rfl rfl (by rw [hR]; exact ⟨Nat.le_of_ble_eq_true rfl, Nat.le_of_ble_eq_true rfl⟩)) hP hS hl.1 rfl rfl (Nat.le_of_ble_eq_true rfl) d_m_greatest_4 (fun r u' H locs hq hP hS => ?_)
  obtain ⟨hr0, hu0⟩ := hq
  rw [hr0]
  rw [hu0] at hP
  refine z_eq (tgt := 12) hx hb d_m_greatest_7 (by decide) (fun qz => ?_) (fun qz => ?_)
  · cases qz
  · refine lv_iconst (v := (nI 0)) hx hb d_m_greatest_10 (by decide) ?_
    exact hend _ _ _ _ _ _ hP hS d_m_greatest_11 rfl
set_option maxHeartbeats 4000000 in
set_option maxRecDepth 100000 in
/-- m_greatest: a stamp is lacking -/
theorem c_m_greatestT2 (l : Launch) (B : MG) (hB : om_ok B) {th mn : Nat} {f g : Nat → Nat} {Z : List Nat} {pa xa : Nat} {v : Int32} (hZ : Zk Z) (hM : Mi f mn Z) (ha : Z[pa]? = some xa) (hbd : bd Z v) : om_M l y_m_greatest b_m_greatest 5 (some .int) ({ frames := 2, cells := 0, slots := 0, locals := 45 }) B [.int (nI xa), .int v] (th, f, mn, g) (om_Qi B (fun _ u => u = (1, f, mn, g))) := by
  refine om_mi (by decide) rfl hB (Nat.le_of_ble_eq_true rfl) (fun p e R s m args below meth c Q ls hR X hml hP hS hl hend => ?_)
  have hx := X.1
  have hb := X.2.1
  have hl : lv_has ls 5 [(0, .ref (om_h B)), (1, .int (nI xa)), (2, .int v)] := hl
  have hmn := hM.1
  have hZl := hZ.2.2.1
  have hb3 : ∀ {i z : Nat}, Z[i]? = some z → z < 1000 := fun {i z} hz => hZ.2.1 i z hz
  refine lv_aload_n hx hb d_m_greatest_0 rfl (lv_at hl 0 rfl) ?_
  refine lv_iload_n hx hb d_m_greatest_1 rfl (lv_at hl 1 rfl) ?_
  refine lv_iload_n hx hb d_m_greatest_2 rfl (lv_at hl 2 rfl) ?_
  refine lv_iconst (v := (nI 0)) hx hb d_m_greatest_3 (by decide) ?_
  refine om_cz (n := 3) (As := [.int (nI xa), .int v, .int (nI 0)]) (rest := []) X hml (c_m_lacks2 l B hB hZ hM ha hbd) (gw_W X.2.2.2.1 ml_m_27 im_m_lacks se_m_lacks k_m_lacks in_m (by decide +kernel) rfl rfl (by rw [hR]; exact ⟨Nat.le_of_ble_eq_true rfl, Nat.le_of_ble_eq_true rfl⟩)) hP hS hl.1 rfl rfl (Nat.le_of_ble_eq_true rfl) d_m_greatest_4 (fun r u' H locs hq hP hS => ?_)
  obtain ⟨hr0, hu0⟩ := hq
  rw [hr0]
  rw [hu0] at hP
  refine z_eq (tgt := 12) hx hb d_m_greatest_7 (by decide) (fun qz => ?_) (fun qz => ?_)
  · cases qz
  · refine lv_iconst (v := (nI 0)) hx hb d_m_greatest_10 (by decide) ?_
    exact hend _ _ _ _ _ _ hP hS d_m_greatest_11 rfl
set_option maxHeartbeats 4000000 in
set_option maxRecDepth 100000 in
/-- m_carry: a stamp is lacking -/
theorem c_m_carryT1 (l : Launch) (B : MG) (hB : om_ok B) {th mn : Nat} {f g : Nat → Nat} {Z : List Nat} {x v v2 : Int32} (hZ : Zk Z) (hM : Mi f mn Z) (hbd : bd Z x) : om_M l y_m_carry b_m_carry 9 (some .int) ({ frames := 2, cells := 0, slots := 0, locals := 45 }) B [.int x, .int v, .int v2] (th, f, mn, g) (om_Qi B (fun _ u => u = (1, f, mn, g))) := by
  refine om_mi (by decide) rfl hB (Nat.le_of_ble_eq_true rfl) (fun p e R s m args below meth c Q ls hR X hml hP hS hl hend => ?_)
  have hx := X.1
  have hb := X.2.1
  have hl : lv_has ls 9 [(0, .ref (om_h B)), (1, .int x), (2, .int v), (3, .int v2)] := hl
  have hmn := hM.1
  have hZl := hZ.2.2.1
  have hb3 : ∀ {i z : Nat}, Z[i]? = some z → z < 1000 := fun {i z} hz => hZ.2.1 i z hz
  refine lv_aload_n hx hb d_m_carry_0 rfl (lv_at hl 0 rfl) ?_
  refine lv_iload_n hx hb d_m_carry_1 rfl (lv_at hl 1 rfl) ?_
  refine lv_iload_n hx hb d_m_carry_2 rfl (lv_at hl 2 rfl) ?_
  refine lv_iload_n hx hb d_m_carry_3 rfl (lv_at hl 3 rfl) ?_
  refine om_cz (n := 3) (As := [.int x, .int v, .int v2]) (rest := []) X hml (c_m_lacks1 l B hB hZ hM hbd) (gw_W X.2.2.2.1 ml_m_27 im_m_lacks se_m_lacks k_m_lacks in_m (by decide +kernel) rfl rfl (by rw [hR]; exact ⟨Nat.le_of_ble_eq_true rfl, Nat.le_of_ble_eq_true rfl⟩)) hP hS hl.1 rfl rfl (Nat.le_of_ble_eq_true rfl) d_m_carry_4 (fun r u' H locs hq hP hS => ?_)
  obtain ⟨hr0, hu0⟩ := hq
  rw [hr0]
  rw [hu0] at hP
  refine z_eq (tgt := 12) hx hb d_m_carry_7 (by decide) (fun qz => ?_) (fun qz => ?_)
  · cases qz
  · refine lv_iconst (v := (nI 0)) hx hb d_m_carry_10 (by decide) ?_
    exact hend _ _ _ _ _ _ hP hS d_m_carry_11 rfl
set_option maxHeartbeats 4000000 in
set_option maxRecDepth 100000 in
/-- m_carry: a stamp is lacking -/
theorem c_m_carryT2 (l : Launch) (B : MG) (hB : om_ok B) {th mn : Nat} {f g : Nat → Nat} {Z : List Nat} {pa xa : Nat} {v v2 : Int32} (hZ : Zk Z) (hM : Mi f mn Z) (ha : Z[pa]? = some xa) (hbd : bd Z v) : om_M l y_m_carry b_m_carry 9 (some .int) ({ frames := 2, cells := 0, slots := 0, locals := 45 }) B [.int (nI xa), .int v, .int v2] (th, f, mn, g) (om_Qi B (fun _ u => u = (1, f, mn, g))) := by
  refine om_mi (by decide) rfl hB (Nat.le_of_ble_eq_true rfl) (fun p e R s m args below meth c Q ls hR X hml hP hS hl hend => ?_)
  have hx := X.1
  have hb := X.2.1
  have hl : lv_has ls 9 [(0, .ref (om_h B)), (1, .int (nI xa)), (2, .int v), (3, .int v2)] := hl
  have hmn := hM.1
  have hZl := hZ.2.2.1
  have hb3 : ∀ {i z : Nat}, Z[i]? = some z → z < 1000 := fun {i z} hz => hZ.2.1 i z hz
  refine lv_aload_n hx hb d_m_carry_0 rfl (lv_at hl 0 rfl) ?_
  refine lv_iload_n hx hb d_m_carry_1 rfl (lv_at hl 1 rfl) ?_
  refine lv_iload_n hx hb d_m_carry_2 rfl (lv_at hl 2 rfl) ?_
  refine lv_iload_n hx hb d_m_carry_3 rfl (lv_at hl 3 rfl) ?_
  refine om_cz (n := 3) (As := [.int (nI xa), .int v, .int v2]) (rest := []) X hml (c_m_lacks2 l B hB hZ hM ha hbd) (gw_W X.2.2.2.1 ml_m_27 im_m_lacks se_m_lacks k_m_lacks in_m (by decide +kernel) rfl rfl (by rw [hR]; exact ⟨Nat.le_of_ble_eq_true rfl, Nat.le_of_ble_eq_true rfl⟩)) hP hS hl.1 rfl rfl (Nat.le_of_ble_eq_true rfl) d_m_carry_4 (fun r u' H locs hq hP hS => ?_)
  obtain ⟨hr0, hu0⟩ := hq
  rw [hr0]
  rw [hu0] at hP
  refine z_eq (tgt := 12) hx hb d_m_carry_7 (by decide) (fun qz => ?_) (fun qz => ?_)
  · cases qz
  · refine lv_iconst (v := (nI 0)) hx hb d_m_carry_10 (by decide) ?_
    exact hend _ _ _ _ _ _ hP hS d_m_carry_11 rfl
set_option maxHeartbeats 4000000 in
set_option maxRecDepth 100000 in
/-- m_carry: a stamp is lacking -/
theorem c_m_carryT3 (l : Launch) (B : MG) (hB : om_ok B) {th mn : Nat} {f g : Nat → Nat} {Z : List Nat} {pa xa pb xb : Nat} {v2 : Int32} (hZ : Zk Z) (hM : Mi f mn Z) (ha : Z[pa]? = some xa) (hb0 : Z[pb]? = some xb) (hbd : bd Z v2) : om_M l y_m_carry b_m_carry 9 (some .int) ({ frames := 2, cells := 0, slots := 0, locals := 45 }) B [.int (nI xa), .int (nI xb), .int v2] (th, f, mn, g) (om_Qi B (fun _ u => u = (1, f, mn, g))) := by
  refine om_mi (by decide) rfl hB (Nat.le_of_ble_eq_true rfl) (fun p e R s m args below meth c Q ls hR X hml hP hS hl hend => ?_)
  have hx := X.1
  have hb := X.2.1
  have hl : lv_has ls 9 [(0, .ref (om_h B)), (1, .int (nI xa)), (2, .int (nI xb)), (3, .int v2)] := hl
  have hmn := hM.1
  have hZl := hZ.2.2.1
  have hb3 : ∀ {i z : Nat}, Z[i]? = some z → z < 1000 := fun {i z} hz => hZ.2.1 i z hz
  refine lv_aload_n hx hb d_m_carry_0 rfl (lv_at hl 0 rfl) ?_
  refine lv_iload_n hx hb d_m_carry_1 rfl (lv_at hl 1 rfl) ?_
  refine lv_iload_n hx hb d_m_carry_2 rfl (lv_at hl 2 rfl) ?_
  refine lv_iload_n hx hb d_m_carry_3 rfl (lv_at hl 3 rfl) ?_
  refine om_cz (n := 3) (As := [.int (nI xa), .int (nI xb), .int v2]) (rest := []) X hml (c_m_lacks3 l B hB hZ hM ha hb0 hbd) (gw_W X.2.2.2.1 ml_m_27 im_m_lacks se_m_lacks k_m_lacks in_m (by decide +kernel) rfl rfl (by rw [hR]; exact ⟨Nat.le_of_ble_eq_true rfl, Nat.le_of_ble_eq_true rfl⟩)) hP hS hl.1 rfl rfl (Nat.le_of_ble_eq_true rfl) d_m_carry_4 (fun r u' H locs hq hP hS => ?_)
  obtain ⟨hr0, hu0⟩ := hq
  rw [hr0]
  rw [hu0] at hP
  refine z_eq (tgt := 12) hx hb d_m_carry_7 (by decide) (fun qz => ?_) (fun qz => ?_)
  · cases qz
  · refine lv_iconst (v := (nI 0)) hx hb d_m_carry_10 (by decide) ?_
    exact hend _ _ _ _ _ _ hP hS d_m_carry_11 rfl
set_option maxHeartbeats 4000000 in
set_option maxRecDepth 100000 in
/-- behind(x) -/
theorem c_m_behind (l : Launch) (B : MG) (hB : om_ok B) {th mn : Nat} {f g : Nat → Nat} {Z : List Nat} {pp x mm : Nat} (hZ : Zk Z) (hM : Mi f mn Z) (hx0 : Z[pp]? = some x) (hfr : fr Z mm) (hlt : Z.length < 1000) : om_M l y_m_behind b_m_behind 3 (some .int) ({ frames := 2, cells := 0, slots := 0, locals := 45 }) B [.int (nI x)] (th, f, mn, g) (om_Qi B (fun r u => r = nI mm ∧ ∃ f', u = (0, f', mn + 1, g) ∧ Mi f' (mn + 1) (Z.insertIdx (pp + 1) mm))) := by
  refine om_mi (by decide) rfl hB (Nat.le_of_ble_eq_true rfl) (fun p e R s m args below meth c Q ls hR X hml hP hS hl hend => ?_)
  have hx := X.1
  have hb := X.2.1
  have hl : lv_has ls 3 [(0, .ref (om_h B)), (1, .int (nI x))] := hl
  have hmn := hM.1
  have hZl := hZ.2.2.1
  have hb3 : ∀ {i z : Nat}, Z[i]? = some z → z < 1000 := fun {i z} hz => hZ.2.1 i z hz
  have hpl := gt_lt hx0
  refine lv_aload_n hx hb d_m_behind_0 rfl (lv_at hl 0 rfl) ?_
  refine lv_iload_n hx hb d_m_behind_1 rfl (lv_at hl 1 rfl) ?_
  refine lv_iconst (v := (nI 0)) hx hb d_m_behind_2 (by decide) ?_
  refine lv_iconst (v := (nI 0)) hx hb d_m_behind_3 (by decide) ?_
  refine om_cz (n := 3) (As := [.int (nI x), .int (nI 0), .int (nI 0)]) (rest := []) X hml (c_m_lacks l B hB hZ hM hx0 hZ.2.2.2 hZ.2.2.2) (gw_W X.2.2.2.1 ml_m_27 im_m_lacks se_m_lacks k_m_lacks in_m (by decide +kernel) rfl rfl (by rw [hR]; exact ⟨Nat.le_of_ble_eq_true rfl, Nat.le_of_ble_eq_true rfl⟩)) hP hS hl.1 rfl rfl (Nat.le_of_ble_eq_true rfl) d_m_behind_4 (fun r u' H locs hq hP hS => ?_)
  obtain ⟨hr0, hu0⟩ := hq
  rw [hr0]
  rw [hu0] at hP
  refine z_eq (tgt := 12) hx hb d_m_behind_7 (by decide) (fun qz => ?_) (fun qz => ?_)
  · have hmm := hfr.1
    refine lv_aload_n hx hb d_m_behind_12 rfl (lv_at hl 0 rfl) ?_
    refine om_ci (n := 0) (As := []) (rest := []) X hml (c_m_free l B hB hZ hM hfr) (gw_W X.2.2.2.1 ml_m_31 im_m_free se_m_free k_m_free in_m (by decide +kernel) rfl rfl (by rw [hR]; exact ⟨Nat.le_of_ble_eq_true rfl, Nat.le_of_ble_eq_true rfl⟩)) hP hS hl.1 rfl rfl (Nat.le_of_ble_eq_true rfl) d_m_behind_13 (fun r u' H locs hq hP hS => ?_)
    obtain ⟨hr1, hu1⟩ := hq
    rw [hr1]
    rw [hu1] at hP
    refine lv_istore_n (lv' := [(2, .int (nI mm)), (0, .ref (om_h B)), (1, .int (nI x))]) hx hb d_m_behind_16 rfl hl (by decide) rfl (fun ls hl => ?_)
    refine lv_iload_n hx hb d_m_behind_17 rfl (lv_at hl 0 rfl) ?_
    refine nz_lt (tgt := 33) hx hb (by omega) d_m_behind_18 (by decide) ?_
    refine lv_aload_n hx hb d_m_behind_21 rfl (lv_at hl 1 rfl) ?_
    refine lv_iload_n hx hb d_m_behind_22 rfl (lv_at hl 0 rfl) ?_
    refine lv_aload_n hx hb d_m_behind_23 rfl (lv_at hl 1 rfl) ?_
    refine lv_iload_n hx hb d_m_behind_24 rfl (lv_at hl 2 rfl) ?_
    refine om_ci (n := 1) (As := [.int (nI x)]) (rest := [.int (nI mm), .ref (om_h B)]) X hml (c_m_find l B hB hZ hM hx0) (gw_W X.2.2.2.1 ml_m_23 im_m_find se_m_find k_m_find in_m (by decide +kernel) rfl rfl (by rw [hR]; exact ⟨Nat.le_of_ble_eq_true rfl, Nat.le_of_ble_eq_true rfl⟩)) hP hS hl.1 rfl rfl (Nat.le_of_ble_eq_true rfl) d_m_behind_25 (fun r u' H locs hq hP hS => ?_)
    obtain ⟨hr0, hu0⟩ := hq
    rw [hr0]
    rw [hu0] at hP
    refine lv_iconst (v := (nI 1)) hx hb d_m_behind_28 (by decide) ?_
    refine lv_iadd hx hb d_m_behind_29 ?_
    refine tp_i (nI (pp + 1)) (nI_add _ _) ?_
    refine om_cv (n := 2) (As := [.int (nI mm), .int (nI (pp + 1))]) (rest := []) X hml (c_m_put l B hB hZ hM (by omega) (by omega)) (gw_W X.2.2.2.1 ml_m_35 im_m_put se_m_put k_m_put in_m (by decide +kernel) rfl rfl (by rw [hR]; exact ⟨Nat.le_of_ble_eq_true rfl, Nat.le_of_ble_eq_true rfl⟩)) hP hS hl.1 rfl rfl (Nat.le_of_ble_eq_true rfl) d_m_behind_30 (fun u' H locs hq hP hS => ?_)
    obtain ⟨f', hu2, hM2⟩ := hq
    rw [hu2] at hP
    refine lv_iload_n hx hb d_m_behind_33 rfl (lv_at hl 0 rfl) ?_
    exact hend _ _ _ _ _ _ hP hS d_m_behind_34 ⟨rfl, f', rfl, hM2⟩
  · cases qz
set_option maxHeartbeats 4000000 in
set_option maxRecDepth 100000 in
/-- behind(x), none is free -/
theorem c_m_behindF (l : Launch) (B : MG) (hB : om_ok B) {th mn : Nat} {f g : Nat → Nat} {Z : List Nat} {pp x : Nat} (hZ : Zk Z) (hM : Mi f mn Z) (hx0 : Z[pp]? = some x) (hfu : full Z) : om_M l y_m_behind b_m_behind 3 (some .int) ({ frames := 2, cells := 0, slots := 0, locals := 45 }) B [.int (nI x)] (th, f, mn, g) (om_Qi B (fun r u => r = -1 ∧ u = (0, f, mn, g))) := by
  refine om_mi (by decide) rfl hB (Nat.le_of_ble_eq_true rfl) (fun p e R s m args below meth c Q ls hR X hml hP hS hl hend => ?_)
  have hx := X.1
  have hb := X.2.1
  have hl : lv_has ls 3 [(0, .ref (om_h B)), (1, .int (nI x))] := hl
  have hmn := hM.1
  have hZl := hZ.2.2.1
  have hb3 : ∀ {i z : Nat}, Z[i]? = some z → z < 1000 := fun {i z} hz => hZ.2.1 i z hz
  have hpl := gt_lt hx0
  refine lv_aload_n hx hb d_m_behind_0 rfl (lv_at hl 0 rfl) ?_
  refine lv_iload_n hx hb d_m_behind_1 rfl (lv_at hl 1 rfl) ?_
  refine lv_iconst (v := (nI 0)) hx hb d_m_behind_2 (by decide) ?_
  refine lv_iconst (v := (nI 0)) hx hb d_m_behind_3 (by decide) ?_
  refine om_cz (n := 3) (As := [.int (nI x), .int (nI 0), .int (nI 0)]) (rest := []) X hml (c_m_lacks l B hB hZ hM hx0 hZ.2.2.2 hZ.2.2.2) (gw_W X.2.2.2.1 ml_m_27 im_m_lacks se_m_lacks k_m_lacks in_m (by decide +kernel) rfl rfl (by rw [hR]; exact ⟨Nat.le_of_ble_eq_true rfl, Nat.le_of_ble_eq_true rfl⟩)) hP hS hl.1 rfl rfl (Nat.le_of_ble_eq_true rfl) d_m_behind_4 (fun r u' H locs hq hP hS => ?_)
  obtain ⟨hr0, hu0⟩ := hq
  rw [hr0]
  rw [hu0] at hP
  refine z_eq (tgt := 12) hx hb d_m_behind_7 (by decide) (fun qz => ?_) (fun qz => ?_)
  · refine lv_aload_n hx hb d_m_behind_12 rfl (lv_at hl 0 rfl) ?_
    refine om_ci (n := 0) (As := []) (rest := []) X hml (c_m_freeN l B hB hZ hM hfu) (gw_W X.2.2.2.1 ml_m_31 im_m_free se_m_free k_m_free in_m (by decide +kernel) rfl rfl (by rw [hR]; exact ⟨Nat.le_of_ble_eq_true rfl, Nat.le_of_ble_eq_true rfl⟩)) hP hS hl.1 rfl rfl (Nat.le_of_ble_eq_true rfl) d_m_behind_13 (fun r u' H locs hq hP hS => ?_)
    obtain ⟨hr1, hu1⟩ := hq
    rw [hr1]
    rw [hu1] at hP
    refine lv_istore_n (lv' := [(2, .int (-1)), (0, .ref (om_h B)), (1, .int (nI x))]) hx hb d_m_behind_16 rfl hl (by decide) rfl (fun ls hl => ?_)
    refine lv_iload_n hx hb d_m_behind_17 rfl (lv_at hl 0 rfl) ?_
    refine lv_if_lt (tgt := 33) hx hb d_m_behind_18 (by decide) (fun qn => ?_) (fun qn => ?_)
    · refine lv_iload_n hx hb d_m_behind_33 rfl (lv_at hl 0 rfl) ?_
      exact hend _ _ _ _ _ _ hP hS d_m_behind_34 ⟨rfl, rfl⟩
    · exact absurd (by decide) qn
  · cases qz
set_option maxHeartbeats 4000000 in
set_option maxRecDepth 100000 in
/-- several(x, v), nothing -/
theorem c_m_severalN (l : Launch) (B : MG) (hB : om_ok B) {th mn : Nat} {f g : Nat → Nat} {Z : List Nat} {pp x : Nat} {v : Int32} (hZ : Zk Z) (hM : Mi f mn Z) (hx0 : Z[pp]? = some x) (hsk : ¬ ∃ k, sk Z v k) : om_M l y_m_several b_m_several 6 (some .int) ({ frames := 2, cells := 0, slots := 0, locals := 45 }) B [.int (nI x), .int v] (th, f, mn, g) (om_Qi B (fun r u => r = -1 ∧ u = (0, f, mn, g))) := by
  refine om_mi (by decide) rfl hB (Nat.le_of_ble_eq_true rfl) (fun p e R s m args below meth c Q ls hR X hml hP hS hl hend => ?_)
  have hx := X.1
  have hb := X.2.1
  have hl : lv_has ls 6 [(0, .ref (om_h B)), (1, .int (nI x)), (2, .int v)] := hl
  have hmn := hM.1
  have hZl := hZ.2.2.1
  have hb3 : ∀ {i z : Nat}, Z[i]? = some z → z < 1000 := fun {i z} hz => hZ.2.1 i z hz
  have hpl := gt_lt hx0
  refine lv_aload_n hx hb d_m_several_0 rfl (lv_at hl 0 rfl) ?_
  refine lv_iload_n hx hb d_m_several_1 rfl (lv_at hl 1 rfl) ?_
  refine lv_iconst (v := (nI 0)) hx hb d_m_several_2 (by decide) ?_
  refine lv_iconst (v := (nI 0)) hx hb d_m_several_3 (by decide) ?_
  refine om_cz (n := 3) (As := [.int (nI x), .int (nI 0), .int (nI 0)]) (rest := []) X hml (c_m_lacks l B hB hZ hM hx0 hZ.2.2.2 hZ.2.2.2) (gw_W X.2.2.2.1 ml_m_27 im_m_lacks se_m_lacks k_m_lacks in_m (by decide +kernel) rfl rfl (by rw [hR]; exact ⟨Nat.le_of_ble_eq_true rfl, Nat.le_of_ble_eq_true rfl⟩)) hP hS hl.1 rfl rfl (Nat.le_of_ble_eq_true rfl) d_m_several_4 (fun r u' H locs hq hP hS => ?_)
  obtain ⟨hr0, hu0⟩ := hq
  rw [hr0]
  rw [hu0] at hP
  refine z_eq (tgt := 12) hx hb d_m_several_7 (by decide) (fun qz => ?_) (fun qz => ?_)
  · refine lv_iload_n hx hb d_m_several_12 rfl (lv_at hl 2 rfl) ?_
    refine lv_iconst (v := (nI 2)) hx hb d_m_several_13 (by decide) ?_
    refine lv_icmp_lt (tgt := 35) hx hb d_m_several_14 (by decide) (fun q => ?_) (fun q => ?_)
    · refine lv_iconst (v := (-1)) hx hb d_m_several_35 (by decide) ?_
      exact hend _ _ _ _ _ _ hP hS d_m_several_36 ⟨rfl, rfl⟩
    · refine lv_iload_n hx hb d_m_several_17 rfl (lv_at hl 2 rfl) ?_
      refine lv_bipush (v := (nI 64)) hx hb d_m_several_18 (by decide) ?_
      refine lv_icmp_gt (tgt := 35) hx hb d_m_several_20 (by decide) (fun q2 => ?_) (fun q2 => ?_)
      · refine lv_iconst (v := (-1)) hx hb d_m_several_35 (by decide) ?_
        exact hend _ _ _ _ _ _ hP hS d_m_several_36 ⟨rfl, rfl⟩
      · obtain ⟨k, hk2, hk64, rfl⟩ := nI_rng (by decide) (by decide) q q2
        refine lv_aload_n hx hb d_m_several_23 rfl (lv_at hl 0 rfl) ?_
        refine g_manym X hP d_m_several_24 ?_
        refine lv_iload_n hx hb d_m_several_27 rfl (lv_at hl 2 rfl) ?_
        refine lv_iadd hx hb d_m_several_28 ?_
        refine tp_i (nI (mn + k)) (nI_add _ _) ?_
        refine lv_sipush (v := (nI 1000)) hx hb d_m_several_29 (by decide) ?_
        refine nb_le (tgt := 37) hx hb (by omega) (by omega) d_m_several_32 (by decide) (fun q3 => ?_) (fun q3 => ?_)
        · exact absurd ⟨k, rfl, hk2, hk64, by omega⟩ hsk
        · refine lv_iconst (v := (-1)) hx hb d_m_several_35 (by decide) ?_
          exact hend _ _ _ _ _ _ hP hS d_m_several_36 ⟨rfl, rfl⟩
  · cases qz
set_option maxHeartbeats 4000000 in
set_option maxRecDepth 100000 in
/-- several(x, k) -/
theorem c_m_several (l : Launch) (B : MG) (hB : om_ok B) {th mn : Nat} {f g : Nat → Nat} {Z : List Nat} {pp x k mm : Nat} {Z2 : List Nat} (hZ : Zk Z) (hM : Mi f mn Z) (hx0 : Z[pp]? = some x) (hsk : sk Z (nI k) k) (hsv : sev k Z (pp + 1) Z2) (hfr : fr Z mm) : om_M l y_m_several b_m_several 6 (some .int) ({ frames := 2, cells := 0, slots := 0, locals := 45 }) B [.int (nI x), .int (nI k)] (th, f, mn, g) (om_Qi B (fun r u => r = nI mm ∧ ∃ f', u = (0, f', mn + k, g) ∧ Mi f' (mn + k) Z2)) := by
  refine om_mi (by decide) rfl hB (Nat.le_of_ble_eq_true rfl) (fun p e R s m args below meth c Q ls hR X hml hP hS hl hend => ?_)
  have hx := X.1
  have hb := X.2.1
  have hl : lv_has ls 6 [(0, .ref (om_h B)), (1, .int (nI x)), (2, .int (nI k))] := hl
  have hmn := hM.1
  have hZl := hZ.2.2.1
  have hb3 : ∀ {i z : Nat}, Z[i]? = some z → z < 1000 := fun {i z} hz => hZ.2.1 i z hz
  have hpl := gt_lt hx0
  refine lv_aload_n hx hb d_m_several_0 rfl (lv_at hl 0 rfl) ?_
  refine lv_iload_n hx hb d_m_several_1 rfl (lv_at hl 1 rfl) ?_
  refine lv_iconst (v := (nI 0)) hx hb d_m_several_2 (by decide) ?_
  refine lv_iconst (v := (nI 0)) hx hb d_m_several_3 (by decide) ?_
  refine om_cz (n := 3) (As := [.int (nI x), .int (nI 0), .int (nI 0)]) (rest := []) X hml (c_m_lacks l B hB hZ hM hx0 hZ.2.2.2 hZ.2.2.2) (gw_W X.2.2.2.1 ml_m_27 im_m_lacks se_m_lacks k_m_lacks in_m (by decide +kernel) rfl rfl (by rw [hR]; exact ⟨Nat.le_of_ble_eq_true rfl, Nat.le_of_ble_eq_true rfl⟩)) hP hS hl.1 rfl rfl (Nat.le_of_ble_eq_true rfl) d_m_several_4 (fun r u' H locs hq hP hS => ?_)
  obtain ⟨hr0, hu0⟩ := hq
  rw [hr0]
  rw [hu0] at hP
  refine z_eq (tgt := 12) hx hb d_m_several_7 (by decide) (fun qz => ?_) (fun qz => ?_)
  · obtain ⟨-, hk2, hk64, hkl⟩ := hsk
    have hmm := hfr.1
    refine lv_iload_n hx hb d_m_several_12 rfl (lv_at hl 2 rfl) ?_
    refine lv_iconst (v := (nI 2)) hx hb d_m_several_13 (by decide) ?_
    refine nb_lt (tgt := 35) hx hb (by omega) (by omega) d_m_several_14 (by decide) (fun q => ?_) (fun q => ?_)
    · exact absurd q (by omega)
    · refine lv_iload_n hx hb d_m_several_17 rfl (lv_at hl 2 rfl) ?_
      refine lv_bipush (v := (nI 64)) hx hb d_m_several_18 (by decide) ?_
      refine nb_gt (tgt := 35) hx hb (by omega) (by omega) d_m_several_20 (by decide) (fun q2 => ?_) (fun q2 => ?_)
      · exact absurd q2 (by omega)
      · refine lv_aload_n hx hb d_m_several_23 rfl (lv_at hl 0 rfl) ?_
        refine g_manym X hP d_m_several_24 ?_
        refine lv_iload_n hx hb d_m_several_27 rfl (lv_at hl 2 rfl) ?_
        refine lv_iadd hx hb d_m_several_28 ?_
        refine tp_i (nI (mn + k)) (nI_add _ _) ?_
        refine lv_sipush (v := (nI 1000)) hx hb d_m_several_29 (by decide) ?_
        refine nb_le (tgt := 37) hx hb (by omega) (by omega) d_m_several_32 (by decide) (fun q3 => ?_) (fun q3 => ?_)
        · refine lv_aload_n hx hb d_m_several_37 rfl (lv_at hl 0 rfl) ?_
          refine om_ci (n := 0) (As := []) (rest := []) X hml (c_m_free l B hB hZ hM hfr) (gw_W X.2.2.2.1 ml_m_31 im_m_free se_m_free k_m_free in_m (by decide +kernel) rfl rfl (by rw [hR]; exact ⟨Nat.le_of_ble_eq_true rfl, Nat.le_of_ble_eq_true rfl⟩)) hP hS hl.1 rfl rfl (Nat.le_of_ble_eq_true rfl) d_m_several_38 (fun r u' H locs hq hP hS => ?_)
          obtain ⟨hr1, hu1⟩ := hq
          rw [hr1]
          rw [hu1] at hP
          refine lv_istore_n (lv' := [(3, .int (nI mm)), (0, .ref (om_h B)), (1, .int (nI x)), (2, .int (nI k))]) hx hb d_m_several_41 rfl hl (by decide) rfl (fun ls hl => ?_)
          refine lv_aload_n hx hb d_m_several_42 rfl (lv_at hl 1 rfl) ?_
          refine lv_iload_n hx hb d_m_several_43 rfl (lv_at hl 2 rfl) ?_
          refine om_ci (n := 1) (As := [.int (nI x)]) (rest := []) X hml (c_m_find l B hB hZ hM hx0) (gw_W X.2.2.2.1 ml_m_23 im_m_find se_m_find k_m_find in_m (by decide +kernel) rfl rfl (by rw [hR]; exact ⟨Nat.le_of_ble_eq_true rfl, Nat.le_of_ble_eq_true rfl⟩)) hP hS hl.1 rfl rfl (Nat.le_of_ble_eq_true rfl) d_m_several_44 (fun r u' H locs hq hP hS => ?_)
          obtain ⟨hr0, hu0⟩ := hq
          rw [hr0]
          rw [hu0] at hP
          refine lv_iconst (v := (nI 1)) hx hb d_m_several_47 (by decide) ?_
          refine lv_iadd hx hb d_m_several_48 ?_
          refine tp_i (nI (pp + 1)) (nI_add _ _) ?_
          refine lv_istore (lv' := [(4, .int (nI (pp + 1))), (3, .int (nI mm)), (0, .ref (om_h B)), (1, .int (nI x)), (2, .int (nI k))]) hx hb d_m_several_49 hl (by decide) rfl (fun ls hl => ?_)
          refine lv_iconst (v := (nI 0)) hx hb d_m_several_51 (by decide) ?_
          refine lv_istore (lv' := [(5, .int (nI 0)), (4, .int (nI (pp + 1))), (3, .int (nI mm)), (0, .ref (om_h B)), (1, .int (nI x)), (2, .int (nI k))]) hx hb d_m_several_52 hl (by decide) rfl (fun ls hl => ?_)
          have loop : ∀ (d j : Nat) (Y : List Nat) (f' : Nat → Nat), j + d = k → sev j Z (pp + 1) Y → Zk Y → Y.length = mn + j → Mi f' (mn + j) Y → ∀ (H : Heap) (locs : List Loc), om_P B (0, f', mn + j, g) H → va_S (om_A B) s.heap H locs → ∀ (ls : Array Slot), lv_has ls 6 [(5, .int (nI j)), (0, .ref (om_h B)), (2, .int (nI k)), (3, .int (nI mm)), (4, .int (nI (pp + 1)))] → W p l e R s m args below meth c H locs 0 0 Q (F0 m 54 ls []) := by
            intro d
            induction d with
            | zero =>
              intro j Y f' hd hsj hZ hYl hM H locs hP hS ls hl
              refine lv_iload hx hb d_m_several_54 (lv_at hl 0 rfl) ?_
              refine lv_iload_n hx hb d_m_several_56 rfl (lv_at hl 2 rfl) ?_
              refine nb_ge (tgt := 79) hx hb (by omega) (by omega) d_m_several_57 (by decide) (fun q4 => ?_) (fun q4 => ?_)
              · refine lv_iload_n hx hb d_m_several_79 rfl (lv_at hl 3 rfl) ?_
                exact hend _ _ _ _ _ _ hP hS d_m_several_80 ⟨rfl, f', by rw [show mn + j = mn + k by omega], by
                  have e : Y = Z2 := sev_uniq k (by rw [← show j = k by omega]; exact hsj) hsv
                  rw [← e, show mn + k = mn + j by omega]; exact hM⟩
              · exact absurd q4 (by omega)
            | succ d ih =>
              intro j Y f' hd hsj hZ hYl hM H locs hP hS ls hl
              obtain ⟨m2, hf2⟩ : ∃ m2, fr Y m2 := by
                obtain ⟨Y1, hY1⟩ := sev_down (k - (j + 1)) (j + 1) (by rw [show j + 1 + (k - (j + 1)) = k by omega]; exact hsv)
                obtain ⟨Y2, m2, a1, a2, -⟩ := hY1
                exact ⟨m2, by rw [sev_uniq j hsj a1]; exact a2⟩
              have hm2 := hf2.1
              refine lv_iload hx hb d_m_several_54 (lv_at hl 0 rfl) ?_
              refine lv_iload_n hx hb d_m_several_56 rfl (lv_at hl 2 rfl) ?_
              refine nb_ge (tgt := 79) hx hb (by omega) (by omega) d_m_several_57 (by decide) (fun q4 => ?_) (fun q4 => ?_)
              · exact absurd q4 (by omega)
              · refine lv_aload_n hx hb d_m_several_60 rfl (lv_at hl 1 rfl) ?_
                refine lv_aload_n hx hb d_m_several_61 rfl (lv_at hl 1 rfl) ?_
                refine om_ci (n := 0) (As := []) (rest := [.ref (om_h B)]) X hml (c_m_free l B hB hZ hM hf2) (gw_W X.2.2.2.1 ml_m_31 im_m_free se_m_free k_m_free in_m (by decide +kernel) rfl rfl (by rw [hR]; exact ⟨Nat.le_of_ble_eq_true rfl, Nat.le_of_ble_eq_true rfl⟩)) hP hS hl.1 rfl rfl (Nat.le_of_ble_eq_true rfl) d_m_several_62 (fun r u' H locs hq hP hS => ?_)
                obtain ⟨hr1, hu1⟩ := hq
                rw [hr1]
                rw [hu1] at hP
                refine lv_iload hx hb d_m_several_65 (lv_at hl 4 rfl) ?_
                refine lv_iload hx hb d_m_several_67 (lv_at hl 0 rfl) ?_
                refine lv_iadd hx hb d_m_several_69 ?_
                refine tp_i (nI ((pp + 1) + j)) (nI_add _ _) ?_
                refine om_cv (n := 2) (As := [.int (nI m2), .int (nI ((pp + 1) + j))]) (rest := []) X hml (c_m_put l B hB hZ hM (by omega) (by omega)) (gw_W X.2.2.2.1 ml_m_35 im_m_put se_m_put k_m_put in_m (by decide +kernel) rfl rfl (by rw [hR]; exact ⟨Nat.le_of_ble_eq_true rfl, Nat.le_of_ble_eq_true rfl⟩)) hP hS hl.1 rfl rfl (Nat.le_of_ble_eq_true rfl) d_m_several_70 (fun u' H locs hq hP hS => ?_)
                obtain ⟨f2, hu2, hM2⟩ := hq
                rw [hu2] at hP
                refine lv_iinc (v := nI (j + 1)) (lv' := [(5, .int (nI (j + 1))), (0, .ref (om_h B)), (2, .int (nI k)), (3, .int (nI mm)), (4, .int (nI (pp + 1)))]) hx hb d_m_several_73 hl (k := 0) rfl (nI_1 _) (by decide) rfl (fun ls hl => ?_)
                refine lv_goto (tgt := 54) hx hb d_m_several_76 (by decide) ?_
                exact ih (j + 1) (Y.insertIdx (pp + 1 + j) m2) f2 (by omega) ⟨Y, m2, hsj, hf2, rfl⟩ (hZ.ins (by omega) (by omega) (by omega) hm2 hf2.2.1) (by rw [List.length_insertIdx_of_le_length (by omega)]; omega) hM2 _ _ hP hS ls (lv_sub hl [0, 1, 2, 3, 4] rfl)
          exact loop k 0 Z f (by omega) rfl hZ (by omega) hM _ _ hP hS ls (lv_sub hl [0, 3, 5, 2, 1] rfl)
        · exact absurd q3 (by omega)
  · cases qz
set_option maxHeartbeats 4000000 in
set_option maxRecDepth 100000 in
/-- remove(x) -/
theorem c_m_remove (l : Launch) (B : MG) (hB : om_ok B) {th mn : Nat} {f g : Nat → Nat} {Z : List Nat} {pp x : Nat} (hZ : Zk Z) (hM : Mi f mn Z) (hx0 : Z[pp + 1]? = some x) : om_M l y_m_remove b_m_remove 3 (some .boolean) ({ frames := 1, cells := 0, slots := 0, locals := 22 }) B [.int (nI x)] (th, f, mn, g) (om_Qz B (fun r u => r = true ∧ ∃ f', u = (0, f', mn - 1, g) ∧ Mi f' (mn - 1) (Z.eraseIdx (pp + 1)))) := by
  refine om_mz (by decide) rfl hB (Nat.le_of_ble_eq_true rfl) (fun p e R s m args below meth c Q ls hR X hml hP hS hl hend => ?_)
  have hx := X.1
  have hb := X.2.1
  have hl : lv_has ls 3 [(0, .ref (om_h B)), (1, .int (nI x))] := hl
  have hmn := hM.1
  have hZl := hZ.2.2.1
  have hb3 : ∀ {i z : Nat}, Z[i]? = some z → z < 1000 := fun {i z} hz => hZ.2.1 i z hz
  refine lv_aload_n hx hb d_m_remove_0 rfl (lv_at hl 0 rfl) ?_
  refine lv_iconst (v := (nI 0)) hx hb d_m_remove_1 (by decide) ?_
  refine p_thrown X hP hS d_m_remove_2 (fun H locs hP hS => ?_)
  refine lv_aload_n hx hb d_m_remove_5 rfl (lv_at hl 0 rfl) ?_
  refine lv_iload_n hx hb d_m_remove_6 rfl (lv_at hl 1 rfl) ?_
  have hpl := gt_lt hx0
  refine om_ci (n := 1) (As := [.int (nI x)]) (rest := []) X hml (c_m_find l B hB hZ hM hx0) (gw_W X.2.2.2.1 ml_m_23 im_m_find se_m_find k_m_find in_m (by decide +kernel) rfl rfl (by rw [hR]; exact ⟨Nat.le_of_ble_eq_true rfl, Nat.le_of_ble_eq_true rfl⟩)) hP hS hl.1 rfl rfl (Nat.le_of_ble_eq_true rfl) d_m_remove_7 (fun r u' H locs hq hP hS => ?_)
  obtain ⟨hr0, hu0⟩ := hq
  rw [hr0]
  rw [hu0] at hP
  refine lv_istore_n (lv' := [(2, .int (nI (pp + 1))), (0, .ref (om_h B)), (1, .int (nI x))]) hx hb d_m_remove_10 rfl hl (by decide) rfl (fun ls hl => ?_)
  refine lv_iload_n hx hb d_m_remove_11 rfl (lv_at hl 0 rfl) ?_
  refine lv_iconst (v := (nI 1)) hx hb d_m_remove_12 (by decide) ?_
  refine nb_ge (tgt := 18) hx hb (by omega) (by omega) d_m_remove_13 (by decide) (fun q => ?_) (fun q => ?_)
  · refine lv_aload_n hx hb d_m_remove_18 rfl (lv_at hl 1 rfl) ?_
    refine lv_iload_n hx hb d_m_remove_19 rfl (lv_at hl 0 rfl) ?_
    refine om_cv (n := 1) (As := [.int (nI (pp + 1))]) (rest := []) X hml (c_m_drop l B hB hZ hM (by omega)) (gw_W X.2.2.2.1 ml_m_39 im_m_drop se_m_drop k_m_drop in_m (by decide +kernel) rfl rfl (by rw [hR]; exact ⟨Nat.le_of_ble_eq_true rfl, Nat.le_of_ble_eq_true rfl⟩)) hP hS hl.1 rfl rfl (Nat.le_of_ble_eq_true rfl) d_m_remove_20 (fun u' H locs hq hP hS => ?_)
    obtain ⟨f', hu2, hM2⟩ := hq
    rw [hu2] at hP
    refine lv_iconst (v := (nI 1)) hx hb d_m_remove_23 (by decide) ?_
    exact hend true _ _ _ _ _ _ (by decide) hP hS d_m_remove_24 ⟨rfl, f', rfl, hM2⟩
  · exact absurd q (by omega)
set_option maxHeartbeats 4000000 in
set_option maxRecDepth 100000 in
/-- remove(x) -/
theorem c_m_remove0 (l : Launch) (B : MG) (hB : om_ok B) {th mn : Nat} {f g : Nat → Nat} {Z : List Nat}  (hZ : Zk Z) (hM : Mi f mn Z)  : om_M l y_m_remove b_m_remove 3 (some .boolean) ({ frames := 1, cells := 0, slots := 0, locals := 22 }) B [.int (nI 0)] (th, f, mn, g) (om_Qz B (fun r u => r = false ∧ u = (0, f, mn, g))) := by
  refine om_mz (by decide) rfl hB (Nat.le_of_ble_eq_true rfl) (fun p e R s m args below meth c Q ls hR X hml hP hS hl hend => ?_)
  have hx := X.1
  have hb := X.2.1
  have hl : lv_has ls 3 [(0, .ref (om_h B)), (1, .int (nI 0))] := hl
  have hmn := hM.1
  have hZl := hZ.2.2.1
  have hb3 : ∀ {i z : Nat}, Z[i]? = some z → z < 1000 := fun {i z} hz => hZ.2.1 i z hz
  refine lv_aload_n hx hb d_m_remove_0 rfl (lv_at hl 0 rfl) ?_
  refine lv_iconst (v := (nI 0)) hx hb d_m_remove_1 (by decide) ?_
  refine p_thrown X hP hS d_m_remove_2 (fun H locs hP hS => ?_)
  refine lv_aload_n hx hb d_m_remove_5 rfl (lv_at hl 0 rfl) ?_
  refine lv_iload_n hx hb d_m_remove_6 rfl (lv_at hl 1 rfl) ?_
  refine om_ci (n := 1) (As := [.int (nI 0)]) (rest := []) X hml (c_m_find l B hB hZ hM hZ.2.2.2) (gw_W X.2.2.2.1 ml_m_23 im_m_find se_m_find k_m_find in_m (by decide +kernel) rfl rfl (by rw [hR]; exact ⟨Nat.le_of_ble_eq_true rfl, Nat.le_of_ble_eq_true rfl⟩)) hP hS hl.1 rfl rfl (Nat.le_of_ble_eq_true rfl) d_m_remove_7 (fun r u' H locs hq hP hS => ?_)
  obtain ⟨hr0, hu0⟩ := hq
  rw [hr0]
  rw [hu0] at hP
  refine lv_istore_n (lv' := [(2, .int (nI 0)), (0, .ref (om_h B)), (1, .int (nI 0))]) hx hb d_m_remove_10 rfl hl (by decide) rfl (fun ls hl => ?_)
  refine lv_iload_n hx hb d_m_remove_11 rfl (lv_at hl 0 rfl) ?_
  refine lv_iconst (v := (nI 1)) hx hb d_m_remove_12 (by decide) ?_
  refine nb_ge (tgt := 18) hx hb (by omega) (by omega) d_m_remove_13 (by decide) (fun q => ?_) (fun q => ?_)
  · exact absurd q (by omega)
  · refine lv_iconst (v := (nI 0)) hx hb d_m_remove_16 (by decide) ?_
    exact hend false _ _ _ _ _ _ (by decide) hP hS d_m_remove_17 ⟨rfl, rfl⟩
set_option maxHeartbeats 4000000 in
set_option maxRecDepth 100000 in
/-- remove(x) -/
theorem c_m_removeN (l : Launch) (B : MG) (hB : om_ok B) {th mn : Nat} {f g : Nat → Nat} {Z : List Nat} {x : Int32} (hZ : Zk Z) (hM : Mi f mn Z) (hbd : bd Z x) : om_M l y_m_remove b_m_remove 3 (some .boolean) ({ frames := 1, cells := 0, slots := 0, locals := 22 }) B [.int x] (th, f, mn, g) (om_Qz B (fun r u => r = false ∧ u = (0, f, mn, g))) := by
  refine om_mz (by decide) rfl hB (Nat.le_of_ble_eq_true rfl) (fun p e R s m args below meth c Q ls hR X hml hP hS hl hend => ?_)
  have hx := X.1
  have hb := X.2.1
  have hl : lv_has ls 3 [(0, .ref (om_h B)), (1, .int x)] := hl
  have hmn := hM.1
  have hZl := hZ.2.2.1
  have hb3 : ∀ {i z : Nat}, Z[i]? = some z → z < 1000 := fun {i z} hz => hZ.2.1 i z hz
  refine lv_aload_n hx hb d_m_remove_0 rfl (lv_at hl 0 rfl) ?_
  refine lv_iconst (v := (nI 0)) hx hb d_m_remove_1 (by decide) ?_
  refine p_thrown X hP hS d_m_remove_2 (fun H locs hP hS => ?_)
  refine lv_aload_n hx hb d_m_remove_5 rfl (lv_at hl 0 rfl) ?_
  refine lv_iload_n hx hb d_m_remove_6 rfl (lv_at hl 1 rfl) ?_
  refine om_ci (n := 1) (As := [.int x]) (rest := []) X hml (c_m_findN l B hB hZ hM hbd) (gw_W X.2.2.2.1 ml_m_23 im_m_find se_m_find k_m_find in_m (by decide +kernel) rfl rfl (by rw [hR]; exact ⟨Nat.le_of_ble_eq_true rfl, Nat.le_of_ble_eq_true rfl⟩)) hP hS hl.1 rfl rfl (Nat.le_of_ble_eq_true rfl) d_m_remove_7 (fun r u' H locs hq hP hS => ?_)
  obtain ⟨hr0, hu0⟩ := hq
  rw [hr0]
  rw [hu0] at hP
  refine lv_istore_n (lv' := [(2, .int (-1)), (0, .ref (om_h B)), (1, .int x)]) hx hb d_m_remove_10 rfl hl (by decide) rfl (fun ls hl => ?_)
  refine lv_iload_n hx hb d_m_remove_11 rfl (lv_at hl 0 rfl) ?_
  refine lv_iconst (v := (nI 1)) hx hb d_m_remove_12 (by decide) ?_
  refine lv_icmp_ge (tgt := 18) hx hb d_m_remove_13 (by decide) (fun q => ?_) (fun q => ?_)
  · exact absurd q (by decide)
  · refine lv_iconst (v := (nI 0)) hx hb d_m_remove_16 (by decide) ?_
    exact hend false _ _ _ _ _ _ (by decide) hP hS d_m_remove_17 ⟨rfl, rfl⟩
set_option maxHeartbeats 4000000 in
set_option maxRecDepth 100000 in
/-- has(x) -/
theorem c_m_has (l : Launch) (B : MG) (hB : om_ok B) {th mn : Nat} {f g : Nat → Nat} {Z : List Nat} {pp x : Nat} (hZ : Zk Z) (hM : Mi f mn Z) (hx0 : Z[pp]? = some x) : om_M l y_m_has b_m_has 2 (some .boolean) ({ frames := 1, cells := 0, slots := 0, locals := 22 }) B [.int (nI x)] (th, f, mn, g) (om_Qz B (fun r u => r = true ∧ u = (0, f, mn, g))) := by
  refine om_mz (by decide) rfl hB (Nat.le_of_ble_eq_true rfl) (fun p e R s m args below meth c Q ls hR X hml hP hS hl hend => ?_)
  have hx := X.1
  have hb := X.2.1
  have hl : lv_has ls 2 [(0, .ref (om_h B)), (1, .int (nI x))] := hl
  have hmn := hM.1
  have hZl := hZ.2.2.1
  have hb3 : ∀ {i z : Nat}, Z[i]? = some z → z < 1000 := fun {i z} hz => hZ.2.1 i z hz
  have hpl := gt_lt hx0
  refine lv_aload_n hx hb d_m_has_0 rfl (lv_at hl 0 rfl) ?_
  refine lv_iconst (v := (nI 0)) hx hb d_m_has_1 (by decide) ?_
  refine p_thrown X hP hS d_m_has_2 (fun H locs hP hS => ?_)
  refine lv_aload_n hx hb d_m_has_5 rfl (lv_at hl 0 rfl) ?_
  refine lv_iload_n hx hb d_m_has_6 rfl (lv_at hl 1 rfl) ?_
  refine om_ci (n := 1) (As := [.int (nI x)]) (rest := []) X hml (c_m_find l B hB hZ hM hx0) (gw_W X.2.2.2.1 ml_m_23 im_m_find se_m_find k_m_find in_m (by decide +kernel) rfl rfl (by rw [hR]; exact ⟨Nat.le_of_ble_eq_true rfl, Nat.le_of_ble_eq_true rfl⟩)) hP hS hl.1 rfl rfl (Nat.le_of_ble_eq_true rfl) d_m_has_7 (fun r u' H locs hq hP hS => ?_)
  obtain ⟨hr0, hu0⟩ := hq
  rw [hr0]
  rw [hu0] at hP
  refine nz_lt (tgt := 17) hx hb (by omega) d_m_has_10 (by decide) ?_
  refine lv_iconst (v := (nI 1)) hx hb d_m_has_13 (by decide) ?_
  refine lv_goto (tgt := 18) hx hb d_m_has_14 (by decide) ?_
  exact hend true _ _ _ _ _ _ (by decide) hP hS d_m_has_18 ⟨rfl, rfl⟩
set_option maxHeartbeats 4000000 in
set_option maxRecDepth 100000 in
/-- has(x), no -/
theorem c_m_hasN (l : Launch) (B : MG) (hB : om_ok B) {th mn : Nat} {f g : Nat → Nat} {Z : List Nat} {x : Int32} (hZ : Zk Z) (hM : Mi f mn Z) (hbd : bd Z x) : om_M l y_m_has b_m_has 2 (some .boolean) ({ frames := 1, cells := 0, slots := 0, locals := 22 }) B [.int x] (th, f, mn, g) (om_Qz B (fun r u => r = false ∧ u = (0, f, mn, g))) := by
  refine om_mz (by decide) rfl hB (Nat.le_of_ble_eq_true rfl) (fun p e R s m args below meth c Q ls hR X hml hP hS hl hend => ?_)
  have hx := X.1
  have hb := X.2.1
  have hl : lv_has ls 2 [(0, .ref (om_h B)), (1, .int x)] := hl
  have hmn := hM.1
  have hZl := hZ.2.2.1
  have hb3 : ∀ {i z : Nat}, Z[i]? = some z → z < 1000 := fun {i z} hz => hZ.2.1 i z hz
  refine lv_aload_n hx hb d_m_has_0 rfl (lv_at hl 0 rfl) ?_
  refine lv_iconst (v := (nI 0)) hx hb d_m_has_1 (by decide) ?_
  refine p_thrown X hP hS d_m_has_2 (fun H locs hP hS => ?_)
  refine lv_aload_n hx hb d_m_has_5 rfl (lv_at hl 0 rfl) ?_
  refine lv_iload_n hx hb d_m_has_6 rfl (lv_at hl 1 rfl) ?_
  refine om_ci (n := 1) (As := [.int x]) (rest := []) X hml (c_m_findN l B hB hZ hM hbd) (gw_W X.2.2.2.1 ml_m_23 im_m_find se_m_find k_m_find in_m (by decide +kernel) rfl rfl (by rw [hR]; exact ⟨Nat.le_of_ble_eq_true rfl, Nat.le_of_ble_eq_true rfl⟩)) hP hS hl.1 rfl rfl (Nat.le_of_ble_eq_true rfl) d_m_has_7 (fun r u' H locs hq hP hS => ?_)
  obtain ⟨hr0, hu0⟩ := hq
  rw [hr0]
  rw [hu0] at hP
  refine lv_if_lt (tgt := 17) hx hb d_m_has_10 (by decide) (fun qn => ?_) (fun qn => ?_)
  · refine lv_iconst (v := (nI 0)) hx hb d_m_has_17 (by decide) ?_
    exact hend false _ _ _ _ _ _ (by decide) hP hS d_m_has_18 ⟨rfl, rfl⟩
  · exact absurd (by decide) qn
set_option maxHeartbeats 4000000 in
set_option maxRecDepth 100000 in
/-- place(x) -/
theorem c_m_place (l : Launch) (B : MG) (hB : om_ok B) {th mn : Nat} {f g : Nat → Nat} {Z : List Nat} {pp x : Nat} (hZ : Zk Z) (hM : Mi f mn Z) (hx0 : Z[pp]? = some x) : om_M l y_m_place b_m_place 2 (some .int) ({ frames := 2, cells := 0, slots := 0, locals := 45 }) B [.int (nI x)] (th, f, mn, g) (om_Qi B (fun r u => r = nI pp ∧ u = (0, f, mn, g))) := by
  refine om_mi (by decide) rfl hB (Nat.le_of_ble_eq_true rfl) (fun p e R s m args below meth c Q ls hR X hml hP hS hl hend => ?_)
  have hx := X.1
  have hb := X.2.1
  have hl : lv_has ls 2 [(0, .ref (om_h B)), (1, .int (nI x))] := hl
  have hmn := hM.1
  have hZl := hZ.2.2.1
  have hb3 : ∀ {i z : Nat}, Z[i]? = some z → z < 1000 := fun {i z} hz => hZ.2.1 i z hz
  have hpl := gt_lt hx0
  refine lv_aload_n hx hb d_m_place_0 rfl (lv_at hl 0 rfl) ?_
  refine lv_iload_n hx hb d_m_place_1 rfl (lv_at hl 1 rfl) ?_
  refine lv_iconst (v := (nI 0)) hx hb d_m_place_2 (by decide) ?_
  refine lv_iconst (v := (nI 0)) hx hb d_m_place_3 (by decide) ?_
  refine om_cz (n := 3) (As := [.int (nI x), .int (nI 0), .int (nI 0)]) (rest := []) X hml (c_m_lacks l B hB hZ hM hx0 hZ.2.2.2 hZ.2.2.2) (gw_W X.2.2.2.1 ml_m_27 im_m_lacks se_m_lacks k_m_lacks in_m (by decide +kernel) rfl rfl (by rw [hR]; exact ⟨Nat.le_of_ble_eq_true rfl, Nat.le_of_ble_eq_true rfl⟩)) hP hS hl.1 rfl rfl (Nat.le_of_ble_eq_true rfl) d_m_place_4 (fun r u' H locs hq hP hS => ?_)
  obtain ⟨hr0, hu0⟩ := hq
  rw [hr0]
  rw [hu0] at hP
  refine z_eq (tgt := 14) hx hb d_m_place_7 (by decide) (fun qz => ?_) (fun qz => ?_)
  · refine lv_aload_n hx hb d_m_place_14 rfl (lv_at hl 0 rfl) ?_
    refine lv_iload_n hx hb d_m_place_15 rfl (lv_at hl 1 rfl) ?_
    refine om_ci (n := 1) (As := [.int (nI x)]) (rest := []) X hml (c_m_find l B hB hZ hM hx0) (gw_W X.2.2.2.1 ml_m_23 im_m_find se_m_find k_m_find in_m (by decide +kernel) rfl rfl (by rw [hR]; exact ⟨Nat.le_of_ble_eq_true rfl, Nat.le_of_ble_eq_true rfl⟩)) hP hS hl.1 rfl rfl (Nat.le_of_ble_eq_true rfl) d_m_place_16 (fun r u' H locs hq hP hS => ?_)
    obtain ⟨hr0, hu0⟩ := hq
    rw [hr0]
    rw [hu0] at hP
    exact hend _ _ _ _ _ _ hP hS d_m_place_19 ⟨rfl, rfl⟩
  · cases qz
set_option maxHeartbeats 4000000 in
set_option maxRecDepth 100000 in
/-- compare(a, b) -/
theorem c_m_compare (l : Launch) (B : MG) (hB : om_ok B) {th mn : Nat} {f g : Nat → Nat} {Z : List Nat} {pa pb xa xb : Nat} (hZ : Zk Z) (hM : Mi f mn Z) (ha : Z[pa]? = some xa) (hb0 : Z[pb]? = some xb) : om_M l y_m_compare b_m_compare 5 (some .int) ({ frames := 2, cells := 0, slots := 0, locals := 45 }) B [.int (nI xa), .int (nI xb)] (th, f, mn, g) (om_Qi B (fun r u => r = (if pa < pb then -1 else if pb < pa then nI 1 else nI 0) ∧ u = (0, f, mn, g))) := by
  refine om_mi (by decide) rfl hB (Nat.le_of_ble_eq_true rfl) (fun p e R s m args below meth c Q ls hR X hml hP hS hl hend => ?_)
  have hx := X.1
  have hb := X.2.1
  have hl : lv_has ls 5 [(0, .ref (om_h B)), (1, .int (nI xa)), (2, .int (nI xb))] := hl
  have hmn := hM.1
  have hZl := hZ.2.2.1
  have hb3 : ∀ {i z : Nat}, Z[i]? = some z → z < 1000 := fun {i z} hz => hZ.2.1 i z hz
  have hpa := gt_lt ha
  have hpb := gt_lt hb0
  refine lv_aload_n hx hb d_m_compare_0 rfl (lv_at hl 0 rfl) ?_
  refine lv_iload_n hx hb d_m_compare_1 rfl (lv_at hl 1 rfl) ?_
  refine lv_iload_n hx hb d_m_compare_2 rfl (lv_at hl 2 rfl) ?_
  refine lv_iconst (v := (nI 0)) hx hb d_m_compare_3 (by decide) ?_
  refine om_cz (n := 3) (As := [.int (nI xa), .int (nI xb), .int (nI 0)]) (rest := []) X hml (c_m_lacks l B hB hZ hM ha hb0 hZ.2.2.2) (gw_W X.2.2.2.1 ml_m_27 im_m_lacks se_m_lacks k_m_lacks in_m (by decide +kernel) rfl rfl (by rw [hR]; exact ⟨Nat.le_of_ble_eq_true rfl, Nat.le_of_ble_eq_true rfl⟩)) hP hS hl.1 rfl rfl (Nat.le_of_ble_eq_true rfl) d_m_compare_4 (fun r u' H locs hq hP hS => ?_)
  obtain ⟨hr0, hu0⟩ := hq
  rw [hr0]
  rw [hu0] at hP
  refine z_eq (tgt := 12) hx hb d_m_compare_7 (by decide) (fun qz => ?_) (fun qz => ?_)
  · refine lv_aload_n hx hb d_m_compare_12 rfl (lv_at hl 0 rfl) ?_
    refine lv_iload_n hx hb d_m_compare_13 rfl (lv_at hl 1 rfl) ?_
    refine om_ci (n := 1) (As := [.int (nI xa)]) (rest := []) X hml (c_m_find l B hB hZ hM ha) (gw_W X.2.2.2.1 ml_m_23 im_m_find se_m_find k_m_find in_m (by decide +kernel) rfl rfl (by rw [hR]; exact ⟨Nat.le_of_ble_eq_true rfl, Nat.le_of_ble_eq_true rfl⟩)) hP hS hl.1 rfl rfl (Nat.le_of_ble_eq_true rfl) d_m_compare_14 (fun r u' H locs hq hP hS => ?_)
    obtain ⟨hr0, hu0⟩ := hq
    rw [hr0]
    rw [hu0] at hP
    refine lv_istore_n (lv' := [(3, .int (nI pa)), (0, .ref (om_h B)), (1, .int (nI xa)), (2, .int (nI xb))]) hx hb d_m_compare_17 rfl hl (by decide) rfl (fun ls hl => ?_)
    refine lv_aload_n hx hb d_m_compare_18 rfl (lv_at hl 1 rfl) ?_
    refine lv_iload_n hx hb d_m_compare_19 rfl (lv_at hl 3 rfl) ?_
    refine om_ci (n := 1) (As := [.int (nI xb)]) (rest := []) X hml (c_m_find l B hB hZ hM hb0) (gw_W X.2.2.2.1 ml_m_23 im_m_find se_m_find k_m_find in_m (by decide +kernel) rfl rfl (by rw [hR]; exact ⟨Nat.le_of_ble_eq_true rfl, Nat.le_of_ble_eq_true rfl⟩)) hP hS hl.1 rfl rfl (Nat.le_of_ble_eq_true rfl) d_m_compare_20 (fun r u' H locs hq hP hS => ?_)
    obtain ⟨hr0, hu0⟩ := hq
    rw [hr0]
    rw [hu0] at hP
    refine lv_istore (lv' := [(4, .int (nI pb)), (3, .int (nI pa)), (0, .ref (om_h B)), (1, .int (nI xa)), (2, .int (nI xb))]) hx hb d_m_compare_23 hl (by decide) rfl (fun ls hl => ?_)
    refine lv_iload_n hx hb d_m_compare_25 rfl (lv_at hl 1 rfl) ?_
    refine lv_iload hx hb d_m_compare_26 (lv_at hl 0 rfl) ?_
    refine nb_ge (tgt := 35) hx hb (by omega) (by omega) d_m_compare_28 (by decide) (fun q => ?_) (fun q => ?_)
    · refine lv_iload_n hx hb d_m_compare_35 rfl (lv_at hl 1 rfl) ?_
      refine lv_iload hx hb d_m_compare_36 (lv_at hl 0 rfl) ?_
      refine nb_le (tgt := 45) hx hb (by omega) (by omega) d_m_compare_38 (by decide) (fun q2 => ?_) (fun q2 => ?_)
      · refine lv_iconst (v := (nI 0)) hx hb d_m_compare_45 (by decide) ?_
        exact hend _ _ _ _ _ _ hP hS d_m_compare_46 ⟨by rw [if_neg (by omega), if_neg (by omega)], rfl⟩
      · refine lv_iconst (v := (nI 1)) hx hb d_m_compare_41 (by decide) ?_
        refine lv_goto (tgt := 46) hx hb d_m_compare_42 (by decide) ?_
        exact hend _ _ _ _ _ _ hP hS d_m_compare_46 ⟨by rw [if_neg (by omega), if_pos q2], rfl⟩
    · refine lv_iconst (v := (-1)) hx hb d_m_compare_31 (by decide) ?_
      refine lv_goto (tgt := 46) hx hb d_m_compare_32 (by decide) ?_
      exact hend _ _ _ _ _ _ hP hS d_m_compare_46 ⟨by rw [if_pos q], rfl⟩
  · cases qz
set_option maxHeartbeats 4000000 in
set_option maxRecDepth 100000 in
/-- next(x, v) -/
theorem c_m_next (l : Launch) (B : MG) (hB : om_ok B) {th mn : Nat} {f g : Nat → Nat} {Z : List Nat} {pp x : Nat} {v : Int32} (hZ : Zk Z) (hM : Mi f mn Z) (hx0 : Z[pp]? = some x) : om_M l y_m_next b_m_next 4 (some .int) ({ frames := 2, cells := 0, slots := 0, locals := 45 }) B [.int (nI x), .int v] (th, f, mn, g) (om_Qi B (fun r u => (r = if v = 0 then (if pp = 0 then -1 else nI (Z.getD (pp - 1) 0)) else (if pp + 1 < Z.length then nI (Z.getD (pp + 1) 0) else -1)) ∧ u = (0, f, mn, g))) := by
  refine om_mi (by decide) rfl hB (Nat.le_of_ble_eq_true rfl) (fun p e R s m args below meth c Q ls hR X hml hP hS hl hend => ?_)
  have hx := X.1
  have hb := X.2.1
  have hl : lv_has ls 4 [(0, .ref (om_h B)), (1, .int (nI x)), (2, .int v)] := hl
  have hmn := hM.1
  have hZl := hZ.2.2.1
  have hb3 : ∀ {i z : Nat}, Z[i]? = some z → z < 1000 := fun {i z} hz => hZ.2.1 i z hz
  have hpl := gt_lt hx0
  refine lv_aload_n hx hb d_m_next_0 rfl (lv_at hl 0 rfl) ?_
  refine lv_iload_n hx hb d_m_next_1 rfl (lv_at hl 1 rfl) ?_
  refine lv_iconst (v := (nI 0)) hx hb d_m_next_2 (by decide) ?_
  refine lv_iconst (v := (nI 0)) hx hb d_m_next_3 (by decide) ?_
  refine om_cz (n := 3) (As := [.int (nI x), .int (nI 0), .int (nI 0)]) (rest := []) X hml (c_m_lacks l B hB hZ hM hx0 hZ.2.2.2 hZ.2.2.2) (gw_W X.2.2.2.1 ml_m_27 im_m_lacks se_m_lacks k_m_lacks in_m (by decide +kernel) rfl rfl (by rw [hR]; exact ⟨Nat.le_of_ble_eq_true rfl, Nat.le_of_ble_eq_true rfl⟩)) hP hS hl.1 rfl rfl (Nat.le_of_ble_eq_true rfl) d_m_next_4 (fun r u' H locs hq hP hS => ?_)
  obtain ⟨hr0, hu0⟩ := hq
  rw [hr0]
  rw [hu0] at hP
  refine z_eq (tgt := 12) hx hb d_m_next_7 (by decide) (fun qz => ?_) (fun qz => ?_)
  · refine lv_aload_n hx hb d_m_next_12 rfl (lv_at hl 0 rfl) ?_
    refine lv_iload_n hx hb d_m_next_13 rfl (lv_at hl 1 rfl) ?_
    refine om_ci (n := 1) (As := [.int (nI x)]) (rest := []) X hml (c_m_find l B hB hZ hM hx0) (gw_W X.2.2.2.1 ml_m_23 im_m_find se_m_find k_m_find in_m (by decide +kernel) rfl rfl (by rw [hR]; exact ⟨Nat.le_of_ble_eq_true rfl, Nat.le_of_ble_eq_true rfl⟩)) hP hS hl.1 rfl rfl (Nat.le_of_ble_eq_true rfl) d_m_next_14 (fun r u' H locs hq hP hS => ?_)
    obtain ⟨hr0, hu0⟩ := hq
    rw [hr0]
    rw [hu0] at hP
    refine lv_iload_n hx hb d_m_next_17 rfl (lv_at hl 2 rfl) ?_
    refine lv_if_eq (tgt := 25) hx hb d_m_next_18 (by decide) (fun q => ?_) (fun q => ?_)
    · refine lv_iconst (v := (-1)) hx hb d_m_next_25 (by decide) ?_
      refine lv_iadd hx hb d_m_next_26 ?_
      rcases Nat.eq_zero_or_pos pp with hp | hp
      · refine tp_i (-1) (by rw [hp]; decide) ?_
        refine lv_istore_n (lv' := [(3, .int (-1)), (0, .ref (om_h B)), (1, .int (nI x)), (2, .int v)]) hx hb d_m_next_27 rfl hl (by decide) rfl (fun ls hl => ?_)
        refine lv_iload_n hx hb d_m_next_28 rfl (lv_at hl 0 rfl) ?_
        refine lv_if_lt (tgt := 40) hx hb d_m_next_29 (by decide) (fun qn => ?_) (fun qn => ?_)
        · refine lv_iconst (v := (-1)) hx hb d_m_next_40 (by decide) ?_
          refine lv_goto (tgt := 50) hx hb d_m_next_41 (by decide) ?_
          exact hend _ _ _ _ _ _ hP hS d_m_next_50 ⟨by rw [if_pos q, if_pos hp], rfl⟩
        · exact absurd (by decide) qn
      · obtain ⟨y, hy⟩ := gt_ex (Z := Z) (i := pp - 1) (by omega)
        have hfy := hM.2 _ _ hy
        refine tp_i (nI (pp - 1)) (sb_m1 hp) ?_
        refine lv_istore_n (lv' := [(3, .int (nI (pp - 1))), (0, .ref (om_h B)), (1, .int (nI x)), (2, .int v)]) hx hb d_m_next_27 rfl hl (by decide) rfl (fun ls hl => ?_)
        refine lv_iload_n hx hb d_m_next_28 rfl (lv_at hl 0 rfl) ?_
        refine nz_lt (tgt := 40) hx hb (by omega) d_m_next_29 (by decide) ?_
        refine lv_iload_n hx hb d_m_next_32 rfl (lv_at hl 0 rfl) ?_
        refine lv_aload_n hx hb d_m_next_33 rfl (lv_at hl 1 rfl) ?_
        refine g_manym X hP d_m_next_34 ?_
        refine nb_lt (tgt := 44) hx hb (by omega) (by omega) d_m_next_37 (by decide) (fun q2 => ?_) (fun q2 => ?_)
        · refine lv_aload_n hx hb d_m_next_44 rfl (lv_at hl 1 rfl) ?_
          refine g_line X hP d_m_next_45 ?_
          refine lv_iload_n hx hb d_m_next_48 rfl (lv_at hl 0 rfl) ?_
          refine a_line X hP (by omega) d_m_next_49 ?_
          exact hend _ _ _ _ _ _ hP hS d_m_next_50 ⟨by rw [if_pos q, if_neg (by omega), gd_of hy, hfy], rfl⟩
        · exact absurd q2 (by omega)
    · refine lv_iconst (v := (nI 1)) hx hb d_m_next_21 (by decide) ?_
      refine lv_goto (tgt := 26) hx hb d_m_next_22 (by decide) ?_
      refine lv_iadd hx hb d_m_next_26 ?_
      refine tp_i (nI (pp + 1)) (nI_add _ _) ?_
      refine lv_istore_n (lv' := [(3, .int (nI (pp + 1))), (0, .ref (om_h B)), (1, .int (nI x)), (2, .int v)]) hx hb d_m_next_27 rfl hl (by decide) rfl (fun ls hl => ?_)
      refine lv_iload_n hx hb d_m_next_28 rfl (lv_at hl 0 rfl) ?_
      refine nz_lt (tgt := 40) hx hb (by omega) d_m_next_29 (by decide) ?_
      refine lv_iload_n hx hb d_m_next_32 rfl (lv_at hl 0 rfl) ?_
      refine lv_aload_n hx hb d_m_next_33 rfl (lv_at hl 1 rfl) ?_
      refine g_manym X hP d_m_next_34 ?_
      refine nb_lt (tgt := 44) hx hb (by omega) (by omega) d_m_next_37 (by decide) (fun q2 => ?_) (fun q2 => ?_)
      · obtain ⟨y, hy⟩ := gt_ex (Z := Z) (i := pp + 1) (by omega)
        have hfy := hM.2 _ _ hy
        refine lv_aload_n hx hb d_m_next_44 rfl (lv_at hl 1 rfl) ?_
        refine g_line X hP d_m_next_45 ?_
        refine lv_iload_n hx hb d_m_next_48 rfl (lv_at hl 0 rfl) ?_
        refine a_line X hP (by omega) d_m_next_49 ?_
        exact hend _ _ _ _ _ _ hP hS d_m_next_50 ⟨by rw [if_neg q, if_pos (by omega), gd_of hy, hfy], rfl⟩
      · refine lv_iconst (v := (-1)) hx hb d_m_next_40 (by decide) ?_
        refine lv_goto (tgt := 50) hx hb d_m_next_41 (by decide) ?_
        exact hend _ _ _ _ _ _ hP hS d_m_next_50 ⟨by rw [if_neg q, if_neg (by omega)], rfl⟩
  · cases qz
set_option maxHeartbeats 4000000 in
set_option maxRecDepth 100000 in
/-- at(v) -/
theorem c_m_at (l : Launch) (B : MG) (hB : om_ok B) {th mn : Nat} {f g : Nat → Nat} {Z : List Nat} {v : Int32} (hZ : Zk Z) (hM : Mi f mn Z) : om_M l y_m_at b_m_at 2 (some .int) ({ frames := 0, cells := 0, slots := 0, locals := 0 }) B [.int v] (th, f, mn, g) (om_Qi B (fun r u => ((¬ (∃ j, j < Z.length ∧ v = nI j) ∧ r = -1) ∨ ∃ j x : Nat, v = nI j ∧ Z[j]? = some x ∧ r = nI x) ∧ u = (0, f, mn, g))) := by
  refine om_mi (by decide) rfl hB (Nat.le_of_ble_eq_true rfl) (fun p e R s m args below meth c Q ls hR X hml hP hS hl hend => ?_)
  have hx := X.1
  have hb := X.2.1
  have hl : lv_has ls 2 [(0, .ref (om_h B)), (1, .int v)] := hl
  have hmn := hM.1
  have hZl := hZ.2.2.1
  have hb3 : ∀ {i z : Nat}, Z[i]? = some z → z < 1000 := fun {i z} hz => hZ.2.1 i z hz
  refine lv_aload_n hx hb d_m_at_0 rfl (lv_at hl 0 rfl) ?_
  refine lv_iconst (v := (nI 0)) hx hb d_m_at_1 (by decide) ?_
  refine p_thrown X hP hS d_m_at_2 (fun H locs hP hS => ?_)
  refine lv_iload_n hx hb d_m_at_5 rfl (lv_at hl 1 rfl) ?_
  refine lv_if_lt (tgt := 17) hx hb d_m_at_6 (by decide) (fun q => ?_) (fun q => ?_)
  · refine lv_iconst (v := (-1)) hx hb d_m_at_17 (by decide) ?_
    refine lv_goto (tgt := 27) hx hb d_m_at_18 (by decide) ?_
    exact hend _ _ _ _ _ _ hP hS d_m_at_27 ⟨Or.inl ⟨(by rintro ⟨j, hj, rfl⟩; exact nI_pos (by omega) q), rfl⟩, rfl⟩
  · refine lv_iload_n hx hb d_m_at_9 rfl (lv_at hl 1 rfl) ?_
    refine lv_aload_n hx hb d_m_at_10 rfl (lv_at hl 0 rfl) ?_
    refine g_manym X hP d_m_at_11 ?_
    refine lv_icmp_lt (tgt := 21) hx hb d_m_at_14 (by decide) (fun q2 => ?_) (fun q2 => ?_)
    · obtain ⟨j, hj, rfl⟩ : ∃ j, j < Z.length ∧ v = nI j := by
        obtain ⟨j, hj, e⟩ := nI_of q
        refine ⟨j, ?_, e⟩
        rw [e, hmn] at q2
        exact (nI_ltI hj (by omega)).mp q2
      obtain ⟨y, hy⟩ := gt_ex hj
      have hfy := hM.2 _ _ hy
      refine lv_aload_n hx hb d_m_at_21 rfl (lv_at hl 0 rfl) ?_
      refine g_line X hP d_m_at_22 ?_
      refine lv_iload_n hx hb d_m_at_25 rfl (lv_at hl 1 rfl) ?_
      refine a_line X hP (by omega) d_m_at_26 ?_
      exact hend _ _ _ _ _ _ hP hS d_m_at_27 ⟨Or.inr ⟨j, y, rfl, hy, by rw [hfy]⟩, rfl⟩
    · refine lv_iconst (v := (-1)) hx hb d_m_at_17 (by decide) ?_
      refine lv_goto (tgt := 27) hx hb d_m_at_18 (by decide) ?_
      exact hend _ _ _ _ _ _ hP hS d_m_at_27 ⟨Or.inl ⟨(by rintro ⟨j, hj, rfl⟩; exact q2 (by rw [hmn]; exact nI_lt hj (by omega))), rfl⟩, rfl⟩
set_option maxHeartbeats 4000000 in
set_option maxRecDepth 100000 in
/-- greatest(a, b) -/
theorem c_m_greatest (l : Launch) (B : MG) (hB : om_ok B) {th mn : Nat} {f g : Nat → Nat} {Z : List Nat} {pa pb xa xb : Nat} (hZ : Zk Z) (hM : Mi f mn Z) (ha : Z[pa]? = some xa) (hb0 : Z[pb]? = some xb) : om_M l y_m_greatest b_m_greatest 5 (some .int) ({ frames := 2, cells := 0, slots := 0, locals := 45 }) B [.int (nI xa), .int (nI xb)] (th, f, mn, g) (om_Qi B (fun r u => (r = if pb < pa then -1 else nI (gm Z pa (pb - pa + 1))) ∧ u = (0, f, mn, g))) := by
  refine om_mi (by decide) rfl hB (Nat.le_of_ble_eq_true rfl) (fun p e R s m args below meth c Q ls hR X hml hP hS hl hend => ?_)
  have hx := X.1
  have hb := X.2.1
  have hl : lv_has ls 5 [(0, .ref (om_h B)), (1, .int (nI xa)), (2, .int (nI xb))] := hl
  have hmn := hM.1
  have hZl := hZ.2.2.1
  have hb3 : ∀ {i z : Nat}, Z[i]? = some z → z < 1000 := fun {i z} hz => hZ.2.1 i z hz
  have hpa := gt_lt ha
  have hpb := gt_lt hb0
  refine lv_aload_n hx hb d_m_greatest_0 rfl (lv_at hl 0 rfl) ?_
  refine lv_iload_n hx hb d_m_greatest_1 rfl (lv_at hl 1 rfl) ?_
  refine lv_iload_n hx hb d_m_greatest_2 rfl (lv_at hl 2 rfl) ?_
  refine lv_iconst (v := (nI 0)) hx hb d_m_greatest_3 (by decide) ?_
  refine om_cz (n := 3) (As := [.int (nI xa), .int (nI xb), .int (nI 0)]) (rest := []) X hml (c_m_lacks l B hB hZ hM ha hb0 hZ.2.2.2) (gw_W X.2.2.2.1 ml_m_27 im_m_lacks se_m_lacks k_m_lacks in_m (by decide +kernel) rfl rfl (by rw [hR]; exact ⟨Nat.le_of_ble_eq_true rfl, Nat.le_of_ble_eq_true rfl⟩)) hP hS hl.1 rfl rfl (Nat.le_of_ble_eq_true rfl) d_m_greatest_4 (fun r u' H locs hq hP hS => ?_)
  obtain ⟨hr0, hu0⟩ := hq
  rw [hr0]
  rw [hu0] at hP
  refine z_eq (tgt := 12) hx hb d_m_greatest_7 (by decide) (fun qz => ?_) (fun qz => ?_)
  · refine lv_iconst (v := (-1)) hx hb d_m_greatest_12 (by decide) ?_
    refine lv_istore_n (lv' := [(3, .int (-1)), (0, .ref (om_h B)), (1, .int (nI xa)), (2, .int (nI xb))]) hx hb d_m_greatest_13 rfl hl (by decide) rfl (fun ls hl => ?_)
    refine lv_aload_n hx hb d_m_greatest_14 rfl (lv_at hl 1 rfl) ?_
    refine lv_iload_n hx hb d_m_greatest_15 rfl (lv_at hl 2 rfl) ?_
    refine om_ci (n := 1) (As := [.int (nI xa)]) (rest := []) X hml (c_m_find l B hB hZ hM ha) (gw_W X.2.2.2.1 ml_m_23 im_m_find se_m_find k_m_find in_m (by decide +kernel) rfl rfl (by rw [hR]; exact ⟨Nat.le_of_ble_eq_true rfl, Nat.le_of_ble_eq_true rfl⟩)) hP hS hl.1 rfl rfl (Nat.le_of_ble_eq_true rfl) d_m_greatest_16 (fun r u' H locs hq hP hS => ?_)
    obtain ⟨hr0, hu0⟩ := hq
    rw [hr0]
    rw [hu0] at hP
    refine lv_istore (lv' := [(4, .int (nI pa)), (3, .int (-1)), (0, .ref (om_h B)), (1, .int (nI xa)), (2, .int (nI xb))]) hx hb d_m_greatest_19 hl (by decide) rfl (fun ls hl => ?_)
    have loop : ∀ (d j : Nat) (v3 : Int32), j + d = pb + 1 → pa < j → v3 = nI (gm Z pa (j - pa)) → ∀ (H : Heap) (locs : List Loc), om_P B (0, f, mn, g) H → va_S (om_A B) s.heap H locs → ∀ (ls : Array Slot), lv_has ls 5 [(4, .int (nI j)), (3, .int v3), (0, .ref (om_h B)), (2, .int (nI xb))] → W p l e R s m args below meth c H locs 0 0 Q (F0 m 21 ls []) := by
      intro d
      induction d with
      | zero =>
        intro j v3 hd hj hv H locs hP hS ls hl
        refine lv_iload hx hb d_m_greatest_21 (lv_at hl 0 rfl) ?_
        refine lv_aload_n hx hb d_m_greatest_23 rfl (lv_at hl 2 rfl) ?_
        refine lv_iload_n hx hb d_m_greatest_24 rfl (lv_at hl 3 rfl) ?_
        refine om_ci (n := 1) (As := [.int (nI xb)]) (rest := [.int (nI j)]) X hml (c_m_find l B hB hZ hM hb0) (gw_W X.2.2.2.1 ml_m_23 im_m_find se_m_find k_m_find in_m (by decide +kernel) rfl rfl (by rw [hR]; exact ⟨Nat.le_of_ble_eq_true rfl, Nat.le_of_ble_eq_true rfl⟩)) hP hS hl.1 rfl rfl (Nat.le_of_ble_eq_true rfl) d_m_greatest_25 (fun r u' H locs hq hP hS => ?_)
        obtain ⟨hr0, hu0⟩ := hq
        rw [hr0]
        rw [hu0] at hP
        refine nb_gt (tgt := 60) hx hb (by omega) (by omega) d_m_greatest_28 (by decide) (fun q2 => ?_) (fun q2 => ?_)
        · refine lv_iload_n hx hb d_m_greatest_60 rfl (lv_at hl 1 rfl) ?_
          exact hend _ _ _ _ _ _ hP hS d_m_greatest_61 ⟨by rw [if_neg (by omega), hv, show j - pa = pb - pa + 1 by omega], rfl⟩
        · exact absurd q2 (by omega)
      | succ d ih =>
        intro j v3 hd hj hv H locs hP hS ls hl
        obtain ⟨y, hy⟩ := gt_ex (Z := Z) (i := j) (by omega)
        have hfy := hM.2 _ _ hy
        have hyb := hb3 hy
        have hgb := gm_lt hZ.2.1 pa (j - pa)
        subst hv
        have hnx : gm Z pa (j + 1 - pa) = Nat.max (gm Z pa (j - pa)) y := by rw [show j + 1 - pa = j - pa + 1 by omega, gm_s, show pa + (j - pa) = j by omega, gd_of hy]
        refine lv_iload hx hb d_m_greatest_21 (lv_at hl 0 rfl) ?_
        refine lv_aload_n hx hb d_m_greatest_23 rfl (lv_at hl 2 rfl) ?_
        refine lv_iload_n hx hb d_m_greatest_24 rfl (lv_at hl 3 rfl) ?_
        refine om_ci (n := 1) (As := [.int (nI xb)]) (rest := [.int (nI j)]) X hml (c_m_find l B hB hZ hM hb0) (gw_W X.2.2.2.1 ml_m_23 im_m_find se_m_find k_m_find in_m (by decide +kernel) rfl rfl (by rw [hR]; exact ⟨Nat.le_of_ble_eq_true rfl, Nat.le_of_ble_eq_true rfl⟩)) hP hS hl.1 rfl rfl (Nat.le_of_ble_eq_true rfl) d_m_greatest_25 (fun r u' H locs hq hP hS => ?_)
        obtain ⟨hr0, hu0⟩ := hq
        rw [hr0]
        rw [hu0] at hP
        refine nb_gt (tgt := 60) hx hb (by omega) (by omega) d_m_greatest_28 (by decide) (fun q2 => ?_) (fun q2 => ?_)
        · exact absurd q2 (by omega)
        · refine lv_aload_n hx hb d_m_greatest_31 rfl (lv_at hl 2 rfl) ?_
          refine g_line X hP d_m_greatest_32 ?_
          refine lv_iload hx hb d_m_greatest_35 (lv_at hl 0 rfl) ?_
          refine a_line X hP (by omega) d_m_greatest_37 ?_
          refine lv_iload_n hx hb d_m_greatest_38 rfl (lv_at hl 1 rfl) ?_
          refine nb_le (tgt := 52) hx hb (by omega) (by omega) d_m_greatest_39 (by decide) (fun q3 => ?_) (fun q3 => ?_)
          · refine lv_iload_n hx hb d_m_greatest_52 rfl (lv_at hl 1 rfl) ?_
            refine lv_istore_n (lv' := [(3, .int (nI (gm Z pa (j - pa)))), (4, .int (nI j)), (0, .ref (om_h B)), (2, .int (nI xb))]) hx hb d_m_greatest_53 rfl hl (by decide) rfl (fun ls hl => ?_)
            refine lv_iinc (v := nI (j + 1)) (lv' := [(4, .int (nI (j + 1))), (3, .int (nI (gm Z pa (j - pa)))), (0, .ref (om_h B)), (2, .int (nI xb))]) hx hb d_m_greatest_54 hl (k := 1) rfl (nI_1 _) (by decide) rfl (fun ls hl => ?_)
            refine lv_goto (tgt := 21) hx hb d_m_greatest_57 (by decide) ?_
            exact ih (j + 1) _ (by omega) (by omega) (congrArg nI (by rw [hnx]; exact (Nat.max_eq_left (by omega)).symm)) _ _ hP hS ls (lv_sub hl [0, 1, 2, 3] rfl)
          · refine lv_aload_n hx hb d_m_greatest_42 rfl (lv_at hl 2 rfl) ?_
            refine g_line X hP d_m_greatest_43 ?_
            refine lv_iload hx hb d_m_greatest_46 (lv_at hl 0 rfl) ?_
            refine a_line X hP (by omega) d_m_greatest_48 ?_
            refine lv_goto (tgt := 53) hx hb d_m_greatest_49 (by decide) ?_
            refine lv_istore_n (lv' := [(3, .int (nI (f j))), (4, .int (nI j)), (0, .ref (om_h B)), (2, .int (nI xb))]) hx hb d_m_greatest_53 rfl hl (by decide) rfl (fun ls hl => ?_)
            refine lv_iinc (v := nI (j + 1)) (lv' := [(4, .int (nI (j + 1))), (3, .int (nI (f j))), (0, .ref (om_h B)), (2, .int (nI xb))]) hx hb d_m_greatest_54 hl (k := 1) rfl (nI_1 _) (by decide) rfl (fun ls hl => ?_)
            refine lv_goto (tgt := 21) hx hb d_m_greatest_57 (by decide) ?_
            exact ih (j + 1) _ (by omega) (by omega) (congrArg nI (by rw [hnx, hfy]; exact (Nat.max_eq_right (by omega)).symm)) _ _ hP hS ls (lv_sub hl [0, 1, 2, 3] rfl)
    refine lv_iload hx hb d_m_greatest_21 (lv_at hl 0 rfl) ?_
    refine lv_aload_n hx hb d_m_greatest_23 rfl (lv_at hl 2 rfl) ?_
    refine lv_iload_n hx hb d_m_greatest_24 rfl (lv_at hl 4 rfl) ?_
    refine om_ci (n := 1) (As := [.int (nI xb)]) (rest := [.int (nI pa)]) X hml (c_m_find l B hB hZ hM hb0) (gw_W X.2.2.2.1 ml_m_23 im_m_find se_m_find k_m_find in_m (by decide +kernel) rfl rfl (by rw [hR]; exact ⟨Nat.le_of_ble_eq_true rfl, Nat.le_of_ble_eq_true rfl⟩)) hP hS hl.1 rfl rfl (Nat.le_of_ble_eq_true rfl) d_m_greatest_25 (fun r u' H locs hq hP hS => ?_)
    obtain ⟨hr0, hu0⟩ := hq
    rw [hr0]
    rw [hu0] at hP
    refine nb_gt (tgt := 60) hx hb (by omega) (by omega) d_m_greatest_28 (by decide) (fun q => ?_) (fun q => ?_)
    · refine lv_iload_n hx hb d_m_greatest_60 rfl (lv_at hl 1 rfl) ?_
      exact hend _ _ _ _ _ _ hP hS d_m_greatest_61 ⟨by rw [if_pos q], rfl⟩
    · have hfa := hM.2 _ _ ha
      have hxa := hb3 ha
      have hg1 : gm Z pa (pa + 1 - pa) = xa := by rw [show pa + 1 - pa = 0 + 1 by omega, gm_s, Nat.add_zero, gd_of ha]; exact Nat.max_eq_right (Nat.zero_le _)
      refine lv_aload_n hx hb d_m_greatest_31 rfl (lv_at hl 2 rfl) ?_
      refine g_line X hP d_m_greatest_32 ?_
      refine lv_iload hx hb d_m_greatest_35 (lv_at hl 0 rfl) ?_
      refine a_line X hP (by omega) d_m_greatest_37 ?_
      refine lv_iload_n hx hb d_m_greatest_38 rfl (lv_at hl 1 rfl) ?_
      refine lv_icmp_le (tgt := 52) hx hb d_m_greatest_39 (by decide) (fun q2 => ?_) (fun q2 => ?_)
      · exact absurd (Int32.le_iff_toInt_le.mp q2) (by rw [nI_toInt (by omega), show (-1 : Int32).toInt = -1 by decide]; omega)
      · refine lv_aload_n hx hb d_m_greatest_42 rfl (lv_at hl 2 rfl) ?_
        refine g_line X hP d_m_greatest_43 ?_
        refine lv_iload hx hb d_m_greatest_46 (lv_at hl 0 rfl) ?_
        refine a_line X hP (by omega) d_m_greatest_48 ?_
        refine lv_goto (tgt := 53) hx hb d_m_greatest_49 (by decide) ?_
        refine lv_istore_n (lv' := [(3, .int (nI (f pa))), (4, .int (nI pa)), (0, .ref (om_h B)), (1, .int (nI xa)), (2, .int (nI xb))]) hx hb d_m_greatest_53 rfl hl (by decide) rfl (fun ls hl => ?_)
        refine lv_iinc (v := nI (pa + 1)) (lv' := [(4, .int (nI (pa + 1))), (3, .int (nI (f pa))), (0, .ref (om_h B)), (1, .int (nI xa)), (2, .int (nI xb))]) hx hb d_m_greatest_54 hl (k := 1) rfl (nI_1 _) (by decide) rfl (fun ls hl => ?_)
        refine lv_goto (tgt := 21) hx hb d_m_greatest_57 (by decide) ?_
        exact loop (pb - pa) (pa + 1) _ (by omega) (by omega) (by rw [hg1, hfa]) _ _ hP hS ls (lv_sub hl [0, 1, 2, 4] rfl)
  · cases qz
set_option maxHeartbeats 4000000 in
set_option maxRecDepth 100000 in
/-- wipe() -/
theorem c_m_wipe (l : Launch) (B : MG) (hB : om_ok B) {th mn : Nat} {f g : Nat → Nat} {Z : List Nat} (hZ : Zk Z) (hM : Mi f mn Z) : om_M l y_m_wipe b_m_wipe 1 none ({ frames := 0, cells := 0, slots := 0, locals := 0 }) B [] (th, f, mn, g) (om_Qv B (fun u => ∃ f', u = (0, f', 1, g) ∧ Mi f' 1 [0])) := by
  refine om_mv (by decide) rfl hB (Nat.le_of_ble_eq_true rfl) (fun p e R s m args below meth c Q ls hR X hml hP hS hl hend => ?_)
  have hx := X.1
  have hb := X.2.1
  have hl : lv_has ls 1 [(0, .ref (om_h B))] := hl
  have hmn := hM.1
  have hZl := hZ.2.2.1
  have hb3 : ∀ {i z : Nat}, Z[i]? = some z → z < 1000 := fun {i z} hz => hZ.2.1 i z hz
  refine lv_aload_n hx hb d_m_wipe_0 rfl (lv_at hl 0 rfl) ?_
  refine lv_iconst (v := (nI 0)) hx hb d_m_wipe_1 (by decide) ?_
  refine p_thrown X hP hS d_m_wipe_2 (fun H locs hP hS => ?_)
  refine lv_aload_n hx hb d_m_wipe_5 rfl (lv_at hl 0 rfl) ?_
  refine lv_iconst (v := (nI 1)) hx hb d_m_wipe_6 (by decide) ?_
  refine p_manym X hP hS d_m_wipe_7 (fun H locs hP hS => ?_)
  refine lv_aload_n hx hb d_m_wipe_10 rfl (lv_at hl 0 rfl) ?_
  refine g_line X hP d_m_wipe_11 ?_
  refine lv_iconst (v := (nI 0)) hx hb d_m_wipe_14 (by decide) ?_
  refine lv_iconst (v := (nI 0)) hx hb d_m_wipe_15 (by decide) ?_
  refine s_line X hP hS (by omega) d_m_wipe_16 (fun H locs hP hS => ?_)
  exact hend _ _ _ _ _ hP hS d_m_wipe_17 ⟨_, rfl, rfl, fun i x hx => by
    match i, hx with
    | 0, hx => cases hx; exact up_s
    | i + 1, hx => cases hx⟩
set_option maxHeartbeats 4000000 in
set_option maxRecDepth 100000 in
/-- look(v) -/
theorem c_m_look (l : Launch) (B : MG) (hB : om_ok B) {th mn : Nat} {f g : Nat → Nat} {Z : List Nat} {v : Int32} {mm : Nat} (hZ : Zk Z) (hM : Mi f mn Z) (hfr : fr Z mm) : om_M l y_m_look b_m_look 2 (some .int) ({ frames := 2, cells := 0, slots := 0, locals := 45 }) B [.int v] (th, f, mn, g) (om_Qi B (fun r u => (if v = 0 then r = nI Z.length else if v = nI 1 then r = nI (Z.getD (Z.length - 1) 0) else if v = nI 2 then r = nI mm else r = -1) ∧ u = (0, f, mn, g))) := by
  refine om_mi (by decide) rfl hB (Nat.le_of_ble_eq_true rfl) (fun p e R s m args below meth c Q ls hR X hml hP hS hl hend => ?_)
  have hx := X.1
  have hb := X.2.1
  have hl : lv_has ls 2 [(0, .ref (om_h B)), (1, .int v)] := hl
  have hmn := hM.1
  have hZl := hZ.2.2.1
  have hb3 : ∀ {i z : Nat}, Z[i]? = some z → z < 1000 := fun {i z} hz => hZ.2.1 i z hz
  obtain ⟨y, hy⟩ := gt_ex (Z := Z) (i := mn - 1) (by have := gt_lt hZ.2.2.2; omega)
  have hfy := hM.2 _ _ hy
  have hml1 := gt_lt hZ.2.2.2
  refine lv_aload_n hx hb d_m_look_0 rfl (lv_at hl 0 rfl) ?_
  refine lv_iconst (v := (nI 0)) hx hb d_m_look_1 (by decide) ?_
  refine p_thrown X hP hS d_m_look_2 (fun H locs hP hS => ?_)
  refine lv_iload_n hx hb d_m_look_5 rfl (lv_at hl 1 rfl) ?_
  refine lv_if_ne (tgt := 16) hx hb d_m_look_6 (by decide) (fun q => ?_) (fun q => ?_)
  · refine lv_iload_n hx hb d_m_look_16 rfl (lv_at hl 1 rfl) ?_
    refine lv_iconst (v := (nI 1)) hx hb d_m_look_17 (by decide) ?_
    refine lv_icmp_ne (tgt := 35) hx hb d_m_look_18 (by decide) (fun q2 => ?_) (fun q2 => ?_)
    · refine lv_iload_n hx hb d_m_look_35 rfl (lv_at hl 1 rfl) ?_
      refine lv_iconst (v := (nI 2)) hx hb d_m_look_36 (by decide) ?_
      refine lv_icmp_ne (tgt := 47) hx hb d_m_look_37 (by decide) (fun q3 => ?_) (fun q3 => ?_)
      · refine lv_iconst (v := (-1)) hx hb d_m_look_47 (by decide) ?_
        exact hend _ _ _ _ _ _ hP hS d_m_look_48 ⟨by rw [if_neg q, if_neg q2, if_neg q3], rfl⟩
      · refine lv_aload_n hx hb d_m_look_40 rfl (lv_at hl 0 rfl) ?_
        refine om_ci (n := 0) (As := []) (rest := []) X hml (c_m_free l B hB hZ hM hfr) (gw_W X.2.2.2.1 ml_m_31 im_m_free se_m_free k_m_free in_m (by decide +kernel) rfl rfl (by rw [hR]; exact ⟨Nat.le_of_ble_eq_true rfl, Nat.le_of_ble_eq_true rfl⟩)) hP hS hl.1 rfl rfl (Nat.le_of_ble_eq_true rfl) d_m_look_41 (fun r u' H locs hq hP hS => ?_)
        obtain ⟨hr1, hu1⟩ := hq
        rw [hr1]
        rw [hu1] at hP
        refine lv_goto (tgt := 48) hx hb d_m_look_44 (by decide) ?_
        exact hend _ _ _ _ _ _ hP hS d_m_look_48 ⟨by rw [if_neg q, if_neg q2, if_pos q3], rfl⟩
    · refine lv_aload_n hx hb d_m_look_21 rfl (lv_at hl 0 rfl) ?_
      refine g_line X hP d_m_look_22 ?_
      refine lv_aload_n hx hb d_m_look_25 rfl (lv_at hl 0 rfl) ?_
      refine g_manym X hP d_m_look_26 ?_
      refine lv_iconst (v := (nI 1)) hx hb d_m_look_29 (by decide) ?_
      refine lv_isub hx hb d_m_look_30 ?_
      refine tp_i (nI (mn - 1)) (pk_sub (by omega)) ?_
      refine a_line X hP (by omega) d_m_look_31 ?_
      refine lv_goto (tgt := 48) hx hb d_m_look_32 (by decide) ?_
      exact hend _ _ _ _ _ _ hP hS d_m_look_48 ⟨by rw [if_neg q, if_pos q2, ← hmn, gd_of hy, hfy], rfl⟩
  · refine lv_aload_n hx hb d_m_look_9 rfl (lv_at hl 0 rfl) ?_
    refine g_manym X hP d_m_look_10 ?_
    refine lv_goto (tgt := 48) hx hb d_m_look_13 (by decide) ?_
    exact hend _ _ _ _ _ _ hP hS d_m_look_48 ⟨by rw [if_pos q, hmn], rfl⟩
set_option maxHeartbeats 4000000 in
set_option maxRecDepth 100000 in
/-- look(v) -/
theorem c_m_lookF (l : Launch) (B : MG) (hB : om_ok B) {th mn : Nat} {f g : Nat → Nat} {Z : List Nat} {v : Int32} (hZ : Zk Z) (hM : Mi f mn Z) (hfu : full Z) : om_M l y_m_look b_m_look 2 (some .int) ({ frames := 2, cells := 0, slots := 0, locals := 45 }) B [.int v] (th, f, mn, g) (om_Qi B (fun r u => (if v = 0 then r = nI Z.length else if v = nI 1 then r = nI (Z.getD (Z.length - 1) 0) else if v = nI 2 then r = -1 else r = -1) ∧ u = (0, f, mn, g))) := by
  refine om_mi (by decide) rfl hB (Nat.le_of_ble_eq_true rfl) (fun p e R s m args below meth c Q ls hR X hml hP hS hl hend => ?_)
  have hx := X.1
  have hb := X.2.1
  have hl : lv_has ls 2 [(0, .ref (om_h B)), (1, .int v)] := hl
  have hmn := hM.1
  have hZl := hZ.2.2.1
  have hb3 : ∀ {i z : Nat}, Z[i]? = some z → z < 1000 := fun {i z} hz => hZ.2.1 i z hz
  obtain ⟨y, hy⟩ := gt_ex (Z := Z) (i := mn - 1) (by have := gt_lt hZ.2.2.2; omega)
  have hfy := hM.2 _ _ hy
  have hml1 := gt_lt hZ.2.2.2
  refine lv_aload_n hx hb d_m_look_0 rfl (lv_at hl 0 rfl) ?_
  refine lv_iconst (v := (nI 0)) hx hb d_m_look_1 (by decide) ?_
  refine p_thrown X hP hS d_m_look_2 (fun H locs hP hS => ?_)
  refine lv_iload_n hx hb d_m_look_5 rfl (lv_at hl 1 rfl) ?_
  refine lv_if_ne (tgt := 16) hx hb d_m_look_6 (by decide) (fun q => ?_) (fun q => ?_)
  · refine lv_iload_n hx hb d_m_look_16 rfl (lv_at hl 1 rfl) ?_
    refine lv_iconst (v := (nI 1)) hx hb d_m_look_17 (by decide) ?_
    refine lv_icmp_ne (tgt := 35) hx hb d_m_look_18 (by decide) (fun q2 => ?_) (fun q2 => ?_)
    · refine lv_iload_n hx hb d_m_look_35 rfl (lv_at hl 1 rfl) ?_
      refine lv_iconst (v := (nI 2)) hx hb d_m_look_36 (by decide) ?_
      refine lv_icmp_ne (tgt := 47) hx hb d_m_look_37 (by decide) (fun q3 => ?_) (fun q3 => ?_)
      · refine lv_iconst (v := (-1)) hx hb d_m_look_47 (by decide) ?_
        exact hend _ _ _ _ _ _ hP hS d_m_look_48 ⟨by rw [if_neg q, if_neg q2, if_neg q3], rfl⟩
      · refine lv_aload_n hx hb d_m_look_40 rfl (lv_at hl 0 rfl) ?_
        refine om_ci (n := 0) (As := []) (rest := []) X hml (c_m_freeN l B hB hZ hM hfu) (gw_W X.2.2.2.1 ml_m_31 im_m_free se_m_free k_m_free in_m (by decide +kernel) rfl rfl (by rw [hR]; exact ⟨Nat.le_of_ble_eq_true rfl, Nat.le_of_ble_eq_true rfl⟩)) hP hS hl.1 rfl rfl (Nat.le_of_ble_eq_true rfl) d_m_look_41 (fun r u' H locs hq hP hS => ?_)
        obtain ⟨hr1, hu1⟩ := hq
        rw [hr1]
        rw [hu1] at hP
        refine lv_goto (tgt := 48) hx hb d_m_look_44 (by decide) ?_
        exact hend _ _ _ _ _ _ hP hS d_m_look_48 ⟨by rw [if_neg q, if_neg q2, if_pos q3], rfl⟩
    · refine lv_aload_n hx hb d_m_look_21 rfl (lv_at hl 0 rfl) ?_
      refine g_line X hP d_m_look_22 ?_
      refine lv_aload_n hx hb d_m_look_25 rfl (lv_at hl 0 rfl) ?_
      refine g_manym X hP d_m_look_26 ?_
      refine lv_iconst (v := (nI 1)) hx hb d_m_look_29 (by decide) ?_
      refine lv_isub hx hb d_m_look_30 ?_
      refine tp_i (nI (mn - 1)) (pk_sub (by omega)) ?_
      refine a_line X hP (by omega) d_m_look_31 ?_
      refine lv_goto (tgt := 48) hx hb d_m_look_32 (by decide) ?_
      exact hend _ _ _ _ _ _ hP hS d_m_look_48 ⟨by rw [if_neg q, if_pos q2, ← hmn, gd_of hy, hfy], rfl⟩
  · refine lv_aload_n hx hb d_m_look_9 rfl (lv_at hl 0 rfl) ?_
    refine g_manym X hP d_m_look_10 ?_
    refine lv_goto (tgt := 48) hx hb d_m_look_13 (by decide) ?_
    exact hend _ _ _ _ _ _ hP hS d_m_look_48 ⟨by rw [if_pos q, hmn], rfl⟩
set_option maxHeartbeats 4000000 in
set_option maxRecDepth 100000 in
/-- clear(a, b), nothing -/
theorem c_m_clear0 (l : Launch) (B : MG) (hB : om_ok B) {th mn : Nat} {f g : Nat → Nat} {Z : List Nat} {pa pb xa xb : Nat} (hZ : Zk Z) (hM : Mi f mn Z) (ha : Z[pa]? = some xa) (hb0 : Z[pb]? = some xb) (hba : pb ≤ pa) : om_M l y_m_clear b_m_clear 4 (some .int) ({ frames := 2, cells := 0, slots := 0, locals := 45 }) B [.int (nI xa), .int (nI xb)] (th, f, mn, g) (om_Qi B (fun r u => r = nI 0 ∧ u = (0, f, mn, g))) := by
  refine om_mi (by decide) rfl hB (Nat.le_of_ble_eq_true rfl) (fun p e R s m args below meth c Q ls hR X hml hP hS hl hend => ?_)
  have hx := X.1
  have hb := X.2.1
  have hl : lv_has ls 4 [(0, .ref (om_h B)), (1, .int (nI xa)), (2, .int (nI xb))] := hl
  have hmn := hM.1
  have hZl := hZ.2.2.1
  have hb3 : ∀ {i z : Nat}, Z[i]? = some z → z < 1000 := fun {i z} hz => hZ.2.1 i z hz
  have hpa := gt_lt ha
  have hpb := gt_lt hb0
  refine lv_aload_n hx hb d_m_clear_0 rfl (lv_at hl 0 rfl) ?_
  refine lv_iload_n hx hb d_m_clear_1 rfl (lv_at hl 1 rfl) ?_
  refine lv_iload_n hx hb d_m_clear_2 rfl (lv_at hl 2 rfl) ?_
  refine lv_iconst (v := (nI 0)) hx hb d_m_clear_3 (by decide) ?_
  refine om_cz (n := 3) (As := [.int (nI xa), .int (nI xb), .int (nI 0)]) (rest := []) X hml (c_m_lacks l B hB hZ hM ha hb0 hZ.2.2.2) (gw_W X.2.2.2.1 ml_m_27 im_m_lacks se_m_lacks k_m_lacks in_m (by decide +kernel) rfl rfl (by rw [hR]; exact ⟨Nat.le_of_ble_eq_true rfl, Nat.le_of_ble_eq_true rfl⟩)) hP hS hl.1 rfl rfl (Nat.le_of_ble_eq_true rfl) d_m_clear_4 (fun r u' H locs hq hP hS => ?_)
  obtain ⟨hr0, hu0⟩ := hq
  rw [hr0]
  rw [hu0] at hP
  refine z_eq (tgt := 12) hx hb d_m_clear_7 (by decide) (fun qz => ?_) (fun qz => ?_)
  · refine lv_iconst (v := (nI 0)) hx hb d_m_clear_12 (by decide) ?_
    refine lv_istore_n (lv' := [(3, .int (nI 0)), (0, .ref (om_h B)), (1, .int (nI xa)), (2, .int (nI xb))]) hx hb d_m_clear_13 rfl hl (by decide) rfl (fun ls hl => ?_)
    refine lv_aload_n hx hb d_m_clear_14 rfl (lv_at hl 1 rfl) ?_
    refine lv_iload_n hx hb d_m_clear_15 rfl (lv_at hl 2 rfl) ?_
    refine om_ci (n := 1) (As := [.int (nI xa)]) (rest := []) X hml (c_m_find l B hB hZ hM ha) (gw_W X.2.2.2.1 ml_m_23 im_m_find se_m_find k_m_find in_m (by decide +kernel) rfl rfl (by rw [hR]; exact ⟨Nat.le_of_ble_eq_true rfl, Nat.le_of_ble_eq_true rfl⟩)) hP hS hl.1 rfl rfl (Nat.le_of_ble_eq_true rfl) d_m_clear_16 (fun r u' H locs hq hP hS => ?_)
    obtain ⟨hr0, hu0⟩ := hq
    rw [hr0]
    rw [hu0] at hP
    refine lv_iconst (v := (nI 1)) hx hb d_m_clear_19 (by decide) ?_
    refine lv_iadd hx hb d_m_clear_20 ?_
    refine tp_i (nI (pa + 1)) (nI_add _ _) ?_
    refine lv_aload_n hx hb d_m_clear_21 rfl (lv_at hl 1 rfl) ?_
    refine lv_iload_n hx hb d_m_clear_22 rfl (lv_at hl 3 rfl) ?_
    refine om_ci (n := 1) (As := [.int (nI xb)]) (rest := [.int (nI (pa + 1))]) X hml (c_m_find l B hB hZ hM hb0) (gw_W X.2.2.2.1 ml_m_23 im_m_find se_m_find k_m_find in_m (by decide +kernel) rfl rfl (by rw [hR]; exact ⟨Nat.le_of_ble_eq_true rfl, Nat.le_of_ble_eq_true rfl⟩)) hP hS hl.1 rfl rfl (Nat.le_of_ble_eq_true rfl) d_m_clear_23 (fun r u' H locs hq hP hS => ?_)
    obtain ⟨hr0, hu0⟩ := hq
    rw [hr0]
    rw [hu0] at hP
    refine nb_ge (tgt := 46) hx hb (by omega) (by omega) d_m_clear_26 (by decide) (fun q => ?_) (fun q => ?_)
    · refine lv_iload_n hx hb d_m_clear_46 rfl (lv_at hl 0 rfl) ?_
      exact hend _ _ _ _ _ _ hP hS d_m_clear_47 ⟨rfl, rfl⟩
    · exact absurd q (by omega)
  · cases qz
set_option maxHeartbeats 4000000 in
set_option maxRecDepth 100000 in
/-- clear(a, b) -/
theorem c_m_clear (l : Launch) (B : MG) (hB : om_ok B) {th mn : Nat} {f g : Nat → Nat} {A M S : List Nat} {xa xb : Nat} (hZ : Zk (A ++ xa :: (M ++ xb :: S))) (hM : Mi f mn (A ++ xa :: (M ++ xb :: S))) : om_M l y_m_clear b_m_clear 4 (some .int) ({ frames := 2, cells := 0, slots := 0, locals := 45 }) B [.int (nI xa), .int (nI xb)] (th, f, mn, g) (om_Qi B (fun r u => r = nI M.length ∧ ∃ f', u = (0, f', mn - M.length, g) ∧ Mi f' (mn - M.length) (A ++ xa :: xb :: S))) := by
  refine om_mi (by decide) rfl hB (Nat.le_of_ble_eq_true rfl) (fun p e R s m args below meth c Q ls hR X hml hP hS hl hend => ?_)
  have hx := X.1
  have hb := X.2.1
  have hl : lv_has ls 4 [(0, .ref (om_h B)), (1, .int (nI xa)), (2, .int (nI xb))] := hl
  have hmn := hM.1
  have hZl := hZ.2.2.1
  have loop : ∀ (K : List Nat) (j mk : Nat) (f : Nat → Nat), j + K.length = M.length → mk = mn - j → Zk (A ++ xa :: (K ++ xb :: S)) → Mi f mk (A ++ xa :: (K ++ xb :: S)) → ∀ (H : Heap) (locs : List Loc), om_P B (0, f, mk, g) H → va_S (om_A B) s.heap H locs → ∀ (ls : Array Slot), lv_has ls 4 [(3, .int (nI j)), (0, .ref (om_h B)), (1, .int (nI xa)), (2, .int (nI xb))] → W p l e R s m args below meth c H locs 0 0 Q (F0 m 14 ls []) := by
    intro K
    induction K with
    | nil =>
      intro j mk f hj hmk hZ hM H locs hP hS ls hl
      have ha : (A ++ xa :: ([] ++ xb :: S))[A.length]? = some xa := app_at _ _ _
      have hb0 : (A ++ xa :: ([] ++ xb :: S))[A.length + 1 + ([] : List Nat).length]? = some xb := by
        rw [show A ++ xa :: ([] ++ xb :: S) = (A ++ xa :: ([] : List Nat)) ++ xb :: S by simp, show A.length + 1 + ([] : List Nat).length = (A ++ xa :: ([] : List Nat)).length by simp <;> omega]; exact app_at _ _ _
      have hpa := gt_lt ha
      have hpb := gt_lt hb0
      have hmn := hM.1
      have hZl := hZ.2.2.1
      refine lv_aload_n hx hb d_m_clear_14 rfl (lv_at hl 1 rfl) ?_
      refine lv_iload_n hx hb d_m_clear_15 rfl (lv_at hl 2 rfl) ?_
      refine om_ci (n := 1) (As := [.int (nI xa)]) (rest := []) X hml (c_m_find l B hB hZ hM ha) (gw_W X.2.2.2.1 ml_m_23 im_m_find se_m_find k_m_find in_m (by decide +kernel) rfl rfl (by rw [hR]; exact ⟨Nat.le_of_ble_eq_true rfl, Nat.le_of_ble_eq_true rfl⟩)) hP hS hl.1 rfl rfl (Nat.le_of_ble_eq_true rfl) d_m_clear_16 (fun r u' H locs hq hP hS => ?_)
      obtain ⟨hr0, hu0⟩ := hq
      rw [hr0]
      rw [hu0] at hP
      refine lv_iconst (v := (nI 1)) hx hb d_m_clear_19 (by decide) ?_
      refine lv_iadd hx hb d_m_clear_20 ?_
      refine tp_i (nI (A.length + 1)) (nI_add _ _) ?_
      refine lv_aload_n hx hb d_m_clear_21 rfl (lv_at hl 1 rfl) ?_
      refine lv_iload_n hx hb d_m_clear_22 rfl (lv_at hl 3 rfl) ?_
      refine om_ci (n := 1) (As := [.int (nI xb)]) (rest := [.int (nI (A.length + 1))]) X hml (c_m_find l B hB hZ hM hb0) (gw_W X.2.2.2.1 ml_m_23 im_m_find se_m_find k_m_find in_m (by decide +kernel) rfl rfl (by rw [hR]; exact ⟨Nat.le_of_ble_eq_true rfl, Nat.le_of_ble_eq_true rfl⟩)) hP hS hl.1 rfl rfl (Nat.le_of_ble_eq_true rfl) d_m_clear_23 (fun r u' H locs hq hP hS => ?_)
      obtain ⟨hr0, hu0⟩ := hq
      rw [hr0]
      rw [hu0] at hP
      refine nb_ge (tgt := 46) hx hb (by omega) (by omega) d_m_clear_26 (by decide) (fun q => ?_) (fun q => ?_)
      · refine lv_iload_n hx hb d_m_clear_46 rfl (lv_at hl 0 rfl) ?_
        exact hend _ _ _ _ _ _ hP hS d_m_clear_47 ⟨congrArg nI (by rw [← hj]; rfl), f, by rw [hmk, show j = M.length by rw [← hj]; rfl], by rw [show mn - M.length = mk by rw [hmk, ← hj]; rfl]; exact hM⟩
      · exact absurd q (by rw [List.length_nil]; omega)
    | cons y K ih =>
      intro j mk f hj hmk hZ hM H locs hP hS ls hl
      have ha : (A ++ xa :: ((y :: K) ++ xb :: S))[A.length]? = some xa := app_at _ _ _
      have hb0 : (A ++ xa :: ((y :: K) ++ xb :: S))[A.length + 1 + (y :: K).length]? = some xb := by
        rw [show A ++ xa :: ((y :: K) ++ xb :: S) = (A ++ xa :: (y :: K)) ++ xb :: S by simp, show A.length + 1 + (y :: K).length = (A ++ xa :: (y :: K)).length by simp <;> omega]; exact app_at _ _ _
      have hpa := gt_lt ha
      have hpb := gt_lt hb0
      have hmn := hM.1
      have hZl := hZ.2.2.1
      rw [List.length_cons] at hj hb0 hpb
      refine lv_aload_n hx hb d_m_clear_14 rfl (lv_at hl 1 rfl) ?_
      refine lv_iload_n hx hb d_m_clear_15 rfl (lv_at hl 2 rfl) ?_
      refine om_ci (n := 1) (As := [.int (nI xa)]) (rest := []) X hml (c_m_find l B hB hZ hM ha) (gw_W X.2.2.2.1 ml_m_23 im_m_find se_m_find k_m_find in_m (by decide +kernel) rfl rfl (by rw [hR]; exact ⟨Nat.le_of_ble_eq_true rfl, Nat.le_of_ble_eq_true rfl⟩)) hP hS hl.1 rfl rfl (Nat.le_of_ble_eq_true rfl) d_m_clear_16 (fun r u' H locs hq hP hS => ?_)
      obtain ⟨hr0, hu0⟩ := hq
      rw [hr0]
      rw [hu0] at hP
      refine lv_iconst (v := (nI 1)) hx hb d_m_clear_19 (by decide) ?_
      refine lv_iadd hx hb d_m_clear_20 ?_
      refine tp_i (nI (A.length + 1)) (nI_add _ _) ?_
      refine lv_aload_n hx hb d_m_clear_21 rfl (lv_at hl 1 rfl) ?_
      refine lv_iload_n hx hb d_m_clear_22 rfl (lv_at hl 3 rfl) ?_
      refine om_ci (n := 1) (As := [.int (nI xb)]) (rest := [.int (nI (A.length + 1))]) X hml (c_m_find l B hB hZ hM hb0) (gw_W X.2.2.2.1 ml_m_23 im_m_find se_m_find k_m_find in_m (by decide +kernel) rfl rfl (by rw [hR]; exact ⟨Nat.le_of_ble_eq_true rfl, Nat.le_of_ble_eq_true rfl⟩)) hP hS hl.1 rfl rfl (Nat.le_of_ble_eq_true rfl) d_m_clear_23 (fun r u' H locs hq hP hS => ?_)
      obtain ⟨hr0, hu0⟩ := hq
      rw [hr0]
      rw [hu0] at hP
      refine nb_ge (tgt := 46) hx hb (by omega) (by omega) d_m_clear_26 (by decide) (fun q => ?_) (fun q => ?_)
      · exact absurd q (by omega)
      · refine lv_aload_n hx hb d_m_clear_29 rfl (lv_at hl 1 rfl) ?_
        refine lv_aload_n hx hb d_m_clear_30 rfl (lv_at hl 1 rfl) ?_
        refine lv_iload_n hx hb d_m_clear_31 rfl (lv_at hl 2 rfl) ?_
        refine om_ci (n := 1) (As := [.int (nI xa)]) (rest := [.ref (om_h B)]) X hml (c_m_find l B hB hZ hM ha) (gw_W X.2.2.2.1 ml_m_23 im_m_find se_m_find k_m_find in_m (by decide +kernel) rfl rfl (by rw [hR]; exact ⟨Nat.le_of_ble_eq_true rfl, Nat.le_of_ble_eq_true rfl⟩)) hP hS hl.1 rfl rfl (Nat.le_of_ble_eq_true rfl) d_m_clear_32 (fun r u' H locs hq hP hS => ?_)
        obtain ⟨hr0, hu0⟩ := hq
        rw [hr0]
        rw [hu0] at hP
        refine lv_iconst (v := (nI 1)) hx hb d_m_clear_35 (by decide) ?_
        refine lv_iadd hx hb d_m_clear_36 ?_
        refine tp_i (nI (A.length + 1)) (nI_add _ _) ?_
        refine om_cv (n := 1) (As := [.int (nI (A.length + 1))]) (rest := []) X hml (c_m_drop l B hB hZ hM (by omega)) (gw_W X.2.2.2.1 ml_m_39 im_m_drop se_m_drop k_m_drop in_m (by decide +kernel) rfl rfl (by rw [hR]; exact ⟨Nat.le_of_ble_eq_true rfl, Nat.le_of_ble_eq_true rfl⟩)) hP hS hl.1 rfl rfl (Nat.le_of_ble_eq_true rfl) d_m_clear_37 (fun u' H locs hq hP hS => ?_)
        obtain ⟨f2, hu2, hM2⟩ := hq
        rw [hu2] at hP
        have hZ2 := hZ.del (q := A.length + 1) (by omega)
        rw [show (A ++ xa :: ((y :: K) ++ xb :: S)).eraseIdx (A.length + 1) = A ++ xa :: (K ++ xb :: S) from era_seg _ _ _ _] at hM2 hZ2
        refine lv_iinc (v := nI (j + 1)) (lv' := [(3, .int (nI (j + 1))), (0, .ref (om_h B)), (1, .int (nI xa)), (2, .int (nI xb))]) hx hb d_m_clear_40 hl (k := 0) rfl (nI_1 _) (by decide) rfl (fun ls hl => ?_)
        refine lv_goto (tgt := 14) hx hb d_m_clear_43 (by decide) ?_
        exact ih (j + 1) (mk - 1) f2 (by omega) (by omega) hZ2 hM2 _ _ hP hS ls (lv_sub hl [0, 1, 2, 3] rfl)
  have ha : (A ++ xa :: (M ++ xb :: S))[A.length]? = some xa := app_at _ _ _
  have hb0 : (A ++ xa :: (M ++ xb :: S))[A.length + 1 + M.length]? = some xb := by
    rw [show A ++ xa :: (M ++ xb :: S) = (A ++ xa :: M) ++ xb :: S by simp, show A.length + 1 + M.length = (A ++ xa :: M).length by simp <;> omega]; exact app_at _ _ _
  have hpa := gt_lt ha
  have hpb := gt_lt hb0
  have hmn := hM.1
  have hZl := hZ.2.2.1
  refine lv_aload_n hx hb d_m_clear_0 rfl (lv_at hl 0 rfl) ?_
  refine lv_iload_n hx hb d_m_clear_1 rfl (lv_at hl 1 rfl) ?_
  refine lv_iload_n hx hb d_m_clear_2 rfl (lv_at hl 2 rfl) ?_
  refine lv_iconst (v := (nI 0)) hx hb d_m_clear_3 (by decide) ?_
  refine om_cz (n := 3) (As := [.int (nI xa), .int (nI xb), .int (nI 0)]) (rest := []) X hml (c_m_lacks l B hB hZ hM ha hb0 hZ.2.2.2) (gw_W X.2.2.2.1 ml_m_27 im_m_lacks se_m_lacks k_m_lacks in_m (by decide +kernel) rfl rfl (by rw [hR]; exact ⟨Nat.le_of_ble_eq_true rfl, Nat.le_of_ble_eq_true rfl⟩)) hP hS hl.1 rfl rfl (Nat.le_of_ble_eq_true rfl) d_m_clear_4 (fun r u' H locs hq hP hS => ?_)
  obtain ⟨hr0, hu0⟩ := hq
  rw [hr0]
  rw [hu0] at hP
  refine z_eq (tgt := 12) hx hb d_m_clear_7 (by decide) (fun qz => ?_) (fun qz => ?_)
  · refine lv_iconst (v := (nI 0)) hx hb d_m_clear_12 (by decide) ?_
    refine lv_istore_n (lv' := [(3, .int (nI 0)), (0, .ref (om_h B)), (1, .int (nI xa)), (2, .int (nI xb))]) hx hb d_m_clear_13 rfl hl (by decide) rfl (fun ls hl => ?_)
    exact loop M 0 mn f (Nat.zero_add _) rfl hZ hM _ _ hP hS ls (lv_sub hl [0, 1, 2, 3] rfl)
  · cases qz
set_option maxHeartbeats 4000000 in
set_option maxRecDepth 100000 in
/-- carry(a, b, c), nothing -/
theorem c_m_carryN (l : Launch) (B : MG) (hB : om_ok B) {th mn : Nat} {f g : Nat → Nat} {Z : List Nat} {pa pb pq xa xb xc : Nat} (hZ : Zk Z) (hM : Mi f mn Z) (ha : Z[pa]? = some xa) (hb0 : Z[pb]? = some xb) (hc0 : Z[pq]? = some xc) (hN : pb ≤ pa ∨ (pa < pq ∧ pq < pb)) : om_M l y_m_carry b_m_carry 9 (some .int) ({ frames := 2, cells := 0, slots := 0, locals := 45 }) B [.int (nI xa), .int (nI xb), .int (nI xc)] (th, f, mn, g) (om_Qi B (fun r u => r = -1 ∧ u = (0, f, mn, g))) := by
  refine om_mi (by decide) rfl hB (Nat.le_of_ble_eq_true rfl) (fun p e R s m args below meth c Q ls hR X hml hP hS hl hend => ?_)
  have hx := X.1
  have hb := X.2.1
  have hl : lv_has ls 9 [(0, .ref (om_h B)), (1, .int (nI xa)), (2, .int (nI xb)), (3, .int (nI xc))] := hl
  have hmn := hM.1
  have hZl := hZ.2.2.1
  have hb3 : ∀ {i z : Nat}, Z[i]? = some z → z < 1000 := fun {i z} hz => hZ.2.1 i z hz
  have hpa := gt_lt ha
  have hpb := gt_lt hb0
  have hpq := gt_lt hc0
  refine lv_aload_n hx hb d_m_carry_0 rfl (lv_at hl 0 rfl) ?_
  refine lv_iload_n hx hb d_m_carry_1 rfl (lv_at hl 1 rfl) ?_
  refine lv_iload_n hx hb d_m_carry_2 rfl (lv_at hl 2 rfl) ?_
  refine lv_iload_n hx hb d_m_carry_3 rfl (lv_at hl 3 rfl) ?_
  refine om_cz (n := 3) (As := [.int (nI xa), .int (nI xb), .int (nI xc)]) (rest := []) X hml (c_m_lacks l B hB hZ hM ha hb0 hc0) (gw_W X.2.2.2.1 ml_m_27 im_m_lacks se_m_lacks k_m_lacks in_m (by decide +kernel) rfl rfl (by rw [hR]; exact ⟨Nat.le_of_ble_eq_true rfl, Nat.le_of_ble_eq_true rfl⟩)) hP hS hl.1 rfl rfl (Nat.le_of_ble_eq_true rfl) d_m_carry_4 (fun r u' H locs hq hP hS => ?_)
  obtain ⟨hr0, hu0⟩ := hq
  rw [hr0]
  rw [hu0] at hP
  refine z_eq (tgt := 12) hx hb d_m_carry_7 (by decide) (fun qz => ?_) (fun qz => ?_)
  · refine lv_aload_n hx hb d_m_carry_12 rfl (lv_at hl 0 rfl) ?_
    refine lv_iload_n hx hb d_m_carry_13 rfl (lv_at hl 1 rfl) ?_
    refine om_ci (n := 1) (As := [.int (nI xa)]) (rest := []) X hml (c_m_find l B hB hZ hM ha) (gw_W X.2.2.2.1 ml_m_23 im_m_find se_m_find k_m_find in_m (by decide +kernel) rfl rfl (by rw [hR]; exact ⟨Nat.le_of_ble_eq_true rfl, Nat.le_of_ble_eq_true rfl⟩)) hP hS hl.1 rfl rfl (Nat.le_of_ble_eq_true rfl) d_m_carry_14 (fun r u' H locs hq hP hS => ?_)
    obtain ⟨hr0, hu0⟩ := hq
    rw [hr0]
    rw [hu0] at hP
    refine lv_istore (lv' := [(4, .int (nI pa)), (0, .ref (om_h B)), (1, .int (nI xa)), (2, .int (nI xb)), (3, .int (nI xc))]) hx hb d_m_carry_17 hl (by decide) rfl (fun ls hl => ?_)
    refine lv_aload_n hx hb d_m_carry_19 rfl (lv_at hl 1 rfl) ?_
    refine lv_iload_n hx hb d_m_carry_20 rfl (lv_at hl 3 rfl) ?_
    refine om_ci (n := 1) (As := [.int (nI xb)]) (rest := []) X hml (c_m_find l B hB hZ hM hb0) (gw_W X.2.2.2.1 ml_m_23 im_m_find se_m_find k_m_find in_m (by decide +kernel) rfl rfl (by rw [hR]; exact ⟨Nat.le_of_ble_eq_true rfl, Nat.le_of_ble_eq_true rfl⟩)) hP hS hl.1 rfl rfl (Nat.le_of_ble_eq_true rfl) d_m_carry_21 (fun r u' H locs hq hP hS => ?_)
    obtain ⟨hr0, hu0⟩ := hq
    rw [hr0]
    rw [hu0] at hP
    refine lv_istore (lv' := [(5, .int (nI pb)), (4, .int (nI pa)), (0, .ref (om_h B)), (1, .int (nI xa)), (2, .int (nI xb)), (3, .int (nI xc))]) hx hb d_m_carry_24 hl (by decide) rfl (fun ls hl => ?_)
    refine lv_aload_n hx hb d_m_carry_26 rfl (lv_at hl 2 rfl) ?_
    refine lv_iload_n hx hb d_m_carry_27 rfl (lv_at hl 5 rfl) ?_
    refine om_ci (n := 1) (As := [.int (nI xc)]) (rest := []) X hml (c_m_find l B hB hZ hM hc0) (gw_W X.2.2.2.1 ml_m_23 im_m_find se_m_find k_m_find in_m (by decide +kernel) rfl rfl (by rw [hR]; exact ⟨Nat.le_of_ble_eq_true rfl, Nat.le_of_ble_eq_true rfl⟩)) hP hS hl.1 rfl rfl (Nat.le_of_ble_eq_true rfl) d_m_carry_28 (fun r u' H locs hq hP hS => ?_)
    obtain ⟨hr0, hu0⟩ := hq
    rw [hr0]
    rw [hu0] at hP
    refine lv_istore (lv' := [(6, .int (nI pq)), (5, .int (nI pb)), (4, .int (nI pa)), (0, .ref (om_h B)), (1, .int (nI xa)), (2, .int (nI xb)), (3, .int (nI xc))]) hx hb d_m_carry_31 hl (by decide) rfl (fun ls hl => ?_)
    refine lv_iload hx hb d_m_carry_33 (lv_at hl 2 rfl) ?_
    refine lv_iload hx hb d_m_carry_35 (lv_at hl 1 rfl) ?_
    refine nb_ge (tgt := 54) hx hb (by omega) (by omega) d_m_carry_37 (by decide) (fun q => ?_) (fun q => ?_)
    · refine lv_iconst (v := (-1)) hx hb d_m_carry_54 (by decide) ?_
      exact hend _ _ _ _ _ _ hP hS d_m_carry_55 ⟨rfl, rfl⟩
    · refine lv_iload hx hb d_m_carry_40 (lv_at hl 0 rfl) ?_
      refine lv_iload hx hb d_m_carry_42 (lv_at hl 2 rfl) ?_
      refine nb_le (tgt := 56) hx hb (by omega) (by omega) d_m_carry_44 (by decide) (fun q2 => ?_) (fun q2 => ?_)
      · exact absurd q2 (by omega)
      · refine lv_iload hx hb d_m_carry_47 (lv_at hl 0 rfl) ?_
        refine lv_iload hx hb d_m_carry_49 (lv_at hl 1 rfl) ?_
        refine nb_ge (tgt := 56) hx hb (by omega) (by omega) d_m_carry_51 (by decide) (fun q3 => ?_) (fun q3 => ?_)
        · exact absurd q3 (by omega)
        · refine lv_iconst (v := (-1)) hx hb d_m_carry_54 (by decide) ?_
          exact hend _ _ _ _ _ _ hP hS d_m_carry_55 ⟨rfl, rfl⟩
  · cases qz
set_option maxHeartbeats 4000000 in
set_option maxRecDepth 100000 in
/-- carry(a, b, c) -/
theorem c_m_carry (l : Launch) (B : MG) (hB : om_ok B) {th mn : Nat} {f g : Nat → Nat} {A M T U V : List Nat} {xa xb xc pq : Nat} (hZ : Zk (A ++ xa :: (M ++ T))) (hM : Mi f mn (A ++ xa :: (M ++ T))) (hT : T[0]? = some xb) (hc0 : (A ++ xa :: (M ++ T))[pq]? = some xc) (hpc : pq ≤ A.length ∨ A.length + 1 + M.length ≤ pq) (eUV : A ++ xa :: T = U ++ xc :: V) : om_M l y_m_carry b_m_carry 9 (some .int) ({ frames := 2, cells := 0, slots := 0, locals := 45 }) B [.int (nI xa), .int (nI xb), .int (nI xc)] (th, f, mn, g) (om_Qi B (fun r u => r = nI M.length ∧ ∃ f' g', u = (0, f', mn, g') ∧ Mi f' mn (U ++ xc :: (M ++ V)))) := by
  refine om_mi (by decide) rfl hB (Nat.le_of_ble_eq_true rfl) (fun p e R s m args below meth c Q ls hR X hml hP hS hl hend => ?_)
  have hx := X.1
  have hb := X.2.1
  have hl : lv_has ls 9 [(0, .ref (om_h B)), (1, .int (nI xa)), (2, .int (nI xb)), (3, .int (nI xc))] := hl
  have hmn := hM.1
  have hZl := hZ.2.2.1
  have ha : (A ++ xa :: (M ++ T))[A.length]? = some xa := app_at _ _ _
  have hb0 : (A ++ xa :: (M ++ T))[A.length + 1 + M.length]? = some xb := by
    rw [show A ++ xa :: (M ++ T) = (A ++ xa :: M) ++ T by simp, show A.length + 1 + M.length = (A ++ xa :: M).length by simp; omega, List.getElem?_append_right (Nat.le_refl _), Nat.sub_self]; exact hT
  have hpa := gt_lt ha
  have hpb := gt_lt hb0
  have hpq := gt_lt hc0
  refine lv_aload_n hx hb d_m_carry_0 rfl (lv_at hl 0 rfl) ?_
  refine lv_iload_n hx hb d_m_carry_1 rfl (lv_at hl 1 rfl) ?_
  refine lv_iload_n hx hb d_m_carry_2 rfl (lv_at hl 2 rfl) ?_
  refine lv_iload_n hx hb d_m_carry_3 rfl (lv_at hl 3 rfl) ?_
  refine om_cz (n := 3) (As := [.int (nI xa), .int (nI xb), .int (nI xc)]) (rest := []) X hml (c_m_lacks l B hB hZ hM ha hb0 hc0) (gw_W X.2.2.2.1 ml_m_27 im_m_lacks se_m_lacks k_m_lacks in_m (by decide +kernel) rfl rfl (by rw [hR]; exact ⟨Nat.le_of_ble_eq_true rfl, Nat.le_of_ble_eq_true rfl⟩)) hP hS hl.1 rfl rfl (Nat.le_of_ble_eq_true rfl) d_m_carry_4 (fun r u' H locs hq hP hS => ?_)
  obtain ⟨hr0, hu0⟩ := hq
  rw [hr0]
  rw [hu0] at hP
  refine z_eq (tgt := 12) hx hb d_m_carry_7 (by decide) (fun qz => ?_) (fun qz => ?_)
  · have hmlen : (A ++ xa :: (M ++ T)).length = A.length + 1 + M.length + T.length := by simp; omega
    refine lv_aload_n hx hb d_m_carry_12 rfl (lv_at hl 0 rfl) ?_
    refine lv_iload_n hx hb d_m_carry_13 rfl (lv_at hl 1 rfl) ?_
    refine om_ci (n := 1) (As := [.int (nI xa)]) (rest := []) X hml (c_m_find l B hB hZ hM ha) (gw_W X.2.2.2.1 ml_m_23 im_m_find se_m_find k_m_find in_m (by decide +kernel) rfl rfl (by rw [hR]; exact ⟨Nat.le_of_ble_eq_true rfl, Nat.le_of_ble_eq_true rfl⟩)) hP hS hl.1 rfl rfl (Nat.le_of_ble_eq_true rfl) d_m_carry_14 (fun r u' H locs hq hP hS => ?_)
    obtain ⟨hr0, hu0⟩ := hq
    rw [hr0]
    rw [hu0] at hP
    refine lv_istore (lv' := [(4, .int (nI A.length)), (0, .ref (om_h B)), (1, .int (nI xa)), (2, .int (nI xb)), (3, .int (nI xc))]) hx hb d_m_carry_17 hl (by decide) rfl (fun ls hl => ?_)
    refine lv_aload_n hx hb d_m_carry_19 rfl (lv_at hl 1 rfl) ?_
    refine lv_iload_n hx hb d_m_carry_20 rfl (lv_at hl 3 rfl) ?_
    refine om_ci (n := 1) (As := [.int (nI xb)]) (rest := []) X hml (c_m_find l B hB hZ hM hb0) (gw_W X.2.2.2.1 ml_m_23 im_m_find se_m_find k_m_find in_m (by decide +kernel) rfl rfl (by rw [hR]; exact ⟨Nat.le_of_ble_eq_true rfl, Nat.le_of_ble_eq_true rfl⟩)) hP hS hl.1 rfl rfl (Nat.le_of_ble_eq_true rfl) d_m_carry_21 (fun r u' H locs hq hP hS => ?_)
    obtain ⟨hr0, hu0⟩ := hq
    rw [hr0]
    rw [hu0] at hP
    refine lv_istore (lv' := [(5, .int (nI (A.length + 1 + M.length))), (4, .int (nI A.length)), (0, .ref (om_h B)), (1, .int (nI xa)), (2, .int (nI xb)), (3, .int (nI xc))]) hx hb d_m_carry_24 hl (by decide) rfl (fun ls hl => ?_)
    refine lv_aload_n hx hb d_m_carry_26 rfl (lv_at hl 2 rfl) ?_
    refine lv_iload_n hx hb d_m_carry_27 rfl (lv_at hl 5 rfl) ?_
    refine om_ci (n := 1) (As := [.int (nI xc)]) (rest := []) X hml (c_m_find l B hB hZ hM hc0) (gw_W X.2.2.2.1 ml_m_23 im_m_find se_m_find k_m_find in_m (by decide +kernel) rfl rfl (by rw [hR]; exact ⟨Nat.le_of_ble_eq_true rfl, Nat.le_of_ble_eq_true rfl⟩)) hP hS hl.1 rfl rfl (Nat.le_of_ble_eq_true rfl) d_m_carry_28 (fun r u' H locs hq hP hS => ?_)
    obtain ⟨hr0, hu0⟩ := hq
    rw [hr0]
    rw [hu0] at hP
    refine lv_istore (lv' := [(6, .int (nI pq)), (5, .int (nI (A.length + 1 + M.length))), (4, .int (nI A.length)), (0, .ref (om_h B)), (1, .int (nI xa)), (2, .int (nI xb)), (3, .int (nI xc))]) hx hb d_m_carry_31 hl (by decide) rfl (fun ls hl => ?_)
    refine lv_iload hx hb d_m_carry_33 (lv_at hl 2 rfl) ?_
    refine lv_iload hx hb d_m_carry_35 (lv_at hl 1 rfl) ?_
    refine nb_ge (tgt := 54) hx hb (by omega) (by omega) d_m_carry_37 (by decide) (fun q => ?_) (fun q => ?_)
    · exact absurd q (by omega)
    · refine lv_iload hx hb d_m_carry_40 (lv_at hl 0 rfl) ?_
      refine lv_iload hx hb d_m_carry_42 (lv_at hl 2 rfl) ?_
      refine nb_le (tgt := 56) hx hb (by omega) (by omega) d_m_carry_44 (by decide) (fun q2 => ?_) (fun q2 => ?_)
      · refine lv_iload hx hb d_m_carry_56 (lv_at hl 1 rfl) ?_
        refine lv_iload hx hb d_m_carry_58 (lv_at hl 2 rfl) ?_
        refine lv_isub hx hb d_m_carry_60 ?_
        refine tp_i (nI ((A.length + 1 + M.length) - A.length)) (pk_sub (by omega)) ?_
        refine lv_iconst (v := (nI 1)) hx hb d_m_carry_61 (by decide) ?_
        refine lv_isub hx hb d_m_carry_62 ?_
        refine tp_i (nI (((A.length + 1 + M.length) - A.length) - 1)) (pk_sub (by omega)) ?_
        refine tp_i (nI M.length) (congrArg nI (by omega)) ?_
        refine lv_istore (lv' := [(7, .int (nI M.length)), (6, .int (nI pq)), (5, .int (nI (A.length + 1 + M.length))), (4, .int (nI A.length)), (0, .ref (om_h B)), (1, .int (nI xa)), (2, .int (nI xb)), (3, .int (nI xc))]) hx hb d_m_carry_63 hl (by decide) rfl (fun ls hl => ?_)
        refine lv_iconst (v := (nI 0)) hx hb d_m_carry_65 (by decide) ?_
        refine lv_istore (lv' := [(8, .int (nI 0)), (7, .int (nI M.length)), (6, .int (nI pq)), (5, .int (nI (A.length + 1 + M.length))), (4, .int (nI A.length)), (0, .ref (om_h B)), (1, .int (nI xa)), (2, .int (nI xb)), (3, .int (nI xc))]) hx hb d_m_carry_66 hl (by decide) rfl (fun ls hl => ?_)
        have ph2 : ∀ (K M1 : List Nat) (j mk : Nat) (f2 g2 : Nat → Nat), M1 ++ K = M → j = M1.length → mk + K.length = mn → (∀ i y : Nat, M[i]? = some y → g2 i = y) → Mi f2 mk (U ++ xc :: (M1 ++ V)) → ∀ (H : Heap) (locs : List Loc), om_P B (0, f2, mk, g2) H → va_S (om_A B) s.heap H locs → ∀ (ls : Array Slot), lv_has ls 9 [(8, .int (nI j)), (0, .ref (om_h B)), (3, .int (nI xc)), (7, .int (nI M.length))] → W p l e R s m args below meth c H locs 0 0 Q (F0 m 108 ls []) := by
          intro K
          induction K with
          | nil =>
            intro M1 j mk f2 g2 hM1 hj hmk hg2 hMi H locs hP hS ls hl
            have hM2 : M1 = M := by rw [← hM1, List.append_nil]
            have hMl : M1.length = M.length := by rw [hM2]
            refine lv_iload hx hb d_m_carry_108 (lv_at hl 0 rfl) ?_
            refine lv_iload hx hb d_m_carry_110 (lv_at hl 3 rfl) ?_
            refine nb_ge (tgt := 142) hx hb (by omega) (by omega) d_m_carry_112 (by decide) (fun q5 => ?_) (fun q5 => ?_)
            · refine lv_iload hx hb d_m_carry_142 (lv_at hl 3 rfl) ?_
              exact hend _ _ _ _ _ _ hP hS d_m_carry_144 ⟨rfl, f2, g2, by rw [show mk = mn from hmk], by rw [← hM2, show mn = mk from hmk.symm]; exact hMi⟩
            · exact absurd q5 (by omega)
          | cons y K ih =>
            intro M1 j mk f2 g2 hM1 hj hmk hg2 hMi H locs hP hS ls hl
            have hMl : M1.length + (K.length + 1) = M.length := by rw [← hM1, List.length_append, List.length_cons]
            rw [List.length_cons] at hmk
            have hZ2 := Zk.seg hZ eUV hM1
            have hxc2 : (U ++ xc :: (M1 ++ V))[U.length]? = some xc := app_at _ _ _
            have hul := gt_lt hxc2
            have hmk2 := hMi.1
            have hz3 := hZ2.2.2.1
            have hgy : g2 j = y := hg2 j y (by rw [← hM1, hj]; exact app_at _ _ _)
            refine lv_iload hx hb d_m_carry_108 (lv_at hl 0 rfl) ?_
            refine lv_iload hx hb d_m_carry_110 (lv_at hl 3 rfl) ?_
            refine nb_ge (tgt := 142) hx hb (by omega) (by omega) d_m_carry_112 (by decide) (fun q5 => ?_) (fun q5 => ?_)
            · exact absurd q5 (by omega)
            · refine lv_aload_n hx hb d_m_carry_115 rfl (lv_at hl 1 rfl) ?_
              refine lv_aload_n hx hb d_m_carry_116 rfl (lv_at hl 1 rfl) ?_
              refine g_aside X hP d_m_carry_117 ?_
              refine lv_iload hx hb d_m_carry_120 (lv_at hl 0 rfl) ?_
              refine a_aside X hP (by omega) d_m_carry_122 ?_
              refine lv_aload_n hx hb d_m_carry_123 rfl (lv_at hl 1 rfl) ?_
              refine lv_iload_n hx hb d_m_carry_124 rfl (lv_at hl 2 rfl) ?_
              refine om_ci (n := 1) (As := [.int (nI xc)]) (rest := [.int (nI (g2 j)), .ref (om_h B)]) X hml (c_m_find l B hB hZ2 hMi hxc2) (gw_W X.2.2.2.1 ml_m_23 im_m_find se_m_find k_m_find in_m (by decide +kernel) rfl rfl (by rw [hR]; exact ⟨Nat.le_of_ble_eq_true rfl, Nat.le_of_ble_eq_true rfl⟩)) hP hS hl.1 rfl rfl (Nat.le_of_ble_eq_true rfl) d_m_carry_125 (fun r u' H locs hq hP hS => ?_)
              obtain ⟨hr1, hu1⟩ := hq
              rw [hr1]
              rw [hu1] at hP
              refine lv_iconst (v := (nI 1)) hx hb d_m_carry_128 (by decide) ?_
              refine lv_iadd hx hb d_m_carry_129 ?_
              refine tp_i (nI (U.length + 1)) (nI_add _ _) ?_
              refine lv_iload hx hb d_m_carry_130 (lv_at hl 0 rfl) ?_
              refine lv_iadd hx hb d_m_carry_132 ?_
              refine tp_i (nI ((U.length + 1) + j)) (nI_add _ _) ?_
              have hpl2 : (U.length + 1) + j ≤ mk := by rw [hmk2]; simp; omega
              rw [hgy]
              refine om_cv (n := 2) (As := [.int (nI y), .int (nI ((U.length + 1) + j))]) (rest := []) X hml (c_m_put l B hB hZ2 hMi hpl2 (by omega)) (gw_W X.2.2.2.1 ml_m_35 im_m_put se_m_put k_m_put in_m (by decide +kernel) rfl rfl (by rw [hR]; exact ⟨Nat.le_of_ble_eq_true rfl, Nat.le_of_ble_eq_true rfl⟩)) hP hS hl.1 rfl rfl (Nat.le_of_ble_eq_true rfl) d_m_carry_133 (fun u' H locs hq hP hS => ?_)
              obtain ⟨f3, hu3, hM3⟩ := hq
              rw [hu3] at hP
              rw [show (U ++ xc :: (M1 ++ V)).insertIdx (U.length + 1 + j) y = U ++ xc :: ((M1 ++ [y]) ++ V) by
                rw [show U ++ xc :: (M1 ++ V) = (U ++ xc :: M1) ++ V by simp, show U.length + 1 + j = (U ++ xc :: M1).length by simp; omega, ins_app]; simp] at hM3
              refine lv_iinc (v := nI (j + 1)) (lv' := [(8, .int (nI (j + 1))), (0, .ref (om_h B)), (3, .int (nI xc)), (7, .int (nI M.length))]) hx hb d_m_carry_136 hl (k := 0) rfl (nI_1 _) (by decide) rfl (fun ls hl => ?_)
              refine lv_goto (tgt := 108) hx hb d_m_carry_139 (by decide) ?_
              exact ih (M1 ++ [y]) (j + 1) (mk + 1) f3 g2 (by rw [← hM1]; simp) (by rw [hj]; simp) (by omega) hg2 hM3 _ _ hP hS ls (lv_sub hl [0, 1, 2, 3] rfl)
        have ph1 : ∀ (K M1 : List Nat) (j mk : Nat) (f2 g2 : Nat → Nat), M1 ++ K = M → j = M1.length → mk + M1.length = mn → (∀ i y : Nat, M1[i]? = some y → g2 i = y) → Zk (A ++ xa :: (K ++ T)) → Mi f2 mk (A ++ xa :: (K ++ T)) → ∀ (H : Heap) (locs : List Loc), om_P B (0, f2, mk, g2) H → va_S (om_A B) s.heap H locs → ∀ (ls : Array Slot), lv_has ls 9 [(8, .int (nI j)), (0, .ref (om_h B)), (3, .int (nI xc)), (4, .int (nI A.length)), (7, .int (nI M.length))] → W p l e R s m args below meth c H locs 0 0 Q (F0 m 68 ls []) := by
          intro K
          induction K with
          | nil =>
            intro M1 j mk f2 g2 hM1 hj hmk hg2 hZ2 hMi H locs hP hS ls hl
            have hM2 : M1 = M := by rw [← hM1, List.append_nil]
            have hMl : M1.length = M.length := by rw [hM2]
            refine lv_iload hx hb d_m_carry_68 (lv_at hl 0 rfl) ?_
            refine lv_iload hx hb d_m_carry_70 (lv_at hl 4 rfl) ?_
            refine nb_ge (tgt := 105) hx hb (by omega) (by omega) d_m_carry_72 (by decide) (fun q5 => ?_) (fun q5 => ?_)
            · refine lv_iconst (v := (nI 0)) hx hb d_m_carry_105 (by decide) ?_
              refine lv_istore (lv' := [(8, .int (nI 0)), (0, .ref (om_h B)), (3, .int (nI xc)), (4, .int (nI A.length)), (7, .int (nI M.length))]) hx hb d_m_carry_106 hl (by decide) rfl (fun ls hl => ?_)
              exact ph2 M [] 0 mk f2 g2 rfl rfl (by omega) (by rw [← hM2]; exact hg2) (by rw [show U ++ xc :: ([] ++ V) = A ++ xa :: ([] ++ T) from eUV.symm]; exact hMi) _ _ hP hS ls (lv_sub hl [0, 1, 2, 4] rfl)
            · exact absurd q5 (by omega)
          | cons y K ih =>
            intro M1 j mk f2 g2 hM1 hj hmk hg2 hZ2 hMi H locs hP hS ls hl
            have hMl : M1.length + (K.length + 1) = M.length := by rw [← hM1, List.length_append, List.length_cons]
            have hy : (A ++ xa :: ((y :: K) ++ T))[A.length + 1]? = some y := app_nx _ _ _
            have hyl := gt_lt hy
            have hmk2 := hMi.1
            have hz3 := hZ2.2.2.1
            have hfy := hMi.2 _ _ hy
            refine lv_iload hx hb d_m_carry_68 (lv_at hl 0 rfl) ?_
            refine lv_iload hx hb d_m_carry_70 (lv_at hl 4 rfl) ?_
            refine nb_ge (tgt := 105) hx hb (by omega) (by omega) d_m_carry_72 (by decide) (fun q5 => ?_) (fun q5 => ?_)
            · exact absurd q5 (by omega)
            · refine lv_aload_n hx hb d_m_carry_75 rfl (lv_at hl 1 rfl) ?_
              refine g_aside X hP d_m_carry_76 ?_
              refine lv_iload hx hb d_m_carry_79 (lv_at hl 0 rfl) ?_
              refine lv_aload_n hx hb d_m_carry_81 rfl (lv_at hl 1 rfl) ?_
              refine g_line X hP d_m_carry_82 ?_
              refine lv_iload hx hb d_m_carry_85 (lv_at hl 3 rfl) ?_
              refine lv_iconst (v := (nI 1)) hx hb d_m_carry_87 (by decide) ?_
              refine lv_iadd hx hb d_m_carry_88 ?_
              refine tp_i (nI (A.length + 1)) (nI_add _ _) ?_
              refine a_line X hP (by omega) d_m_carry_89 ?_
              refine s_aside X hP hS (by omega) d_m_carry_90 (fun H locs hP hS => ?_)
              refine lv_aload_n hx hb d_m_carry_91 rfl (lv_at hl 1 rfl) ?_
              refine lv_iload hx hb d_m_carry_92 (lv_at hl 3 rfl) ?_
              refine lv_iconst (v := (nI 1)) hx hb d_m_carry_94 (by decide) ?_
              refine lv_iadd hx hb d_m_carry_95 ?_
              refine tp_i (nI (A.length + 1)) (nI_add _ _) ?_
              refine om_cv (n := 1) (As := [.int (nI (A.length + 1))]) (rest := []) X hml (c_m_drop l B hB hZ2 hMi (by omega)) (gw_W X.2.2.2.1 ml_m_39 im_m_drop se_m_drop k_m_drop in_m (by decide +kernel) rfl rfl (by rw [hR]; exact ⟨Nat.le_of_ble_eq_true rfl, Nat.le_of_ble_eq_true rfl⟩)) hP hS hl.1 rfl rfl (Nat.le_of_ble_eq_true rfl) d_m_carry_96 (fun u' H locs hq hP hS => ?_)
              obtain ⟨f3, hu3, hM3⟩ := hq
              rw [hu3] at hP
              have hZ3 := hZ2.del (q := A.length + 1) (by omega)
              rw [show (A ++ xa :: ((y :: K) ++ T)).eraseIdx (A.length + 1) = A ++ xa :: (K ++ T) from era_seg _ _ _ _] at hM3 hZ3
              refine lv_iinc (v := nI (j + 1)) (lv' := [(8, .int (nI (j + 1))), (0, .ref (om_h B)), (3, .int (nI xc)), (4, .int (nI A.length)), (7, .int (nI M.length))]) hx hb d_m_carry_99 hl (k := 0) rfl (nI_1 _) (by decide) rfl (fun ls hl => ?_)
              refine lv_goto (tgt := 68) hx hb d_m_carry_102 (by decide) ?_
              refine ih (M1 ++ [y]) (j + 1) (mk - 1) f3 _ (by rw [← hM1]; simp) (by rw [hj]; simp) (by rw [List.length_append]; simp; omega) (fun i z hz => ?_) hZ3 hM3 _ _ hP hS ls (lv_sub hl [0, 1, 2, 3, 4] rfl)
              by_cases c1 : i = j
              · rw [c1, up_s, hfy]
                rw [c1, hj] at hz
                exact Option.some.inj ((app_at M1 y []).symm.trans hz)
              · have hil := gt_lt hz
                rw [List.length_append] at hil
                simp at hil
                rw [up_n c1]
                exact hg2 i z (by rw [← List.getElem?_append_left (l₂ := [y]) (by omega)]; exact hz)
        exact ph1 M [] 0 mn f g rfl rfl (by simp) (fun i y hy => by cases hy) hZ hM _ _ hP hS ls (lv_sub hl [0, 5, 8, 4, 1] rfl)
      · refine lv_iload hx hb d_m_carry_47 (lv_at hl 0 rfl) ?_
        refine lv_iload hx hb d_m_carry_49 (lv_at hl 1 rfl) ?_
        refine nb_ge (tgt := 56) hx hb (by omega) (by omega) d_m_carry_51 (by decide) (fun q3 => ?_) (fun q3 => ?_)
        · refine lv_iload hx hb d_m_carry_56 (lv_at hl 1 rfl) ?_
          refine lv_iload hx hb d_m_carry_58 (lv_at hl 2 rfl) ?_
          refine lv_isub hx hb d_m_carry_60 ?_
          refine tp_i (nI ((A.length + 1 + M.length) - A.length)) (pk_sub (by omega)) ?_
          refine lv_iconst (v := (nI 1)) hx hb d_m_carry_61 (by decide) ?_
          refine lv_isub hx hb d_m_carry_62 ?_
          refine tp_i (nI (((A.length + 1 + M.length) - A.length) - 1)) (pk_sub (by omega)) ?_
          refine tp_i (nI M.length) (congrArg nI (by omega)) ?_
          refine lv_istore (lv' := [(7, .int (nI M.length)), (6, .int (nI pq)), (5, .int (nI (A.length + 1 + M.length))), (4, .int (nI A.length)), (0, .ref (om_h B)), (1, .int (nI xa)), (2, .int (nI xb)), (3, .int (nI xc))]) hx hb d_m_carry_63 hl (by decide) rfl (fun ls hl => ?_)
          refine lv_iconst (v := (nI 0)) hx hb d_m_carry_65 (by decide) ?_
          refine lv_istore (lv' := [(8, .int (nI 0)), (7, .int (nI M.length)), (6, .int (nI pq)), (5, .int (nI (A.length + 1 + M.length))), (4, .int (nI A.length)), (0, .ref (om_h B)), (1, .int (nI xa)), (2, .int (nI xb)), (3, .int (nI xc))]) hx hb d_m_carry_66 hl (by decide) rfl (fun ls hl => ?_)
          have ph2 : ∀ (K M1 : List Nat) (j mk : Nat) (f2 g2 : Nat → Nat), M1 ++ K = M → j = M1.length → mk + K.length = mn → (∀ i y : Nat, M[i]? = some y → g2 i = y) → Mi f2 mk (U ++ xc :: (M1 ++ V)) → ∀ (H : Heap) (locs : List Loc), om_P B (0, f2, mk, g2) H → va_S (om_A B) s.heap H locs → ∀ (ls : Array Slot), lv_has ls 9 [(8, .int (nI j)), (0, .ref (om_h B)), (3, .int (nI xc)), (7, .int (nI M.length))] → W p l e R s m args below meth c H locs 0 0 Q (F0 m 108 ls []) := by
            intro K
            induction K with
            | nil =>
              intro M1 j mk f2 g2 hM1 hj hmk hg2 hMi H locs hP hS ls hl
              have hM2 : M1 = M := by rw [← hM1, List.append_nil]
              have hMl : M1.length = M.length := by rw [hM2]
              refine lv_iload hx hb d_m_carry_108 (lv_at hl 0 rfl) ?_
              refine lv_iload hx hb d_m_carry_110 (lv_at hl 3 rfl) ?_
              refine nb_ge (tgt := 142) hx hb (by omega) (by omega) d_m_carry_112 (by decide) (fun q5 => ?_) (fun q5 => ?_)
              · refine lv_iload hx hb d_m_carry_142 (lv_at hl 3 rfl) ?_
                exact hend _ _ _ _ _ _ hP hS d_m_carry_144 ⟨rfl, f2, g2, by rw [show mk = mn from hmk], by rw [← hM2, show mn = mk from hmk.symm]; exact hMi⟩
              · exact absurd q5 (by omega)
            | cons y K ih =>
              intro M1 j mk f2 g2 hM1 hj hmk hg2 hMi H locs hP hS ls hl
              have hMl : M1.length + (K.length + 1) = M.length := by rw [← hM1, List.length_append, List.length_cons]
              rw [List.length_cons] at hmk
              have hZ2 := Zk.seg hZ eUV hM1
              have hxc2 : (U ++ xc :: (M1 ++ V))[U.length]? = some xc := app_at _ _ _
              have hul := gt_lt hxc2
              have hmk2 := hMi.1
              have hz3 := hZ2.2.2.1
              have hgy : g2 j = y := hg2 j y (by rw [← hM1, hj]; exact app_at _ _ _)
              refine lv_iload hx hb d_m_carry_108 (lv_at hl 0 rfl) ?_
              refine lv_iload hx hb d_m_carry_110 (lv_at hl 3 rfl) ?_
              refine nb_ge (tgt := 142) hx hb (by omega) (by omega) d_m_carry_112 (by decide) (fun q5 => ?_) (fun q5 => ?_)
              · exact absurd q5 (by omega)
              · refine lv_aload_n hx hb d_m_carry_115 rfl (lv_at hl 1 rfl) ?_
                refine lv_aload_n hx hb d_m_carry_116 rfl (lv_at hl 1 rfl) ?_
                refine g_aside X hP d_m_carry_117 ?_
                refine lv_iload hx hb d_m_carry_120 (lv_at hl 0 rfl) ?_
                refine a_aside X hP (by omega) d_m_carry_122 ?_
                refine lv_aload_n hx hb d_m_carry_123 rfl (lv_at hl 1 rfl) ?_
                refine lv_iload_n hx hb d_m_carry_124 rfl (lv_at hl 2 rfl) ?_
                refine om_ci (n := 1) (As := [.int (nI xc)]) (rest := [.int (nI (g2 j)), .ref (om_h B)]) X hml (c_m_find l B hB hZ2 hMi hxc2) (gw_W X.2.2.2.1 ml_m_23 im_m_find se_m_find k_m_find in_m (by decide +kernel) rfl rfl (by rw [hR]; exact ⟨Nat.le_of_ble_eq_true rfl, Nat.le_of_ble_eq_true rfl⟩)) hP hS hl.1 rfl rfl (Nat.le_of_ble_eq_true rfl) d_m_carry_125 (fun r u' H locs hq hP hS => ?_)
                obtain ⟨hr1, hu1⟩ := hq
                rw [hr1]
                rw [hu1] at hP
                refine lv_iconst (v := (nI 1)) hx hb d_m_carry_128 (by decide) ?_
                refine lv_iadd hx hb d_m_carry_129 ?_
                refine tp_i (nI (U.length + 1)) (nI_add _ _) ?_
                refine lv_iload hx hb d_m_carry_130 (lv_at hl 0 rfl) ?_
                refine lv_iadd hx hb d_m_carry_132 ?_
                refine tp_i (nI ((U.length + 1) + j)) (nI_add _ _) ?_
                have hpl2 : (U.length + 1) + j ≤ mk := by rw [hmk2]; simp; omega
                rw [hgy]
                refine om_cv (n := 2) (As := [.int (nI y), .int (nI ((U.length + 1) + j))]) (rest := []) X hml (c_m_put l B hB hZ2 hMi hpl2 (by omega)) (gw_W X.2.2.2.1 ml_m_35 im_m_put se_m_put k_m_put in_m (by decide +kernel) rfl rfl (by rw [hR]; exact ⟨Nat.le_of_ble_eq_true rfl, Nat.le_of_ble_eq_true rfl⟩)) hP hS hl.1 rfl rfl (Nat.le_of_ble_eq_true rfl) d_m_carry_133 (fun u' H locs hq hP hS => ?_)
                obtain ⟨f3, hu3, hM3⟩ := hq
                rw [hu3] at hP
                rw [show (U ++ xc :: (M1 ++ V)).insertIdx (U.length + 1 + j) y = U ++ xc :: ((M1 ++ [y]) ++ V) by
                  rw [show U ++ xc :: (M1 ++ V) = (U ++ xc :: M1) ++ V by simp, show U.length + 1 + j = (U ++ xc :: M1).length by simp; omega, ins_app]; simp] at hM3
                refine lv_iinc (v := nI (j + 1)) (lv' := [(8, .int (nI (j + 1))), (0, .ref (om_h B)), (3, .int (nI xc)), (7, .int (nI M.length))]) hx hb d_m_carry_136 hl (k := 0) rfl (nI_1 _) (by decide) rfl (fun ls hl => ?_)
                refine lv_goto (tgt := 108) hx hb d_m_carry_139 (by decide) ?_
                exact ih (M1 ++ [y]) (j + 1) (mk + 1) f3 g2 (by rw [← hM1]; simp) (by rw [hj]; simp) (by omega) hg2 hM3 _ _ hP hS ls (lv_sub hl [0, 1, 2, 3] rfl)
          have ph1 : ∀ (K M1 : List Nat) (j mk : Nat) (f2 g2 : Nat → Nat), M1 ++ K = M → j = M1.length → mk + M1.length = mn → (∀ i y : Nat, M1[i]? = some y → g2 i = y) → Zk (A ++ xa :: (K ++ T)) → Mi f2 mk (A ++ xa :: (K ++ T)) → ∀ (H : Heap) (locs : List Loc), om_P B (0, f2, mk, g2) H → va_S (om_A B) s.heap H locs → ∀ (ls : Array Slot), lv_has ls 9 [(8, .int (nI j)), (0, .ref (om_h B)), (3, .int (nI xc)), (4, .int (nI A.length)), (7, .int (nI M.length))] → W p l e R s m args below meth c H locs 0 0 Q (F0 m 68 ls []) := by
            intro K
            induction K with
            | nil =>
              intro M1 j mk f2 g2 hM1 hj hmk hg2 hZ2 hMi H locs hP hS ls hl
              have hM2 : M1 = M := by rw [← hM1, List.append_nil]
              have hMl : M1.length = M.length := by rw [hM2]
              refine lv_iload hx hb d_m_carry_68 (lv_at hl 0 rfl) ?_
              refine lv_iload hx hb d_m_carry_70 (lv_at hl 4 rfl) ?_
              refine nb_ge (tgt := 105) hx hb (by omega) (by omega) d_m_carry_72 (by decide) (fun q5 => ?_) (fun q5 => ?_)
              · refine lv_iconst (v := (nI 0)) hx hb d_m_carry_105 (by decide) ?_
                refine lv_istore (lv' := [(8, .int (nI 0)), (0, .ref (om_h B)), (3, .int (nI xc)), (4, .int (nI A.length)), (7, .int (nI M.length))]) hx hb d_m_carry_106 hl (by decide) rfl (fun ls hl => ?_)
                exact ph2 M [] 0 mk f2 g2 rfl rfl (by omega) (by rw [← hM2]; exact hg2) (by rw [show U ++ xc :: ([] ++ V) = A ++ xa :: ([] ++ T) from eUV.symm]; exact hMi) _ _ hP hS ls (lv_sub hl [0, 1, 2, 4] rfl)
              · exact absurd q5 (by omega)
            | cons y K ih =>
              intro M1 j mk f2 g2 hM1 hj hmk hg2 hZ2 hMi H locs hP hS ls hl
              have hMl : M1.length + (K.length + 1) = M.length := by rw [← hM1, List.length_append, List.length_cons]
              have hy : (A ++ xa :: ((y :: K) ++ T))[A.length + 1]? = some y := app_nx _ _ _
              have hyl := gt_lt hy
              have hmk2 := hMi.1
              have hz3 := hZ2.2.2.1
              have hfy := hMi.2 _ _ hy
              refine lv_iload hx hb d_m_carry_68 (lv_at hl 0 rfl) ?_
              refine lv_iload hx hb d_m_carry_70 (lv_at hl 4 rfl) ?_
              refine nb_ge (tgt := 105) hx hb (by omega) (by omega) d_m_carry_72 (by decide) (fun q5 => ?_) (fun q5 => ?_)
              · exact absurd q5 (by omega)
              · refine lv_aload_n hx hb d_m_carry_75 rfl (lv_at hl 1 rfl) ?_
                refine g_aside X hP d_m_carry_76 ?_
                refine lv_iload hx hb d_m_carry_79 (lv_at hl 0 rfl) ?_
                refine lv_aload_n hx hb d_m_carry_81 rfl (lv_at hl 1 rfl) ?_
                refine g_line X hP d_m_carry_82 ?_
                refine lv_iload hx hb d_m_carry_85 (lv_at hl 3 rfl) ?_
                refine lv_iconst (v := (nI 1)) hx hb d_m_carry_87 (by decide) ?_
                refine lv_iadd hx hb d_m_carry_88 ?_
                refine tp_i (nI (A.length + 1)) (nI_add _ _) ?_
                refine a_line X hP (by omega) d_m_carry_89 ?_
                refine s_aside X hP hS (by omega) d_m_carry_90 (fun H locs hP hS => ?_)
                refine lv_aload_n hx hb d_m_carry_91 rfl (lv_at hl 1 rfl) ?_
                refine lv_iload hx hb d_m_carry_92 (lv_at hl 3 rfl) ?_
                refine lv_iconst (v := (nI 1)) hx hb d_m_carry_94 (by decide) ?_
                refine lv_iadd hx hb d_m_carry_95 ?_
                refine tp_i (nI (A.length + 1)) (nI_add _ _) ?_
                refine om_cv (n := 1) (As := [.int (nI (A.length + 1))]) (rest := []) X hml (c_m_drop l B hB hZ2 hMi (by omega)) (gw_W X.2.2.2.1 ml_m_39 im_m_drop se_m_drop k_m_drop in_m (by decide +kernel) rfl rfl (by rw [hR]; exact ⟨Nat.le_of_ble_eq_true rfl, Nat.le_of_ble_eq_true rfl⟩)) hP hS hl.1 rfl rfl (Nat.le_of_ble_eq_true rfl) d_m_carry_96 (fun u' H locs hq hP hS => ?_)
                obtain ⟨f3, hu3, hM3⟩ := hq
                rw [hu3] at hP
                have hZ3 := hZ2.del (q := A.length + 1) (by omega)
                rw [show (A ++ xa :: ((y :: K) ++ T)).eraseIdx (A.length + 1) = A ++ xa :: (K ++ T) from era_seg _ _ _ _] at hM3 hZ3
                refine lv_iinc (v := nI (j + 1)) (lv' := [(8, .int (nI (j + 1))), (0, .ref (om_h B)), (3, .int (nI xc)), (4, .int (nI A.length)), (7, .int (nI M.length))]) hx hb d_m_carry_99 hl (k := 0) rfl (nI_1 _) (by decide) rfl (fun ls hl => ?_)
                refine lv_goto (tgt := 68) hx hb d_m_carry_102 (by decide) ?_
                refine ih (M1 ++ [y]) (j + 1) (mk - 1) f3 _ (by rw [← hM1]; simp) (by rw [hj]; simp) (by rw [List.length_append]; simp; omega) (fun i z hz => ?_) hZ3 hM3 _ _ hP hS ls (lv_sub hl [0, 1, 2, 3, 4] rfl)
                by_cases c1 : i = j
                · rw [c1, up_s, hfy]
                  rw [c1, hj] at hz
                  exact Option.some.inj ((app_at M1 y []).symm.trans hz)
                · have hil := gt_lt hz
                  rw [List.length_append] at hil
                  simp at hil
                  rw [up_n c1]
                  exact hg2 i z (by rw [← List.getElem?_append_left (l₂ := [y]) (by omega)]; exact hz)
          exact ph1 M [] 0 mn f g rfl rfl (by simp) (fun i y hy => by cases hy) hZ hM _ _ hP hS ls (lv_sub hl [0, 5, 8, 4, 1] rfl)
        · exact absurd q3 (by omega)
  · cases qz
end
section
/-! 29: constructors -/
/-- the last of a row of cells is another now -/
theorem jn_D {A : Nat → Prop} {ws : va_W} {q : Nat} {e e' : va_E} (hD : va_D A (ws ++ [(q, e)])) : va_D A (ws ++ [(q, e')]) := by
  have key : ∀ (i : Nat) (x : Nat × va_E), (ws ++ [(q, e')])[i]? = some x → ∃ x' : Nat × va_E, (ws ++ [(q, e)])[i]? = some x' ∧ x'.1 = x.1 := by
    intro i x hx
    rcases Nat.lt_or_ge i ws.length with h | h
    · rw [List.getElem?_append_left h] at hx
      exact ⟨x, by rw [List.getElem?_append_left h]; exact hx, rfl⟩
    · rw [List.getElem?_append_right h] at hx
      have hz : i - ws.length < 1 := (List.getElem?_eq_some_iff.mp hx).1
      have hi : i - ws.length = 0 := by omega
      rw [hi] at hx
      cases hx
      exact ⟨(q, e), by rw [List.getElem?_append_right h, hi]; rfl, rfl⟩
  refine ⟨fun i j x y hi hj h => ?_, fun k x hx => ?_⟩
  · obtain ⟨x', a1, a2⟩ := key i x hi
    obtain ⟨y', b1, b2⟩ := key j y hj
    exact hD.1 i j x' y' a1 b1 (by rw [a2, b2]; exact h)
  · obtain ⟨x', a1, a2⟩ := key k x hx
    rw [← a2]; exact hD.2 k x' a1
theorem jn_P {A : Nat → Prop} {D : va_G} {cl : List vw_C} {ws : va_W} {q : Nat} {e e' : va_E} {H H1 : Heap} (hP : va_P D cl (ws ++ [(q, e)]) H) (hD : va_D A (ws ++ [(q, e)])) (hk : ∀ z : Nat, z < H.size → ¬ z = q → H1[z]? = H[z]?) (h1 : va_P D cl [(q, e')] H1) : va_P D cl (ws ++ [(q, e')]) H1 := by
  have hPw : va_P D cl ws H := fun i x hx => hP i x (by rw [List.getElem?_append_left (List.getElem?_eq_some_iff.mp hx).1]; exact hx)
  refine (hPw.kept (fun i x hx => hk x.1 ((hPw i x hx).lt) (fun hq => ?_))).app h1
  have hi := (List.getElem?_eq_some_iff.mp hx).1
  have := hD.1 i ws.length x (q, e) (by rw [List.getElem?_append_left hi]; exact hx) (by rw [List.getElem?_append_right (Nat.le_refl _), Nat.sub_self]; rfl) hq
  omega
set_option maxHeartbeats 4000000 in
set_option maxRecDepth 100000 in
/-- Stamp(k) -/
theorem c_t_init (l : Launch) (D : va_G) (q k : Nat) : Met l y_t_init (.code y_t_init b_t_init 2 none :: GW) ({ frames := 1, cells := 0, slots := 0, locals := 20 }) (va_Pc [.ref q, .int (nI k)] (fun U => va_K D ol_cl [] U ∧ va_P D ol_cl [(q, .inr (0, [.int (nI 0), .long (lN 0), .null, .null, .int (nI 0)]))] U.heap)) (va_Qv (fun _ : Unit => True) (fun _ t => va_P D ol_cl [(q, .inr (0, [.int (nI k), .long (lN 0), .null, .null, .int (nI 0)]))] t.heap) (fun z => z = q)) 0 0 (fun z => z = q) := by
  refine Met.ofW (cc := b_t_init) (maxL := 2) (ret := none) (by decide) rfl ?_
  intro p e s m args below meth c s₁ B hml hv
  obtain ⟨rfl, hK, hP⟩ := hv
  have hx := B.exec
  have hb := B.bytes
  have hr := B.returns
  have hts0 := atoms_spec (ws := .code y_t_init b_t_init 2 none :: GW) B.pre
  have hts : ∀ w ∈ GW, w.before _ s = true := fun w hw => hts0 w (List.mem_cons_of_mem _ hw)
  have hown : s.vm.findClass "OrderLine$Stamp" = some m.cls := findClass_of_methodNamed B.named
  have hlocks := B.notSynchronized
  have hin : meth.name = "<init>" := (name_of_methodNamed B.named B.method).1
  have hD : va_D (fun z => z = q) [(q, .inr (0, [.int (nI 0), .long (lN 0), .null, .null, .int (nI 0)]))] := ⟨fun i j a b hi hj _ => by
    have h1 := (List.getElem?_eq_some_iff.mp hi).1
    have h2 := (List.getElem?_eq_some_iff.mp hj).1
    simp at h1 h2
    omega, fun i x hx => by
    have h1 := (List.getElem?_eq_some_iff.mp hx).1
    rw [show i = 0 by simp at h1; omega] at hx
    cases hx; rfl⟩
  have hS : va_S (fun z => z = q) s.heap s.heap [] := va_S.rf
  have hP : va_P D ol_cl [(q, .inr (0, [.int (nI 0), .long (lN 0), .null, .null, .int (nI 0)]))] s.heap := hP
  have hl := lv_entry ([.ref q, .int (nI k)]) (n := 2) (Nat.le_of_ble_eq_true rfl)
  rw [lg_entry_eq]
  generalize (lg_sl ([.ref q, .int (nI k)]) ++ List.replicate (2 - (lg_sl ([.ref q, .int (nI k)])).length) Slot.unset).toArray = ls at hl ⊢
  have hl : lv_has ls 2 [(0, .ref q), (1, .int (nI k))] := hl
  refine lv_aload_n hx hb d_t_init_0 rfl (lv_at hl 0 rfl) ?_
  refine W.objInit hx hb hown (hts (.methodLink "OrderLine$Stamp" 1 Lib.objectInit) (by decide +kernel)) (hts (.instanceMethod Lib.objectInit) (by decide +kernel)) (hts (.code Lib.objectInit ⟨#[0xb1]⟩ 1 none) (by decide +kernel)) rfl (by rw [hml]; exact hl.1) rfl d_t_init_1 (Nat.le_of_ble_eq_true rfl) (Nat.le_of_ble_eq_true rfl) ?_
  refine W.eq (g2 := F0 m 4 ls []) rfl ?_
  refine lv_aload_n hx hb d_t_init_4 rfl (lv_at hl 0 rfl) ?_
  refine lv_iload_n hx hb d_t_init_5 rfl (lv_at hl 1 rfl) ?_
  refine va_putF (own := "OrderLine$Stamp") (ref := "OrderLine$Stamp") (D := D) (ci := 0) (v := .int (nI k)) (ty := .int) (C := R_t) (T := F_t) (N := 5) hx hb hts i_t t_t t_t_ok n_t hown hK hP hD hS 0 rfl rfl 0 (by decide) (hts (.fieldLink "OrderLine$Stamp" 7 "OrderLine$Stamp" "number" "I") (by decide +kernel)) (fun _ h9 => h9) rfl hin rfl (by decide +kernel) rfl rfl (Nat.le_of_ble_eq_true rfl) d_t_init_6 (fun H locs hP hD hS => ?_)
  exact W.vret hx hb hr (fun t ht hW => ⟨⟨(), rfl, trivial, by subst ht; exact hP⟩, hS.F ht⟩) hS.2.2 d_t_init_9
def on_C (h qs qf : Nat) (cs cf : ClassId) (ov : List Value) (f : Nat → Option Nat) (st : Nat → Nat × va_E) (r : List Nat) : va_W := (h, .inr (1, ov)) :: (qs, .inl (cs, 1000, .inr (.inr (.inr (.inr f))))) :: (qf, .inl (cf, 1000, .inl (fun _ => nI 0))) :: r.map st
def on_st (a : Nat → Nat) (k : Nat) : Nat × va_E := (a k, .inr (0, [.int (nI k), .long (lN 0), .null, .null, .int (nI 0)]))
theorem on_push (h qs qf : Nat) (cs cf : ClassId) (ov : List Value) (f : Nat → Option Nat) (a : Nat → Nat) (k q : Nat) : on_C h qs qf cs cf ov f (on_st a) (List.range k) ++ [(q, .inr (0, [.int (nI k), .long (lN 0), .null, .null, .int (nI 0)]))] = on_C h qs qf cs cf ov f (on_st (va_up a k q)) (List.range (k + 1)) := by
  have e1 : (List.range k).map (on_st a) = (List.range k).map (on_st (va_up a k q)) := by
    apply List.map_congr_left
    intro j hj
    have : j < k := List.mem_range.mp hj
    show (a j, _) = (va_up a k q j, _)
    rw [show va_up a k q j = a j by simp [va_up]; omega]
  have e2 : (q, (Sum.inr (0, [Value.int (nI k), .long (lN 0), .null, .null, .int (nI 0)]) : va_E)) = on_st (va_up a k q) k := by simp [on_st, va_up]
  rw [List.range_succ]
  unfold on_C
  rw [List.map_append, e1, e2]
  rfl
theorem on_get (h qs qf : Nat) (cs cf : ClassId) (ov : List Value) (f : Nat → Option Nat) (st : Nat → Nat × va_E) {k n : Nat} (hk : k < n) : (on_C h qs qf cs cf ov f st (List.range n))[k + 3]? = some (st k) := by
  show ((List.range n).map st)[k]? = _
  rw [rg_get, if_pos hk]
theorem on_ext {D : va_G} {h qs qf : Nat} {cs cf : ClassId} {ov : List Value} {f g : Nat → Option Nat} {st : Nat → Nat × va_E} {r : List Nat} {H : Heap} (hP : va_P D ol_cl (on_C h qs qf cs cf ov f st r) H) (hf : ∀ i, i < 1000 → f i = g i) : va_P D ol_cl (on_C h qs qf cs cf ov g st r) H := by
  intro k q hk
  match k, hk with
  | 0, hk => exact hP 0 q hk
  | 1, hk =>
    cases hk
    have h1 : H[qs]? = some (vp_cell cs (1000, .inr (.inr (.inr (.inr f))))) := hP 1 _ rfl
    show H[qs]? = some (vp_cell cs (1000, .inr (.inr (.inr (.inr g)))))
    rw [h1]
    show some (arrV cs 1000 (fun j => va_rf (f j))) = some (arrV cs 1000 (fun j => va_rf (g j)))
    unfold arrV
    rw [show (fun j : Fin 1000 => va_rf (f j.val)) = (fun j : Fin 1000 => va_rf (g j.val)) from funext fun j => by rw [hf j.val j.isLt]]
  | 2, hk => exact hP 2 q hk
  | k + 3, hk => exact hP (k + 3) q hk
theorem on_extD {A : Nat → Prop} {h qs qf : Nat} {cs cf : ClassId} {ov : List Value} {f g : Nat → Option Nat} {st : Nat → Nat × va_E} {r : List Nat} (hD : va_D A (on_C h qs qf cs cf ov f st r)) : va_D A (on_C h qs qf cs cf ov g st r) := by
  have key : ∀ (i : Nat) (x : Nat × va_E), (on_C h qs qf cs cf ov g st r)[i]? = some x → ∃ x' : Nat × va_E, (on_C h qs qf cs cf ov f st r)[i]? = some x' ∧ x'.1 = x.1 := by
    intro i x hx
    match i, hx with
    | 0, hx => exact ⟨x, hx, rfl⟩
    | 1, hx => cases hx; exact ⟨_, rfl, rfl⟩
    | 2, hx => exact ⟨x, hx, rfl⟩
    | i + 3, hx => exact ⟨x, hx, rfl⟩
  refine ⟨fun i j x y hi hj h => ?_, fun k x hx => ?_⟩
  · obtain ⟨x', a1, a2⟩ := key i x hi
    obtain ⟨y', b1, b2⟩ := key j y hj
    exact hD.1 i j x' y' a1 b1 (by rw [a2, b2]; exact h)
  · obtain ⟨x', a1, a2⟩ := key k x hx
    rw [← a2]; exact hD.2 k x' a1
set_option maxHeartbeats 4000000 in
set_option maxRecDepth 100000 in
/-- the loop that makes the stamps -/
theorem on_loop {p : Program} {l : Launch} {e : Env} {R : Room} {s : State} {m : MethodId} {args : Array Value} {below : List Frame} {meth : Method} {c : Code} {Q : State → Prop} {D : va_G} {A : Nat → Prop} {h qs qf : Nat} {cs cf : ClassId} (hR : R = { frames := 2, cells := 1002, slots := 7000, locals := 60 }) (hx : p.tables.exec = Jvm.exec) (hb : c.code = b_o_init) (hown : s.vm.findClass "OrderLine" = some m.cls) (hts : ∀ w ∈ GW, w.before args s = true) (hml : c.maxLocals = 2) (hK : va_K D ol_cl [(cs, .object "OrderLine$Stamp"), (cf, .int)] s) (hA : ∀ q, s.heap.size ≤ q → A q)
    (hend : ∀ (k : Nat), k = 1000 → ∀ (a : Nat → Nat) (f : Nat → Option Nat) (H : Heap) (locs : List Loc) (ls : Array Slot), (∀ i, i < k → f i = some (a i)) → va_P D ol_cl (on_C h qs qf cs cf [.ref qs, .ref qf, .int (nI 0), .null, .int (nI 1)] f (on_st a) (List.range k)) H → va_D A (on_C h qs qf cs cf [.ref qs, .ref qf, .int (nI 0), .null, .int (nI 1)] f (on_st a) (List.range k)) → va_S A s.heap H locs → lv_has ls 2 [(1, .int (nI k)), (0, .ref h)] → W p l e R s m args below meth c H locs 1002 7000 Q (F0 m 57 ls [])) :
    ∀ (n k : Nat), k + n = 1000 → ∀ (a : Nat → Nat) (f : Nat → Option Nat) (H : Heap) (locs : List Loc) (ls : Array Slot), (∀ i, i < k → f i = some (a i)) → va_P D ol_cl (on_C h qs qf cs cf [.ref qs, .ref qf, .int (nI 0), .null, .int (nI 1)] f (on_st a) (List.range k)) H → va_D A (on_C h qs qf cs cf [.ref qs, .ref qf, .int (nI 0), .null, .int (nI 1)] f (on_st a) (List.range k)) → va_S A s.heap H locs → lv_has ls 2 [(1, .int (nI k)), (0, .ref h)] → W p l e R s m args below meth c H locs (2 + k) (2000 + 5 * k) Q (F0 m 30 ls []) := by
  intro n
  induction n with
  | zero =>
    intro k hk a f H locs ls hf hP hD hS hl
    refine lv_iload_n hx hb d_o_init_30 rfl (lv_at hl 0 rfl) ?_
    refine lv_sipush (v := (nI 1000)) hx hb d_o_init_31 (by decide) ?_
    refine nb_ge (tgt := 57) hx hb (by omega) (by omega) d_o_init_34 (by decide) (fun q1 => ?_) (fun q1 => ?_)
    · exact W.widen (by omega) (by omega) (hend k (by omega) a f H locs ls hf hP hD hS hl)
    · exact absurd q1 (by omega)
  | succ n ih =>
    intro k hk a f H locs ls hf hP hD hS hl
    refine lv_iload_n hx hb d_o_init_30 rfl (lv_at hl 0 rfl) ?_
    refine lv_sipush (v := (nI 1000)) hx hb d_o_init_31 (by decide) ?_
    refine nb_ge (tgt := 57) hx hb (by omega) (by omega) d_o_init_34 (by decide) (fun q1 => ?_) (fun q1 => ?_)
    · exact absurd q1 (by omega)
    · refine lv_aload_n hx hb d_o_init_37 rfl (lv_at hl 1 rfl) ?_
      refine va_get (own := "OrderLine") (ref := "OrderLine") (D := D) (cl := ol_cl) (ci := 1) (C := R_o) (T := F_o) (N := 5) hx hb hts i_o hown hK hP 0 rfl rfl 0 (by decide) (hts _ fl_o_11) (fun _ h => h) rfl d_o_init_38 ?_
      refine lv_iload_n hx hb d_o_init_41 rfl (lv_at hl 0 rfl) ?_
      refine va_new (ci := 0) (fs := [.int (nI 0), .long (lN 0), .null, .null, .int (nI 0)]) (C := R_t) (T := F_t) (N := 5) hx hb hts i_t t_t t_t_ok hown (hts _ cl_o_9) (hts _ it_t) (hts _ in_t) hK hP hD hS hA rfl (fun j hj => by rcases (show j = 0 ∨ j = 1 ∨ j = 2 ∨ j = 3 ∨ j = 4 by omega) with rfl | rfl | rfl | rfl | rfl <;> rfl) (by rw [hR]; show _ ≤ 1002; omega) (by rw [hR]; show _ ≤ 7000; omega) d_o_init_42 (fun q H hP hD hS => ?_)
      refine lv_dup hx hb d_o_init_45 rfl ?_
      refine lv_iload_n hx hb d_o_init_46 rfl (lv_at hl 0 rfl) ?_
      have hPc : va_P D ol_cl [(q, .inr (0, [.int (nI 0), .long (lN 0), .null, .null, .int (nI 0)]))] H := fun i x hx => by
        have h1 := (List.getElem?_eq_some_iff.mp hx).1
        rw [show i = 0 by simp at h1; omega] at hx
        cases hx
        exact hP (on_C h qs qf cs cf [.ref qs, .ref qf, .int (nI 0), .null, .int (nI 1)] f (on_st a) (List.range k)).length _ (by rw [List.getElem?_append_right (Nat.le_refl _), Nat.sub_self]; rfl)
      have hAq : A q := hD.2 (on_C h qs qf cs cf [.ref qs, .ref qf, .int (nI 0), .null, .int (nI 1)] f (on_st a) (List.range k)).length (q, _) (by rw [List.getElem?_append_right (Nat.le_refl _), Nat.sub_self]; rfl)
      refine va_callv (va_runI (As := [.int (nI k)]) (rest := [.ref q, .int (nI k), .ref qs]) ⟨hx, hb, hml, hown, hts⟩ (c_t_init l D q k) ⟨gw_B (n := 1) hts ml_o_23 k_t_init in_t (by decide +kernel) rfl rfl (by rw [hR]; exact ⟨Nat.le_of_ble_eq_true rfl, Nat.le_of_ble_eq_true rfl⟩), rfl, hts _ im_t_init⟩ ⟨fun a U g mk q => ⟨q.1, va_K.moved (u := U) (U := U.calling g mk a) (Vm.Alike.refl U.vm) q.2.1, q.2.2⟩, fun U hU hW => ⟨rfl, va_K.moved hW.alike (hK.sub [] rfl), by rw [hU]; exact hPc⟩⟩ rfl rfl hl.1 rfl (lv_room (Nat.le_of_ble_eq_true rfl)) d_o_init_47 ⟨by rw [hR]; show _ ≤ 1002; omega, by rw [hR]; show _ ≤ 7000; omega⟩) hS (fun z _ h => by rw [h]; exact hAq) (fun z h => by rw [h]; exact hAq) (fun _ t H1 locs ht hvm _ hB hz1 hk1 hS => ?_)
      rw [ht] at hB
      have hP := jn_P hP hD hk1 hB
      have hD := jn_D (e' := .inr (0, [.int (nI k), .long (lN 0), .null, .null, .int (nI 0)])) hD
      rw [on_push] at hP hD
      refine va_astq (r := (R_t, F_t, 5)) (vs := [.int (nI k), .long (lN 0), .null, .null, .int (nI 0)]) hx hb hK hP hD hS 1 0 (k + 3) 0 rfl rfl (by rw [on_get _ _ _ _ _ _ _ _ (Nat.lt_succ_self k)]; simp [on_st, va_up]) rfl (vp_in_nI (by omega) (by decide)) d_o_init_50 (fun H locs hP hD hS => ?_)
      rw [nI_clamp (by omega)] at hP hD
      refine lv_iinc (v := nI (k + 1)) (lv' := [(1, .int (nI (k + 1))), (0, .ref h)]) hx hb d_o_init_51 hl (k := 0) rfl (nI_1 _) (by decide) rfl (fun ls hl => ?_)
      refine lv_goto (tgt := 30) hx hb d_o_init_54 (by decide) ?_
      refine W.widen (k := 2 + (k + 1)) (n := 2000 + 5 * (k + 1)) (by omega) (by omega) ?_
      refine ih (k + 1) (by omega) (va_up a k q) (va_up f k (some q)) H locs ls (fun i hi => ?_) hP hD hS (lv_sub hl [0, 1] rfl)
      by_cases hik : i = k
      · subst hik; simp [va_up]
      · rw [show va_up f k (some q) i = f i by simp [va_up, hik], show va_up a k q i = a i by simp [va_up, hik]]; exact hf i (by omega)
def on_F (k : Nat) : Nat → Nat := fun i => if i + 1 < k then i + 1 else 0
theorem on_F_s {k : Nat} (hk : 1 ≤ k) : va_up (on_F k) (k - 1) k = on_F (k + 1) := by
  funext i
  by_cases h : i = k - 1
  · subst h
    show (if k - 1 = k - 1 then k else _) = if k - 1 + 1 < k + 1 then k - 1 + 1 else 0
    rw [if_pos rfl, if_pos (by omega)]; omega
  · have h2 : (i + 1 < k) ↔ (i + 1 < k + 1) := by omega
    simp [va_up, on_F, h, h2]
def on_u (k : Nat) : OS := ((fun _ => 0), (fun _ => none), (fun _ => none), va_up (fun _ => false) 0 true, on_F k, 0, 0, 1)
theorem on_Ov : Ov ((fun _ => 0), (fun _ => none), (fun _ => none), va_up (fun _ => false) 0 true, on_F 1000, 999, 0, 1) [0] := by
  have hz : ∀ {i x : Nat}, ([0] : List Nat)[i]? = some x → i = 0 ∧ x = 0 := by
    intro i x h
    have h1 := (List.getElem?_eq_some_iff.mp h).1
    have h2 : i = 0 := by simp at h1; omega
    subst h2
    cases h
    exact ⟨rfl, rfl⟩
  have hF : ∀ i, i < 999 → on_F 1000 i = i + 1 := fun i hi => by simp [on_F]; omega
  refine ⟨⟨rfl, fun i j x hi hj => by rw [(hz hi).1, (hz hj).1], fun i x hx => by rw [(hz hx).2]; decide, fun i x hx => by rw [(hz hx).1]; rfl, fun i x hx => by have := (hz hx).1; omega, rfl, fun i x y _ hy => by have := (hz hy).1; omega, fun i x hx => by show (0 : Nat) < 2 ^ 40; decide, fun k hk => ⟨fun ht => ⟨0, ?_⟩, fun ⟨i, hi⟩ => ?_⟩, rfl, rfl⟩, ⟨⟨fun i hi => ?_, fun x hx hS => ?_, fun i j hi hj hij => ?_⟩, fun i h0 hi => ?_⟩, rfl⟩
  · by_cases h : k = 0
    · rw [h]; rfl
    · simp [va_up, h] at ht
  · rw [(hz hi).2]; rfl
  · rw [hF i hi]
    exact ⟨by omega, fun j hj => by have := (hz hj).2; omega⟩
  · have : x ≠ 0 := fun h => hS 0 (by rw [h]; rfl)
    exact ⟨x - 1, by omega, by rw [hF _ (by omega)]; omega⟩
  · rw [hF i hi, hF j hj] at hij; omega
  · rw [hF i hi, hF _ (by omega)]; omega
set_option maxHeartbeats 4000000 in
set_option maxRecDepth 100000 in
/-- the loop that fills the free numbers -/
theorem on_loop2 {p : Program} {l : Launch} {e : Env} {R : Room} {s : State} {m : MethodId} {args : Array Value} {below : List Frame} {meth : Method} {c : Code} {Q : State → Prop} {A : Nat → Prop} {G : OG} (hR : R = { frames := 2, cells := 1002, slots := 7000, locals := 60 }) (X : ol_X p s m args c b_o_init G)
    (hend : ∀ (H : Heap) (locs : List Loc) (ls : Array Slot), ol_P G (on_u 1000) H → va_S A s.heap H locs → lv_has ls 2 [(0, .ref (ol_h G))] → W p l e R s m args below meth c H locs 1002 7000 Q (F0 m 101 ls [])) (hD : ∀ u : OS, va_D A (ol_C G u)) :
    ∀ (n k : Nat), k + n = 1000 → 1 ≤ k → ∀ (H : Heap) (locs : List Loc) (ls : Array Slot), ol_P G (on_u k) H → va_S A s.heap H locs → lv_has ls 2 [(1, .int (nI k)), (0, .ref (ol_h G))] → W p l e R s m args below meth c H locs 1002 7000 Q (F0 m 79 ls []) := by
  have hx := X.1
  have hb := X.2.1
  intro n
  induction n with
  | zero =>
    intro k hk hk1 H locs ls hP hS hl
    refine lv_iload_n hx hb d_o_init_79 rfl (lv_at hl 0 rfl) ?_
    refine lv_sipush (v := (nI 1000)) hx hb d_o_init_80 (by decide) ?_
    refine nb_ge (tgt := 101) hx hb (by omega) (by omega) d_o_init_83 (by decide) (fun q1 => ?_) (fun q1 => ?_)
    · exact hend H locs ls (by rw [show k = 1000 by omega] at hP; exact hP) hS (lv_sub hl [1] rfl)
    · exact absurd q1 (by omega)
  | succ n ih =>
    intro k hk hk1 H locs ls hP hS hl
    refine lv_iload_n hx hb d_o_init_79 rfl (lv_at hl 0 rfl) ?_
    refine lv_sipush (v := (nI 1000)) hx hb d_o_init_80 (by decide) ?_
    refine nb_ge (tgt := 101) hx hb (by omega) (by omega) d_o_init_83 (by decide) (fun q1 => ?_) (fun q1 => ?_)
    · exact absurd q1 (by omega)
    · refine lv_aload_n hx hb d_o_init_86 rfl (lv_at hl 1 rfl) ?_
      refine g_free X hP d_o_init_87 ?_
      refine lv_iload_n hx hb d_o_init_90 rfl (lv_at hl 0 rfl) ?_
      refine lv_iconst (v := (nI 1)) hx hb d_o_init_91 (by decide) ?_
      refine lv_isub hx hb d_o_init_92 ?_
      refine tp_i (nI (k - 1)) (pk_sub (by omega)) ?_
      refine lv_iload_n hx hb d_o_init_93 rfl (lv_at hl 0 rfl) ?_
      refine va_iast (D := ol_D G) (cl := ol_cl) X.1 X.2.1 X.2.2.2.2.1 hP (hD _) hS 2 1 rfl rfl (vp_in_nI (show k - 1 < 1000 by omega) (by decide)) d_o_init_94 (fun H locs hP1 _ hS => ?_)
      rw [nI_clamp (by omega), show upd (fun i => nI (on_F k i)) (k - 1) (nI k) = (fun i => nI (on_F (k + 1) i)) from by rw [← on_F_s hk1]; exact funext fun j => by by_cases hj : j = k - 1 <;> simp [upd, va_up, hj]] at hP1
      refine lv_iinc (v := nI (k + 1)) (lv' := [(1, .int (nI (k + 1))), (0, .ref (ol_h G))]) hx hb d_o_init_95 hl (k := 0) rfl (nI_1 _) (by decide) rfl (fun ls hl => ?_)
      refine lv_goto (tgt := 79) hx hb d_o_init_98 (by decide) ?_
      exact ih (k + 1) (by omega) (by omega) H locs ls hP1 hS (lv_sub hl [0, 1] rfl)
set_option maxHeartbeats 4000000 in
set_option maxRecDepth 100000 in
/-- OrderLine(): a line that holds 0 alone -/
theorem c_o_init (l : Launch) (D : va_G) (h sz : Nat) (hsz : h < sz) : Met l y_o_init (.code y_o_init b_o_init 2 none :: GW) ({ frames := 2, cells := 1002, slots := 7000, locals := 60 }) (va_Pc [.ref h] (fun U => U.heap.size = sz ∧ va_K D ol_cl [] U ∧ ol_N U ∧ va_AO "OrderLine$Stamp" U ∧ va_P D ol_cl [(h, .inr (1, [.null, .null, .int (nI 0), .null, .int (nI 0)]))] U.heap)) (va_Qv (fun q : OG × OS => ol_h q.1 = h ∧ ol_D q.1 = D ∧ ol_ok q.1 ∧ Ov q.2 [0] ∧ ∀ z, ol_A q.1 z → z = h ∨ sz ≤ z) (fun q t => va_K D ol_cl (ol_ty q.1) t ∧ ol_P q.1 q.2 t.heap) (fun z => z = h ∨ sz ≤ z)) 1002 7000 (fun z => z = h ∨ sz ≤ z) := by
  refine Met.ofW (cc := b_o_init) (maxL := 2) (ret := none) (by decide) rfl ?_
  intro p e s m args below meth c s₁ B hml hv
  obtain ⟨rfl, rfl, hK, hN, hAO, hP⟩ := hv
  have hx := B.exec
  have hb := B.bytes
  have hr := B.returns
  have hts0 := atoms_spec (ws := .code y_o_init b_o_init 2 none :: GW) B.pre
  have hts : ∀ w ∈ GW, w.before _ s = true := fun w hw => hts0 w (List.mem_cons_of_mem _ hw)
  have hown : s.vm.findClass "OrderLine" = some m.cls := findClass_of_methodNamed B.named
  have hlocks := B.notSynchronized
  have hin : meth.name = "<init>" := (name_of_methodNamed B.named B.method).1
  generalize hAe : (fun z : Nat => z = h ∨ s.heap.size ≤ z) = A
  have hA : ∀ q : Nat, s.heap.size ≤ q → A q := fun q h9 => by rw [← hAe]; exact Or.inr h9
  have hAh : A h := by rw [← hAe]; exact Or.inl rfl
  have hD : va_D A [(h, .inr (1, [.null, .null, .int (nI 0), .null, .int (nI 0)]))] := ⟨fun i j a b hi hj _ => by
    have h1 := (List.getElem?_eq_some_iff.mp hi).1
    have h2 := (List.getElem?_eq_some_iff.mp hj).1
    simp at h1 h2
    omega, fun i x hx => by
    have h1 := (List.getElem?_eq_some_iff.mp hx).1
    rw [show i = 0 by simp at h1; omega] at hx
    cases hx; exact hAh⟩
  have hS : va_S A s.heap s.heap [] := va_S.rf
  have hP : va_P D ol_cl [(h, .inr (1, [.null, .null, .int (nI 0), .null, .int (nI 0)]))] s.heap := hP
  have hl := lv_entry ([.ref h]) (n := 2) (Nat.le_of_ble_eq_true rfl)
  rw [lg_entry_eq]
  generalize (lg_sl ([.ref h]) ++ List.replicate (2 - (lg_sl ([.ref h])).length) Slot.unset).toArray = ls at hl ⊢
  have hl : lv_has ls 2 [(0, .ref h)] := hl
  refine lv_aload_n hx hb d_o_init_0 rfl (lv_at hl 0 rfl) ?_
  refine W.objInit hx hb hown (hts (.methodLink "OrderLine" 1 Lib.objectInit) (by decide +kernel)) (hts (.instanceMethod Lib.objectInit) (by decide +kernel)) (hts (.code Lib.objectInit ⟨#[0xb1]⟩ 1 none) (by decide +kernel)) rfl (by rw [hml]; exact hl.1) rfl d_o_init_1 (Nat.le_of_ble_eq_true rfl) (Nat.le_of_ble_eq_true rfl) ?_
  refine W.eq (g2 := F0 m 4 ls []) rfl ?_
  refine lv_aload_n hx hb d_o_init_4 rfl (lv_at hl 0 rfl) ?_
  refine lv_sipush (v := (nI 1000)) hx hb d_o_init_5 (by decide) ?_
  refine va_newq (N' := 1000) hx hb hown (hts _ cl_o_9) hAO hK hP hD hS hA (by decide) (by decide) (by decide) (Nat.le_of_ble_eq_true rfl) (Nat.le_of_ble_eq_true rfl) d_o_init_8 (fun qs cs H hK hP hD hS => ?_)
  refine va_putF (own := "OrderLine") (ref := "OrderLine") (D := D) (ci := 1) (v := .ref qs) (ty := .array (.object "OrderLine$Stamp")) (C := R_o) (T := F_o) (N := 5) hx hb hts i_o t_o t_o_ok n_o hown hK hP hD hS 0 rfl rfl 0 (by decide) (hts _ fl_o_11) (fun _ h9 => h9) rfl hin rfl (by decide +kernel) rfl rfl (Nat.le_of_ble_eq_true rfl) d_o_init_11 (fun H locs hP hD hS => ?_)
  refine lv_aload_n hx hb d_o_init_14 rfl (lv_at hl 0 rfl) ?_
  refine lv_sipush (v := (nI 1000)) hx hb d_o_init_15 (by decide) ?_
  refine va_newa (atype := .int) (ty := .int) (a0 := (1000, .inl (fun _ => nI 0))) (N' := 1000) hx hb (hts _ ac_int) rfl hK hP hD hS hA (fun cA => rfl) (by decide) (by decide) (by decide) (Nat.le_of_ble_eq_true rfl) (Nat.le_of_ble_eq_true rfl) d_o_init_18 (fun qf cf H hK hP hD hS => ?_)
  refine va_putF (own := "OrderLine") (ref := "OrderLine") (D := D) (ci := 1) (v := .ref qf) (ty := .array .int) (C := R_o) (T := F_o) (N := 5) hx hb hts i_o t_o t_o_ok n_o hown hK hP hD hS 0 rfl rfl 1 (by decide) (hts _ fl_o_15) (fun _ h9 => h9) rfl hin rfl (by decide +kernel) rfl rfl (Nat.le_of_ble_eq_true rfl) d_o_init_20 (fun H locs hP hD hS => ?_)
  refine lv_aload_n hx hb d_o_init_23 rfl (lv_at hl 0 rfl) ?_
  refine lv_iconst (v := (nI 1)) hx hb d_o_init_24 (by decide) ?_
  refine va_put (own := "OrderLine") (ref := "OrderLine") (D := D) (cl := ol_cl) (ci := 1) (v := .int (nI 1)) (ty := .int) (C := R_o) (T := F_o) (N := 5) hx hb hts i_o t_o t_o_ok n_o hown hK hP hD hS 0 rfl rfl 4 (by decide) (hts _ fl_o_19) (fun _ h => h) rfl (by decide +kernel) rfl rfl (Nat.le_of_ble_eq_true rfl) d_o_init_25 (fun H locs hP hD hS => ?_)
  have hK : va_K D ol_cl [(cs, .object "OrderLine$Stamp"), (cf, .int)] s := hK
  have hP : va_P D ol_cl (on_C h qs qf cs cf [.ref qs, .ref qf, .int (nI 0), .null, .int (nI 1)] (fun _ => none) (on_st (fun _ => 0)) (List.range 0)) H := hP
  have hD : va_D A (on_C h qs qf cs cf [.ref qs, .ref qf, .int (nI 0), .null, .int (nI 1)] (fun _ => none) (on_st (fun _ => 0)) (List.range 0)) := hD
  refine lv_iconst (v := (nI 0)) hx hb d_o_init_28 (by decide) ?_
  refine lv_istore_n (lv' := [(1, .int (nI 0)), (0, .ref h)]) hx hb d_o_init_29 rfl hl (by decide) rfl (fun ls hl => ?_)
  refine W.widen (k := 2 + 0) (n := 2000 + 5 * 0) (by omega) (by omega) ?_
  refine on_loop (R := { frames := 2, cells := 1002, slots := 7000, locals := 60 }) rfl hx hb hown hts hml hK hA ?_ 1000 0 rfl _ _ H locs ls (fun i hi => absurd hi (Nat.not_lt_zero i)) hP hD hS (lv_sub hl [0, 1] rfl)
  clear hP hD hS hl
  intro k hk a f H locs ls hf hP hD hS hl
  have hP := on_ext (g := fun i => some (a i)) hP (fun i hi => hf i (by omega))
  have hD := on_extD (g := fun i => some (a i)) hD
  refine lv_aload_n hx hb d_o_init_57 rfl (lv_at hl 1 rfl) ?_
  refine va_get (own := "OrderLine") (ref := "OrderLine") (D := D) (cl := ol_cl) (ci := 1) (C := R_o) (T := F_o) (N := 5) hx hb hts i_o hown hK hP 0 rfl rfl 0 (by decide) (hts _ fl_o_11) (fun _ h => h) rfl d_o_init_58 ?_
  refine lv_iconst (v := (nI 0)) hx hb d_o_init_61 (by decide) ?_
  refine va_aldq (D := D) (cl := ol_cl) (C := "OrderLine$Stamp") hx hb hK hP 1 0 rfl rfl (vp_in_nI (by decide) (by decide)) d_o_init_62 ?_
  refine tp_s (.ref (a 0) :: []) (by rw [nI_clamp (by decide)]; rfl) ?_
  refine lv_iconst (v := (nI 1)) hx hb d_o_init_63 (by decide) ?_
  obtain ⟨G, eG⟩ : ∃ G : OG, G = (D, h, qs, qf, a, cs, cf, List.range k) := ⟨_, rfl⟩
  refine va_putN (own := "OrderLine") (ref := "OrderLine$Stamp") (host := "OrderLine") (D := D) (cl := ol_cl) (ci := 0) (v := .int (nI 1)) (ty := .boolean) (C := R_t) (T := F_t) (N := 5) hx hb hts i_t t_t t_t_ok n_t hown hK hP hD hS (0 + 3) (on_get _ _ _ _ _ _ _ _ (show 0 < k by omega)) rfl 4 (by decide) (va_Nw.use rfl (hN _ (by decide))) (fun _ h => h) rfl (by decide +kernel) rfl rfl (Nat.le_of_ble_eq_true rfl) d_o_init_64 (fun H locs hP hD hS => ?_)
  have hset : (on_C h qs qf cs cf [.ref qs, .ref qf, .int (nI 0), .null, .int (nI 1)] (fun i => some (a i)) (on_st a) (List.range k)).set (0 + 3) (a 0, .inr (0, ([.int (nI 0), .long (lN 0), .null, .null, .int (nI 0)] : List Value).set 4 (.int (nI 1)))) = on_C h qs qf cs cf [.ref qs, .ref qf, .int (nI 0), .null, .int (nI 1)] (fun i => some (a i)) (ol_st G (fun _ => 0) (fun _ => none) (fun _ => none) (va_up (fun _ => false) 0 true)) (List.range k) := by
    subst eG
    show _ :: _ :: _ :: (((List.range k).map (on_st a)).set 0 _) = _ :: _ :: _ :: (List.range k).map _
    rw [rg_set (on_st a) (ol_st (D, h, qs, qf, a, cs, cf, List.range k) (fun _ => 0) (fun _ => none) (fun _ => none) (va_up (fun _ => false) 0 true)) k 0 (a 0, .inr (0, ([.int (nI 0), .long (lN 0), .null, .null, .int (nI 0)] : List Value).set 4 (.int (nI 1)))) rfl (fun j hj => by
      show (a j, _) = (a j, _)
      rw [show ol_fs (D, h, qs, qf, a, cs, cf, List.range k) (fun _ => 0) (fun _ => none) (fun _ => none) (va_up (fun _ => false) 0 true) j = [.int (nI j), .long (lN 0), .null, .null, .int (nI 0)] by simp [ol_fs, va_up, hj, ol_rf]; rfl])]
  rw [hset] at hP hD
  refine lv_aload_n hx hb d_o_init_67 rfl (lv_at hl 1 rfl) ?_
  refine lv_aload_n hx hb d_o_init_68 rfl (lv_at hl 1 rfl) ?_
  refine va_get (own := "OrderLine") (ref := "OrderLine") (D := D) (cl := ol_cl) (ci := 1) (C := R_o) (T := F_o) (N := 5) hx hb hts i_o hown hK hP 0 rfl rfl 0 (by decide) (hts _ fl_o_11) (fun _ h => h) rfl d_o_init_69 ?_
  refine lv_iconst (v := (nI 0)) hx hb d_o_init_72 (by decide) ?_
  refine va_aldq (D := D) (cl := ol_cl) (C := "OrderLine$Stamp") hx hb hK hP 1 0 rfl rfl (vp_in_nI (by decide) (by decide)) d_o_init_73 ?_
  refine tp_s (.ref (a 0) :: [.ref h]) (by rw [nI_clamp (by decide)]; rfl) ?_
  refine va_put (own := "OrderLine") (ref := "OrderLine") (D := D) (cl := ol_cl) (ci := 1) (v := .ref (a 0)) (ty := .object "OrderLine$Stamp") (C := R_o) (T := F_o) (N := 5) hx hb hts i_o t_o t_o_ok n_o hown hK hP hD hS 0 rfl rfl 3 (by decide) (hts _ fl_o_30) (fun _ h => h) rfl (by decide +kernel) rfl rfl (Nat.le_of_ble_eq_true rfl) d_o_init_74 (fun H locs hP hD hS => ?_)
  have hF1 : (fun _ : Nat => nI 0) = (fun i => nI (on_F 1 i)) := funext fun i => by simp [on_F]
  have hP : ol_P G (on_u 1) H := by
    subst eG
    unfold ol_P on_u ol_C
    show va_P D ol_cl (_ :: _ :: (qf, .inl (cf, 1000, .inl (fun i => nI (on_F 1 i)))) :: _) H
    rw [← hF1]
    exact hP
  have hD0 : va_D A (ol_C G (on_u 1)) := by
    subst eG
    unfold on_u ol_C
    show va_D A (_ :: _ :: (qf, .inl (cf, 1000, .inl (fun i => nI (on_F 1 i)))) :: _)
    rw [← hF1]
    exact hD
  have hGr : ol_r G = List.range k := by rw [eG]; rfl
  have hlen : ∀ i, i < 1003 → ∃ q : Nat × va_E, (ol_C G (on_u 1))[i]? = some q ∧ q.1 = ol_ad G i := by
    intro i hi
    match i, hi with
    | 0, _ => exact ⟨_, rfl, rfl⟩
    | 1, _ => exact ⟨_, rfl, rfl⟩
    | 2, _ => exact ⟨_, rfl, rfl⟩
    | i + 3, hi =>
      refine ⟨ol_st G (fun _ => 0) (fun _ => none) (fun _ => none) (va_up (fun _ => false) 0 true) i, ?_, rfl⟩
      show ((ol_r G).map _)[i]? = _
      rw [hGr, rg_get, if_pos (by omega)]
  have hok : ol_ok G := by
    refine ⟨by rw [hGr, hk], fun i j hi hj hij => ?_⟩
    obtain ⟨q1, a1, a2⟩ := hlen i hi
    obtain ⟨q2, b1, b2⟩ := hlen j hj
    exact hD0.1 i j q1 q2 a1 b1 (by rw [a2, b2]; exact hij)
  have hAG : ∀ z, ol_A G z → A z := by
    rintro z ⟨i, hi, rfl⟩
    obtain ⟨q1, a1, a2⟩ := hlen i hi
    rw [← a2]; exact hD0.2 i q1 a1
  have hDu : ∀ u : OS, va_D A (ol_C G u) := fun u => (ol_DD hok u).weaken (fun i q hq _ => hAG _ ((ol_DD hok u).2 i q hq))
  have eD : ol_D G = D := by rw [eG]; rfl
  have eh : ol_h G = h := by rw [eG]; rfl
  have hKG : va_K D ol_cl (ol_ty G) s := by rw [eG]; exact hK
  have X : ol_X p s m _ c b_o_init G := ⟨hx, hb, hown, hts, by rw [eD]; exact hKG, hN, hok⟩
  refine lv_iconst (v := (nI 1)) hx hb d_o_init_77 (by decide) ?_
  refine lv_istore_n (lv' := [(1, .int (nI 1)), (0, .ref h)]) hx hb d_o_init_78 rfl hl (by decide) rfl (fun ls hl => ?_)
  clear hD
  rw [← eh] at hl
  refine on_loop2 (R := { frames := 2, cells := 1002, slots := 7000, locals := 60 }) rfl X ?_ hDu 999 1 rfl (Nat.le_refl 1) H locs ls hP hS hl
  clear hP hS hl hD0
  intro H locs ls hP hS hl
  refine lv_aload_n hx hb d_o_init_101 rfl (lv_at hl 0 rfl) ?_
  refine lv_sipush (v := (nI 999)) hx hb d_o_init_102 (by decide) ?_
  refine va_put (own := "OrderLine") (ref := "OrderLine") (D := ol_D G) (cl := ol_cl) (ci := 1) (v := .int (nI 999)) (ty := .int) (C := R_o) (T := F_o) (N := 5) hx hb hts i_o t_o t_o_ok n_o hown X.2.2.2.2.1 hP (hDu _) hS 0 rfl rfl 2 (by decide) (hts _ fl_o_34) (fun _ h => h) rfl (by decide +kernel) rfl rfl (Nat.le_of_ble_eq_true rfl) d_o_init_105 (fun H locs hP _ hS => ?_)
  have hP : ol_P G ((fun _ => 0), (fun _ => none), (fun _ => none), va_up (fun _ => false) 0 true, on_F 1000, 999, 0, 1) H := hP
  rw [← hAe] at hS hAG ⊢
  exact W.vret hx hb hr (fun t ht hW => ⟨⟨(G, _), rfl, ⟨eh, eD, hok, on_Ov, hAG⟩, va_K.moved hW.alike hKG, by subst ht; exact hP⟩, hS.F ht⟩) hS.2.2 d_o_init_108
set_option maxHeartbeats 4000000 in
set_option maxRecDepth 100000 in
/-- OrderLineModel(): a line that holds 0 alone -/
theorem c_m_init (l : Launch) (D : va_G) (h sz : Nat) (hsz : h < sz) : Met l y_m_init (.code y_m_init b_m_init 1 none :: GW) ({ frames := 1, cells := 2, slots := 2000, locals := 40 }) (va_Pc [.ref h] (fun U => U.heap.size = sz ∧ va_K D ol_cl [] U ∧ va_P D ol_cl [(h, .inr (2, [.int (nI 0), .null, .int (nI 0), .null]))] U.heap)) (va_Qv (fun q : MG × MS => om_h q.1 = h ∧ om_D q.1 = D ∧ om_ok q.1 ∧ q.2 = (0, (fun _ => 0), 1, (fun _ => 0)) ∧ ∀ z, om_A q.1 z → z = h ∨ sz ≤ z) (fun q t => va_K D ol_cl (om_ty q.1) t ∧ om_P q.1 q.2 t.heap) (fun z => z = h ∨ sz ≤ z)) 2 2000 (fun z => z = h ∨ sz ≤ z) := by
  refine Met.ofW (cc := b_m_init) (maxL := 1) (ret := none) (by decide) rfl ?_
  intro p e s m args below meth c s₁ B hml hv
  obtain ⟨rfl, rfl, hK, hP⟩ := hv
  have hx := B.exec
  have hb := B.bytes
  have hr := B.returns
  have hts0 := atoms_spec (ws := .code y_m_init b_m_init 1 none :: GW) B.pre
  have hts : ∀ w ∈ GW, w.before _ s = true := fun w hw => hts0 w (List.mem_cons_of_mem _ hw)
  have hown : s.vm.findClass "OrderLineModel" = some m.cls := findClass_of_methodNamed B.named
  have hlocks := B.notSynchronized
  have hin : meth.name = "<init>" := (name_of_methodNamed B.named B.method).1
  generalize hAe : (fun z : Nat => z = h ∨ s.heap.size ≤ z) = A
  have hA : ∀ q : Nat, s.heap.size ≤ q → A q := fun q h9 => by rw [← hAe]; exact Or.inr h9
  have hAh : A h := by rw [← hAe]; exact Or.inl rfl
  have hD : va_D A [(h, .inr (2, [.int (nI 0), .null, .int (nI 0), .null]))] := ⟨fun i j a b hi hj _ => by
    have h1 := (List.getElem?_eq_some_iff.mp hi).1
    have h2 := (List.getElem?_eq_some_iff.mp hj).1
    simp at h1 h2
    omega, fun i x hx => by
    have h1 := (List.getElem?_eq_some_iff.mp hx).1
    rw [show i = 0 by simp at h1; omega] at hx
    cases hx; exact hAh⟩
  have hS : va_S A s.heap s.heap [] := va_S.rf
  have hP : va_P D ol_cl [(h, .inr (2, [.int (nI 0), .null, .int (nI 0), .null]))] s.heap := hP
  have hl := lv_entry ([.ref h]) (n := 1) (Nat.le_of_ble_eq_true rfl)
  rw [lg_entry_eq]
  generalize (lg_sl ([.ref h]) ++ List.replicate (1 - (lg_sl ([.ref h])).length) Slot.unset).toArray = ls at hl ⊢
  have hl : lv_has ls 1 [(0, .ref h)] := hl
  refine lv_aload_n hx hb d_m_init_0 rfl (lv_at hl 0 rfl) ?_
  refine W.objInit hx hb hown (hts (.methodLink "OrderLineModel" 1 Lib.objectInit) (by decide +kernel)) (hts (.instanceMethod Lib.objectInit) (by decide +kernel)) (hts (.code Lib.objectInit ⟨#[0xb1]⟩ 1 none) (by decide +kernel)) rfl (by rw [hml]; exact hl.1) rfl d_m_init_1 (Nat.le_of_ble_eq_true rfl) (Nat.le_of_ble_eq_true rfl) ?_
  refine W.eq (g2 := F0 m 4 ls []) rfl ?_
  refine lv_aload_n hx hb d_m_init_4 rfl (lv_at hl 0 rfl) ?_
  refine lv_sipush (v := (nI 1000)) hx hb d_m_init_5 (by decide) ?_
  refine va_newa (atype := .int) (ty := .int) (a0 := (1000, .inl (fun _ => nI 0))) (N' := 1000) hx hb (hts _ ac_int) rfl hK hP hD hS hA (fun cA => rfl) (by decide) (by decide) (by decide) (Nat.le_of_ble_eq_true rfl) (Nat.le_of_ble_eq_true rfl) d_m_init_8 (fun qi ki H hK hP hD hS => ?_)
  refine va_putF (own := "OrderLineModel") (ref := "OrderLineModel") (D := D) (ci := 2) (v := .ref qi) (ty := .array .int) (C := R_m) (T := F_m) (N := 4) hx hb hts i_m t_m t_m_ok n_m hown hK hP hD hS 0 rfl rfl 1 (by decide) (hts _ fl_m_7) (fun _ h9 => h9) rfl hin rfl (by decide +kernel) rfl rfl (Nat.le_of_ble_eq_true rfl) d_m_init_10 (fun H locs hP hD hS => ?_)
  refine lv_aload_n hx hb d_m_init_13 rfl (lv_at hl 0 rfl) ?_
  refine lv_iconst (v := (nI 1)) hx hb d_m_init_14 (by decide) ?_
  refine va_put (own := "OrderLineModel") (ref := "OrderLineModel") (D := D) (cl := ol_cl) (ci := 2) (v := .int (nI 1)) (ty := .int) (C := R_m) (T := F_m) (N := 4) hx hb hts i_m t_m t_m_ok n_m hown hK hP hD hS 0 rfl rfl 2 (by decide) (hts _ fl_m_13) (fun _ h => h) rfl (by decide +kernel) rfl rfl (Nat.le_of_ble_eq_true rfl) d_m_init_15 (fun H locs hP hD hS => ?_)
  refine lv_aload_n hx hb d_m_init_18 rfl (lv_at hl 0 rfl) ?_
  refine lv_sipush (v := (nI 1000)) hx hb d_m_init_19 (by decide) ?_
  refine va_newa (atype := .int) (ty := .int) (a0 := (1000, .inl (fun _ => nI 0))) (N' := 1000) hx hb (hts _ ac_int) rfl hK hP hD hS hA (fun cA => rfl) (by decide) (by decide) (by decide) (Nat.le_of_ble_eq_true rfl) (Nat.le_of_ble_eq_true rfl) d_m_init_22 (fun qj kj H hK hP hD hS => ?_)
  refine va_putF (own := "OrderLineModel") (ref := "OrderLineModel") (D := D) (ci := 2) (v := .ref qj) (ty := .array .int) (C := R_m) (T := F_m) (N := 4) hx hb hts i_m t_m t_m_ok n_m hown hK hP hD hS 0 rfl rfl 3 (by decide) (hts _ fl_m_17) (fun _ h9 => h9) rfl hin rfl (by decide +kernel) rfl rfl (Nat.le_of_ble_eq_true rfl) d_m_init_24 (fun H locs hP hD hS => ?_)
  obtain ⟨G, eG⟩ : ∃ G : MG, G = (D, h, qi, qj, ki, kj) := ⟨_, rfl⟩
  have hP : om_P G (0, (fun _ => 0), 1, (fun _ => 0)) H := by subst eG; exact hP
  have hD : va_D A (om_C G (0, (fun _ => 0), 1, (fun _ => 0))) := by subst eG; exact hD
  have hok : om_ok G := ⟨fun h9 => absurd (hD.1 0 1 _ _ rfl rfl h9) (by decide), fun h9 => absurd (hD.1 0 2 _ _ rfl rfl h9) (by decide), fun h9 => absurd (hD.1 1 2 _ _ rfl rfl h9) (by decide)⟩
  have hAG : ∀ z, om_A G z → A z := by
    rintro z (rfl | rfl | rfl)
    · exact hD.2 0 _ rfl
    · exact hD.2 1 _ rfl
    · exact hD.2 2 _ rfl
  have hKG : va_K D ol_cl (om_ty G) s := by subst eG; exact hK
  rw [← hAe] at hS hAG ⊢
  exact W.vret hx hb hr (fun t ht hW => ⟨⟨(G, _), rfl, ⟨by rw [eG]; rfl, by rw [eG]; rfl, hok, rfl, hAG⟩, va_K.moved hW.alike hKG, by subst ht; exact hP⟩, hS.F ht⟩) hS.2.2 d_m_init_27
end
section
/-! 30: the law's helpers -/
/-- the law's one long and OrderLine's cells -/
def lw_C (G : OG) (co : ClassId) (qo : Nat) (u : OS) (g : Nat → Int64) : va_W := (qo, .inl (co, 1, .inr (.inl g))) :: ol_C G u
def lw_H (G : OG) (co : ClassId) (qo : Nat) (u : OS) (g : Nat → Int64) (H : Heap) : Prop := va_P (ol_D G) ol_cl (lw_C G co qo u g) H
def lw_A (G : OG) (qo : Nat) : Nat → Prop := fun z => ol_A G z ∨ z = qo
theorem lw_H.o {G : OG} {co : ClassId} {qo : Nat} {u : OS} {g : Nat → Int64} {H : Heap} (h : lw_H G co qo u g H) : ol_P G u H := fun k q hk => h (k + 1) q hk
theorem lw_H.lt {G : OG} {co : ClassId} {qo : Nat} {u : OS} {g : Nat → Int64} {H : Heap} (h : lw_H G co qo u g H) : qo < H.size := (h 0 _ rfl).lt
theorem lw_H.mk {G : OG} {co : ClassId} {qo : Nat} {u u' : OS} {g : Nat → Int64} {H H1 : Heap} (h : lw_H G co qo u g H) (hq : H1[qo]? = H[qo]?) (hP : ol_P G u' H1) : lw_H G co qo u' g H1 := by
  intro k q hk
  match k, hk with
  | 0, hk =>
    cases hk
    have h1 : H[qo]? = some _ := h 0 _ rfl
    show H1[qo]? = some _
    rw [hq]; exact h1
  | k + 1, hk => exact hP k q hk
theorem lw_H.kept {G : OG} (hG : ol_ok G) {co : ClassId} {qo : Nat} {u : OS} {g : Nat → Int64} {H H1 : Heap} (h : lw_H G co qo u g H) (hq : ∀ z, lw_A G qo z → H1[z]? = H[z]?) : lw_H G co qo u g H1 :=
  h.mk (hq qo (Or.inr rfl)) (h.o.kept hG (fun z hz => hq z (Or.inl hz)))
theorem lw_DD {G : OG} (hG : ol_ok G) {qo : Nat} (hq : ¬ ol_A G qo) (co : ClassId) (u : OS) (g : Nat → Int64) : va_D (lw_A G qo) (lw_C G co qo u g) := by
  have hD := ol_DD hG u
  refine ⟨fun i j a b hi hj he => ?_, fun i a hi => ?_⟩
  · match i, j, hi, hj with
    | 0, 0, _, _ => rfl
    | 0, j + 1, hi, hj =>
      cases hi
      exact absurd (by rw [show qo = b.1 from he]; exact hD.2 j b hj) hq
    | i + 1, 0, hi, hj =>
      cases hj
      exact absurd (by rw [show qo = a.1 from he.symm]; exact hD.2 i a hi) hq
    | i + 1, j + 1, hi, hj => rw [hD.1 i j a b hi hj he]
  · match i, hi with
    | 0, hi => cases hi; exact Or.inr rfl
    | i + 1, hi => exact Or.inl (hD.2 i a hi)
def lw_U (G : OG) (co : ClassId) (qo : Nat) (u : OS) (g : Nat → Int64) (U : State) : Prop := va_K (ol_D G) ol_cl (ol_ty G ++ [(co, .long)]) U ∧ ol_N U ∧ TW U ∧ lw_H G co qo u g U.heap
theorem TW.blind {U : State} {g : JFrame} {mk : MethodId} {a : Array Value} (h : TW U) : TW (U.calling g mk a) := fun w hw => by
  have hz := h w hw
  simp only [th_bad, List.mem_cons, List.not_mem_nil, or_false] at hw
  rcases hw with rfl | rfl | rfl | rfl | rfl | rfl | rfl | rfl <;> exact hz
section LWP
variable {s : State} {H : Heap} {G : OG} {u : OS} {As : List Value}
theorem lw_preO {tys : List (ClassId × FieldType)} (hK0 : va_K (ol_D G) ol_cl (ol_ty G ++ tys) s) (hN : ol_N s) (hP : ol_P G u H) : PreV s H "OrderLine" (ol_h G) (va_Pc (.ref (ol_h G) :: As) (ol_U G u)) As := by
  have hK : va_K (ol_D G) ol_cl (ol_ty G) s := hK0.sub [0, 1] rfl
  exact ⟨fun a U g mk q => ⟨q.1, va_K.moved (u := U) (U := U.calling g mk a) (Vm.Alike.refl U.vm) q.2.1, ol_N.same (u := U) (U := U.calling g mk a) rfl q.2.2.1, q.2.2.2⟩, by obtain ⟨L, b, n, t, F, nf, la, mn⟩ := u; exact va_recv hK hP (ci := 1) (q0 := 0) rfl rfl, fun U hU hW => ⟨rfl, va_K.moved hW.alike hK, hN.warm hW, by rw [hU]; exact hP⟩⟩
theorem lw_preOT {tys : List (ClassId × FieldType)} (hK0 : va_K (ol_D G) ol_cl (ol_ty G ++ tys) s) (hN : ol_N s) (hTW : TW s) (hst : StK s.heap H) (hP : ol_P G u H) : PreV s H "OrderLine" (ol_h G) (va_Pc (.ref (ol_h G) :: As) (ol_UT G u)) As := by
  obtain ⟨h1, h2, h3⟩ := lw_preO (As := As) hK0 hN hP
  exact ⟨fun a U g mk q => ⟨(h1 a U g mk ⟨q.1, q.2.1⟩).1, (h1 a U g mk ⟨q.1, q.2.1⟩).2, q.2.2.blind⟩, h2, fun U hU hW => ⟨(h3 U hU hW).1, (h3 U hU hW).2, hTW.move hW (by rw [hU]; exact hst)⟩⟩
end LWP
/-- what one of the law's helpers does: answers k; if that is 0, b lies in out; the line is Z then; hp says of both -/
def OH (l : Launch) (G : OG) (co : ClassId) (qo : Nat) (y : MethodName) (cc : ByteArray) (maxL : Nat) (hh : List (Nat × Nat × Nat × Nat)) (As : List Value) (u : OS) (g : Nat → Int64) (k : Nat) (hp : Int32 → List Nat → Prop) : Prop :=
  Met l y (.codeWith y cc maxL (some .int) hh :: GW) ({ frames := 8, cells := 1, slots := 6, locals := 150 }) (va_Pc As (lw_U G co qo u g)) (va_Qi (fun r (q : OS × (Nat → Int64)) => r = nI k ∧ ∃ (b : Int32) (Z : List Nat), hp b Z ∧ (k = 0 → q.2 0 = b.toInt64) ∧ Ov q.1 Z) (fun q t => lw_H G co qo q.1 q.2 t.heap) (lw_A G qo)) 1 6 (lw_A G qo)
set_option maxHeartbeats 4000000 in
set_option maxRecDepth 100000 in
/-- the law's helper behind, its call returns -/
theorem h_behind (l : Launch) (G : OG) (hG : ol_ok G) {co : ClassId} {qo : Nat} (hq : ¬ ol_A G qo) {x1 : Int32} {u : OS} {g : Nat → Int64} {post : Int32 → OS → Prop} {rm : Room} (hrm : rm.frames ≤ 7 ∧ rm.locals ≤ 102 ∧ rm.cells = 0 ∧ rm.slots = 0) (hM : ol_M l y_o_behind b_o_behind 4 (some .int) rm G [.int x1] u (ol_Qi G post)) {hp : Int32 → List Nat → Prop} (hpo : ∀ r u', post r u' → ∃ Z, hp r Z ∧ Ov u' Z) : OH l G co qo y_w_behind b_w_behind 4 [(0, 9, 12, 13)] [.ref (ol_h G), .int x1, .ref qo] u g 0 hp := by
  refine va_MetW (cc := b_w_behind) (maxL := 4) (ret := some .int) (hh := [(0, 9, 12, 13)]) (by decide) rfl ?_
  intro p e s m args below meth c s₁ BL hml hv
  obtain ⟨rfl, hK, hN, hTW, hP⟩ := hv
  have hx := BL.exec
  have hb := BL.bytes
  have hr := BL.returns
  have hts0 := atoms_spec (ws := .codeWith y_w_behind b_w_behind 4 (some .int) [(0, 9, 12, 13)] :: GW) BL.pre
  have hts : ∀ w ∈ GW, w.before _ s = true := fun w hw => hts0 w (List.mem_cons_of_mem _ hw)
  have hown : s.vm.findClass "OrderLineLaw" = some m.cls := findClass_of_methodNamed BL.named
  have hlocks := BL.notSynchronized
  have hS : va_S (lw_A G qo) s.heap s.heap [] := va_S.rf
  have hl := lv_entry ([.ref (ol_h G), .int x1, .ref qo]) (n := 4) (Nat.le_of_ble_eq_true rfl)
  rw [lg_entry_eq]
  generalize (lg_sl ([.ref (ol_h G), .int x1, .ref qo]) ++ List.replicate (4 - (lg_sl ([.ref (ol_h G), .int x1, .ref qo])).length) Slot.unset).toArray = ls at hl ⊢
  have hl : lv_has ls 4 [(0, .ref (ol_h G)), (1, .int x1), (2, .ref qo)] := hl
  refine lv_aload_n hx hb d_w_behind_0 rfl (lv_at hl 2 rfl) ?_
  refine lv_iconst (v := (nI 0)) hx hb d_w_behind_1 (by decide) ?_
  refine lv_aload_n hx hb d_w_behind_2 rfl (lv_at hl 0 rfl) ?_
  refine lv_iload_n hx hb d_w_behind_3 rfl (lv_at hl 1 rfl) ?_
  refine va_calli (va_runV (C := "OrderLine") (n := 1) (As := [.int x1]) (rest := [.int (nI 0), .ref qo]) ⟨hx, hb, hml, hown, hts⟩ hM (gw_W hts ml_w_7 im_o_behind se_o_behind k_o_behind in_o (by decide +kernel) hrm.2.2.1 hrm.2.2.2 ⟨by show rm.frames + 1 ≤ 8; omega, by show 8 + (4 + 11) + rm.locals ≤ 150; omega⟩) (lw_preO hK hN hP.o) rfl rfl hl.1 rfl (lv_room (Nat.le_of_ble_eq_true rfl)) d_w_behind_4 ⟨Nat.zero_le _, Nat.zero_le _⟩) hS (fun q _ h => Or.inl h) (fun q h => Or.inl h) (fun r u' t H1 locs ht hvm hpo9 hB hz hk1 hS => ?_)
  obtain ⟨Z9, hp9, hO9⟩ := hpo r u' hpo9
  rw [ht] at hB
  have hP : lw_H G co qo u' g H1 := hP.mk (hk1 qo hP.lt hq) hB
  refine lv_i2l (v := r.toInt64) hx hb d_w_behind_7 rfl ?_
  refine va_last (D := ol_D G) (cl := ol_cl) hx hb hK hP (lw_DD hG hq co u' g) hS 0 2 rfl rfl (vp_in_nI (by decide) (by decide)) d_w_behind_8 (fun H locs hP1 _ hS => ?_)
  have hP1 : lw_H G co qo u' (vp_updL g (nI 0).toNatClampNeg r.toInt64) H := hP1
  refine lv_goto (tgt := 15) hx hb d_w_behind_9 (by decide) ?_
  refine lv_iconst (v := (nI 0)) hx hb d_w_behind_15 (by decide) ?_
  refine W.widen (k := 1) (n := 6) (by omega) (by omega) ?_
  exact W.iret (v := nI 0) hx hb hr (fun t ht hW => ⟨⟨nI 0, (u', vp_updL g (nI 0).toNatClampNeg r.toInt64), rfl, ⟨rfl, r, Z9, hp9, fun _ => by rw [nI_clamp (by decide)]; simp [vp_updL], hO9⟩, by subst ht; exact hP1⟩, hS.F ht⟩) hS.2.2 d_w_behind_16 hlocks
set_option maxHeartbeats 4000000 in
set_option maxRecDepth 100000 in
/-- the law's helper behind, its call throws -/
theorem h_behindT (l : Launch) (G : OG) (hG : ol_ok G) {co : ClassId} {qo : Nat} (hq : ¬ ol_A G qo) {x1 : Int32} {u : OS} {g : Nat → Int64} (hM : ol_MT l y_o_behind b_o_behind 4 (some .int) ({ frames := 7, cells := 1, slots := 6, locals := 102 }) G [.int x1] u) {hp : Int32 → List Nat → Prop} (hO : ∃ (b : Int32) (Z : List Nat), hp b Z ∧ Ov u Z) : OH l G co qo y_w_behind b_w_behind 4 [(0, 9, 12, 13)] [.ref (ol_h G), .int x1, .ref qo] u g 1 hp := by
  refine va_MetW (cc := b_w_behind) (maxL := 4) (ret := some .int) (hh := [(0, 9, 12, 13)]) (by decide) rfl ?_
  intro p e s m args below meth c s₁ BL hml hv
  obtain ⟨rfl, hK, hN, hTW, hP⟩ := hv
  have hx := BL.exec
  have hb := BL.bytes
  have hr := BL.returns
  have hts0 := atoms_spec (ws := .codeWith y_w_behind b_w_behind 4 (some .int) [(0, 9, 12, 13)] :: GW) BL.pre
  have hts : ∀ w ∈ GW, w.before _ s = true := fun w hw => hts0 w (List.mem_cons_of_mem _ hw)
  have hown : s.vm.findClass "OrderLineLaw" = some m.cls := findClass_of_methodNamed BL.named
  have hlocks := BL.notSynchronized
  have hS : va_S (lw_A G qo) s.heap s.heap [] := va_S.rf
  have hl := lv_entry ([.ref (ol_h G), .int x1, .ref qo]) (n := 4) (Nat.le_of_ble_eq_true rfl)
  rw [lg_entry_eq]
  generalize (lg_sl ([.ref (ol_h G), .int x1, .ref qo]) ++ List.replicate (4 - (lg_sl ([.ref (ol_h G), .int x1, .ref qo])).length) Slot.unset).toArray = ls at hl ⊢
  have hl : lv_has ls 4 [(0, .ref (ol_h G)), (1, .int x1), (2, .ref qo)] := hl
  refine lv_aload_n hx hb d_w_behind_0 rfl (lv_at hl 2 rfl) ?_
  refine lv_iconst (v := (nI 0)) hx hb d_w_behind_1 (by decide) ?_
  refine lv_aload_n hx hb d_w_behind_2 rfl (lv_at hl 0 rfl) ?_
  refine lv_iload_n hx hb d_w_behind_3 rfl (lv_at hl 1 rfl) ?_
  obtain ⟨m9, meth9, c9, hn9, h1, h2, -, -, htab, -⟩ := Cond.codeWith_spec (hts0 _ List.mem_cons_self)
  cases hn9.symm.trans BL.named
  cases h1.symm.trans BL.method
  cases h2.symm.trans (Stand.of_body BL).code
  refine th_caught (th_V (C := "OrderLine") (n := 1) (As := [.int x1]) (rest := [.int (nI 0), .ref qo]) ⟨hx, hb, hml, hown, hts⟩ hM (gw_W hts ml_w_7 im_o_behind se_o_behind k_o_behind in_o (by decide +kernel) rfl rfl ⟨Nat.le_of_ble_eq_true rfl, Nat.le_of_ble_eq_true rfl⟩) (lw_preOT hK hN hTW (fun _ _ h _ => h) hP.o) rfl rfl hl.1 rfl (lv_room (Nat.le_of_ble_eq_true rfl)) d_w_behind_4 ⟨Nat.le_of_ble_eq_true rfl, Nat.le_of_ble_eq_true rfl⟩) hown htab ⟨by decide, by decide⟩ (by decide) (hts _ cl_w_13) (fun st₀ x t ha hq => ?_) (fun x st₀ t H1 L h0 ha hq9 ht hvm hL => ?_)
  · obtain ⟨-, -, -, ce, q4, q5, q6, q7⟩ := hq
    exact ⟨ce, q4, q5, by rw [← ha.findClass]; exact q6, by rw [← ha.assignable]; exact q7⟩
  obtain ⟨q1, q2, q3, -⟩ := hq9
  rw [h0] at q2 q3
  rw [ht] at q1 q2 q3
  have hS : va_S (lw_A G qo) s.heap H1 ([] ++ L) := ⟨q2, fun q a1 a2 => q3 q a1 (fun z => a2 (Or.inl z)), fun q hq => Or.inl (hL q (by simpa using hq))⟩
  have hP : lw_H G co qo u g H1 := hP.mk (q3 qo hP.lt hq) q1
  refine lv_astore_n (lv' := [(3, .ref x), (0, .ref (ol_h G)), (1, .int x1), (2, .ref qo)]) hx hb d_w_behind_12 rfl hl (by decide) rfl (fun ls hl => ?_)
  refine lv_iconst (v := (nI 1)) hx hb d_w_behind_13 (by decide) ?_
  refine W.widen (k := 1) (n := 6) (by omega) (by omega) ?_
  obtain ⟨b9, Z9, hp9, hO9⟩ := hO
  exact W.iret (v := nI 1) hx hb hr (fun t ht hW => ⟨⟨nI 1, (u, g), rfl, ⟨rfl, b9, Z9, hp9, fun h => absurd h (by decide), hO9⟩, by subst ht; exact hP⟩, hS.F ht⟩) hS.2.2 d_w_behind_14 hlocks
set_option maxHeartbeats 4000000 in
set_option maxRecDepth 100000 in
/-- the law's helper several, its call returns -/
theorem h_several (l : Launch) (G : OG) (hG : ol_ok G) {co : ClassId} {qo : Nat} (hq : ¬ ol_A G qo) {x1 x2 : Int32} {u : OS} {g : Nat → Int64} {post : Int32 → OS → Prop} {rm : Room} (hrm : rm.frames ≤ 7 ∧ rm.locals ≤ 102 ∧ rm.cells = 0 ∧ rm.slots = 0) (hM : ol_M l y_o_several b_o_several 8 (some .int) rm G [.int x1, .int x2] u (ol_Qi G post)) {hp : Int32 → List Nat → Prop} (hpo : ∀ r u', post r u' → ∃ Z, hp r Z ∧ Ov u' Z) : OH l G co qo y_w_several b_w_several 5 [(0, 10, 13, 13)] [.ref (ol_h G), .int x1, .int x2, .ref qo] u g 0 hp := by
  refine va_MetW (cc := b_w_several) (maxL := 5) (ret := some .int) (hh := [(0, 10, 13, 13)]) (by decide) rfl ?_
  intro p e s m args below meth c s₁ BL hml hv
  obtain ⟨rfl, hK, hN, hTW, hP⟩ := hv
  have hx := BL.exec
  have hb := BL.bytes
  have hr := BL.returns
  have hts0 := atoms_spec (ws := .codeWith y_w_several b_w_several 5 (some .int) [(0, 10, 13, 13)] :: GW) BL.pre
  have hts : ∀ w ∈ GW, w.before _ s = true := fun w hw => hts0 w (List.mem_cons_of_mem _ hw)
  have hown : s.vm.findClass "OrderLineLaw" = some m.cls := findClass_of_methodNamed BL.named
  have hlocks := BL.notSynchronized
  have hS : va_S (lw_A G qo) s.heap s.heap [] := va_S.rf
  have hl := lv_entry ([.ref (ol_h G), .int x1, .int x2, .ref qo]) (n := 5) (Nat.le_of_ble_eq_true rfl)
  rw [lg_entry_eq]
  generalize (lg_sl ([.ref (ol_h G), .int x1, .int x2, .ref qo]) ++ List.replicate (5 - (lg_sl ([.ref (ol_h G), .int x1, .int x2, .ref qo])).length) Slot.unset).toArray = ls at hl ⊢
  have hl : lv_has ls 5 [(0, .ref (ol_h G)), (1, .int x1), (2, .int x2), (3, .ref qo)] := hl
  refine lv_aload_n hx hb d_w_several_0 rfl (lv_at hl 3 rfl) ?_
  refine lv_iconst (v := (nI 0)) hx hb d_w_several_1 (by decide) ?_
  refine lv_aload_n hx hb d_w_several_2 rfl (lv_at hl 0 rfl) ?_
  refine lv_iload_n hx hb d_w_several_3 rfl (lv_at hl 1 rfl) ?_
  refine lv_iload_n hx hb d_w_several_4 rfl (lv_at hl 2 rfl) ?_
  refine va_calli (va_runV (C := "OrderLine") (n := 2) (As := [.int x1, .int x2]) (rest := [.int (nI 0), .ref qo]) ⟨hx, hb, hml, hown, hts⟩ hM (gw_W hts ml_w_15 im_o_several se_o_several k_o_several in_o (by decide +kernel) hrm.2.2.1 hrm.2.2.2 ⟨by show rm.frames + 1 ≤ 8; omega, by show 8 + (8 + 11) + rm.locals ≤ 150; omega⟩) (lw_preO hK hN hP.o) rfl rfl hl.1 rfl (lv_room (Nat.le_of_ble_eq_true rfl)) d_w_several_5 ⟨Nat.zero_le _, Nat.zero_le _⟩) hS (fun q _ h => Or.inl h) (fun q h => Or.inl h) (fun r u' t H1 locs ht hvm hpo9 hB hz hk1 hS => ?_)
  obtain ⟨Z9, hp9, hO9⟩ := hpo r u' hpo9
  rw [ht] at hB
  have hP : lw_H G co qo u' g H1 := hP.mk (hk1 qo hP.lt hq) hB
  refine lv_i2l (v := r.toInt64) hx hb d_w_several_8 rfl ?_
  refine va_last (D := ol_D G) (cl := ol_cl) hx hb hK hP (lw_DD hG hq co u' g) hS 0 2 rfl rfl (vp_in_nI (by decide) (by decide)) d_w_several_9 (fun H locs hP1 _ hS => ?_)
  have hP1 : lw_H G co qo u' (vp_updL g (nI 0).toNatClampNeg r.toInt64) H := hP1
  refine lv_goto (tgt := 17) hx hb d_w_several_10 (by decide) ?_
  refine lv_iconst (v := (nI 0)) hx hb d_w_several_17 (by decide) ?_
  refine W.widen (k := 1) (n := 6) (by omega) (by omega) ?_
  exact W.iret (v := nI 0) hx hb hr (fun t ht hW => ⟨⟨nI 0, (u', vp_updL g (nI 0).toNatClampNeg r.toInt64), rfl, ⟨rfl, r, Z9, hp9, fun _ => by rw [nI_clamp (by decide)]; simp [vp_updL], hO9⟩, by subst ht; exact hP1⟩, hS.F ht⟩) hS.2.2 d_w_several_18 hlocks
set_option maxHeartbeats 4000000 in
set_option maxRecDepth 100000 in
/-- the law's helper several, its call throws -/
theorem h_severalT (l : Launch) (G : OG) (hG : ol_ok G) {co : ClassId} {qo : Nat} (hq : ¬ ol_A G qo) {x1 x2 : Int32} {u : OS} {g : Nat → Int64} (hM : ol_MT l y_o_several b_o_several 8 (some .int) ({ frames := 7, cells := 1, slots := 6, locals := 102 }) G [.int x1, .int x2] u) {hp : Int32 → List Nat → Prop} (hO : ∃ (b : Int32) (Z : List Nat), hp b Z ∧ Ov u Z) : OH l G co qo y_w_several b_w_several 5 [(0, 10, 13, 13)] [.ref (ol_h G), .int x1, .int x2, .ref qo] u g 1 hp := by
  refine va_MetW (cc := b_w_several) (maxL := 5) (ret := some .int) (hh := [(0, 10, 13, 13)]) (by decide) rfl ?_
  intro p e s m args below meth c s₁ BL hml hv
  obtain ⟨rfl, hK, hN, hTW, hP⟩ := hv
  have hx := BL.exec
  have hb := BL.bytes
  have hr := BL.returns
  have hts0 := atoms_spec (ws := .codeWith y_w_several b_w_several 5 (some .int) [(0, 10, 13, 13)] :: GW) BL.pre
  have hts : ∀ w ∈ GW, w.before _ s = true := fun w hw => hts0 w (List.mem_cons_of_mem _ hw)
  have hown : s.vm.findClass "OrderLineLaw" = some m.cls := findClass_of_methodNamed BL.named
  have hlocks := BL.notSynchronized
  have hS : va_S (lw_A G qo) s.heap s.heap [] := va_S.rf
  have hl := lv_entry ([.ref (ol_h G), .int x1, .int x2, .ref qo]) (n := 5) (Nat.le_of_ble_eq_true rfl)
  rw [lg_entry_eq]
  generalize (lg_sl ([.ref (ol_h G), .int x1, .int x2, .ref qo]) ++ List.replicate (5 - (lg_sl ([.ref (ol_h G), .int x1, .int x2, .ref qo])).length) Slot.unset).toArray = ls at hl ⊢
  have hl : lv_has ls 5 [(0, .ref (ol_h G)), (1, .int x1), (2, .int x2), (3, .ref qo)] := hl
  refine lv_aload_n hx hb d_w_several_0 rfl (lv_at hl 3 rfl) ?_
  refine lv_iconst (v := (nI 0)) hx hb d_w_several_1 (by decide) ?_
  refine lv_aload_n hx hb d_w_several_2 rfl (lv_at hl 0 rfl) ?_
  refine lv_iload_n hx hb d_w_several_3 rfl (lv_at hl 1 rfl) ?_
  refine lv_iload_n hx hb d_w_several_4 rfl (lv_at hl 2 rfl) ?_
  obtain ⟨m9, meth9, c9, hn9, h1, h2, -, -, htab, -⟩ := Cond.codeWith_spec (hts0 _ List.mem_cons_self)
  cases hn9.symm.trans BL.named
  cases h1.symm.trans BL.method
  cases h2.symm.trans (Stand.of_body BL).code
  refine th_caught (th_V (C := "OrderLine") (n := 2) (As := [.int x1, .int x2]) (rest := [.int (nI 0), .ref qo]) ⟨hx, hb, hml, hown, hts⟩ hM (gw_W hts ml_w_15 im_o_several se_o_several k_o_several in_o (by decide +kernel) rfl rfl ⟨Nat.le_of_ble_eq_true rfl, Nat.le_of_ble_eq_true rfl⟩) (lw_preOT hK hN hTW (fun _ _ h _ => h) hP.o) rfl rfl hl.1 rfl (lv_room (Nat.le_of_ble_eq_true rfl)) d_w_several_5 ⟨Nat.le_of_ble_eq_true rfl, Nat.le_of_ble_eq_true rfl⟩) hown htab ⟨by decide, by decide⟩ (by decide) (hts _ cl_w_13) (fun st₀ x t ha hq => ?_) (fun x st₀ t H1 L h0 ha hq9 ht hvm hL => ?_)
  · obtain ⟨-, -, -, ce, q4, q5, q6, q7⟩ := hq
    exact ⟨ce, q4, q5, by rw [← ha.findClass]; exact q6, by rw [← ha.assignable]; exact q7⟩
  obtain ⟨q1, q2, q3, -⟩ := hq9
  rw [h0] at q2 q3
  rw [ht] at q1 q2 q3
  have hS : va_S (lw_A G qo) s.heap H1 ([] ++ L) := ⟨q2, fun q a1 a2 => q3 q a1 (fun z => a2 (Or.inl z)), fun q hq => Or.inl (hL q (by simpa using hq))⟩
  have hP : lw_H G co qo u g H1 := hP.mk (q3 qo hP.lt hq) q1
  refine lv_astore (lv' := [(4, .ref x), (0, .ref (ol_h G)), (1, .int x1), (2, .int x2), (3, .ref qo)]) hx hb d_w_several_13 hl (by decide) rfl (fun ls hl => ?_)
  refine lv_iconst (v := (nI 1)) hx hb d_w_several_15 (by decide) ?_
  refine W.widen (k := 1) (n := 6) (by omega) (by omega) ?_
  obtain ⟨b9, Z9, hp9, hO9⟩ := hO
  exact W.iret (v := nI 1) hx hb hr (fun t ht hW => ⟨⟨nI 1, (u, g), rfl, ⟨rfl, b9, Z9, hp9, fun h => absurd h (by decide), hO9⟩, by subst ht; exact hP⟩, hS.F ht⟩) hS.2.2 d_w_several_16 hlocks
set_option maxHeartbeats 4000000 in
set_option maxRecDepth 100000 in
/-- the law's helper clear, its call returns -/
theorem h_clear (l : Launch) (G : OG) (hG : ol_ok G) {co : ClassId} {qo : Nat} (hq : ¬ ol_A G qo) {x1 x2 : Int32} {u : OS} {g : Nat → Int64} {post : Int32 → OS → Prop} {rm : Room} (hrm : rm.frames ≤ 7 ∧ rm.locals ≤ 102 ∧ rm.cells = 0 ∧ rm.slots = 0) (hM : ol_M l y_o_clear b_o_clear 7 (some .int) rm G [.int x1, .int x2] u (ol_Qi G post)) {hp : Int32 → List Nat → Prop} (hpo : ∀ r u', post r u' → ∃ Z, hp r Z ∧ Ov u' Z) : OH l G co qo y_w_clear b_w_clear 5 [(0, 10, 13, 13)] [.ref (ol_h G), .int x1, .int x2, .ref qo] u g 0 hp := by
  refine va_MetW (cc := b_w_clear) (maxL := 5) (ret := some .int) (hh := [(0, 10, 13, 13)]) (by decide) rfl ?_
  intro p e s m args below meth c s₁ BL hml hv
  obtain ⟨rfl, hK, hN, hTW, hP⟩ := hv
  have hx := BL.exec
  have hb := BL.bytes
  have hr := BL.returns
  have hts0 := atoms_spec (ws := .codeWith y_w_clear b_w_clear 5 (some .int) [(0, 10, 13, 13)] :: GW) BL.pre
  have hts : ∀ w ∈ GW, w.before _ s = true := fun w hw => hts0 w (List.mem_cons_of_mem _ hw)
  have hown : s.vm.findClass "OrderLineLaw" = some m.cls := findClass_of_methodNamed BL.named
  have hlocks := BL.notSynchronized
  have hS : va_S (lw_A G qo) s.heap s.heap [] := va_S.rf
  have hl := lv_entry ([.ref (ol_h G), .int x1, .int x2, .ref qo]) (n := 5) (Nat.le_of_ble_eq_true rfl)
  rw [lg_entry_eq]
  generalize (lg_sl ([.ref (ol_h G), .int x1, .int x2, .ref qo]) ++ List.replicate (5 - (lg_sl ([.ref (ol_h G), .int x1, .int x2, .ref qo])).length) Slot.unset).toArray = ls at hl ⊢
  have hl : lv_has ls 5 [(0, .ref (ol_h G)), (1, .int x1), (2, .int x2), (3, .ref qo)] := hl
  refine lv_aload_n hx hb d_w_clear_0 rfl (lv_at hl 3 rfl) ?_
  refine lv_iconst (v := (nI 0)) hx hb d_w_clear_1 (by decide) ?_
  refine lv_aload_n hx hb d_w_clear_2 rfl (lv_at hl 0 rfl) ?_
  refine lv_iload_n hx hb d_w_clear_3 rfl (lv_at hl 1 rfl) ?_
  refine lv_iload_n hx hb d_w_clear_4 rfl (lv_at hl 2 rfl) ?_
  refine va_calli (va_runV (C := "OrderLine") (n := 2) (As := [.int x1, .int x2]) (rest := [.int (nI 0), .ref qo]) ⟨hx, hb, hml, hown, hts⟩ hM (gw_W hts ml_w_19 im_o_clear se_o_clear k_o_clear in_o (by decide +kernel) hrm.2.2.1 hrm.2.2.2 ⟨by show rm.frames + 1 ≤ 8; omega, by show 8 + (7 + 11) + rm.locals ≤ 150; omega⟩) (lw_preO hK hN hP.o) rfl rfl hl.1 rfl (lv_room (Nat.le_of_ble_eq_true rfl)) d_w_clear_5 ⟨Nat.zero_le _, Nat.zero_le _⟩) hS (fun q _ h => Or.inl h) (fun q h => Or.inl h) (fun r u' t H1 locs ht hvm hpo9 hB hz hk1 hS => ?_)
  obtain ⟨Z9, hp9, hO9⟩ := hpo r u' hpo9
  rw [ht] at hB
  have hP : lw_H G co qo u' g H1 := hP.mk (hk1 qo hP.lt hq) hB
  refine lv_i2l (v := r.toInt64) hx hb d_w_clear_8 rfl ?_
  refine va_last (D := ol_D G) (cl := ol_cl) hx hb hK hP (lw_DD hG hq co u' g) hS 0 2 rfl rfl (vp_in_nI (by decide) (by decide)) d_w_clear_9 (fun H locs hP1 _ hS => ?_)
  have hP1 : lw_H G co qo u' (vp_updL g (nI 0).toNatClampNeg r.toInt64) H := hP1
  refine lv_goto (tgt := 17) hx hb d_w_clear_10 (by decide) ?_
  refine lv_iconst (v := (nI 0)) hx hb d_w_clear_17 (by decide) ?_
  refine W.widen (k := 1) (n := 6) (by omega) (by omega) ?_
  exact W.iret (v := nI 0) hx hb hr (fun t ht hW => ⟨⟨nI 0, (u', vp_updL g (nI 0).toNatClampNeg r.toInt64), rfl, ⟨rfl, r, Z9, hp9, fun _ => by rw [nI_clamp (by decide)]; simp [vp_updL], hO9⟩, by subst ht; exact hP1⟩, hS.F ht⟩) hS.2.2 d_w_clear_18 hlocks
set_option maxHeartbeats 4000000 in
set_option maxRecDepth 100000 in
/-- the law's helper clear, its call throws -/
theorem h_clearT (l : Launch) (G : OG) (hG : ol_ok G) {co : ClassId} {qo : Nat} (hq : ¬ ol_A G qo) {x1 x2 : Int32} {u : OS} {g : Nat → Int64} (hM : ol_MT l y_o_clear b_o_clear 7 (some .int) ({ frames := 7, cells := 1, slots := 6, locals := 102 }) G [.int x1, .int x2] u) {hp : Int32 → List Nat → Prop} (hO : ∃ (b : Int32) (Z : List Nat), hp b Z ∧ Ov u Z) : OH l G co qo y_w_clear b_w_clear 5 [(0, 10, 13, 13)] [.ref (ol_h G), .int x1, .int x2, .ref qo] u g 1 hp := by
  refine va_MetW (cc := b_w_clear) (maxL := 5) (ret := some .int) (hh := [(0, 10, 13, 13)]) (by decide) rfl ?_
  intro p e s m args below meth c s₁ BL hml hv
  obtain ⟨rfl, hK, hN, hTW, hP⟩ := hv
  have hx := BL.exec
  have hb := BL.bytes
  have hr := BL.returns
  have hts0 := atoms_spec (ws := .codeWith y_w_clear b_w_clear 5 (some .int) [(0, 10, 13, 13)] :: GW) BL.pre
  have hts : ∀ w ∈ GW, w.before _ s = true := fun w hw => hts0 w (List.mem_cons_of_mem _ hw)
  have hown : s.vm.findClass "OrderLineLaw" = some m.cls := findClass_of_methodNamed BL.named
  have hlocks := BL.notSynchronized
  have hS : va_S (lw_A G qo) s.heap s.heap [] := va_S.rf
  have hl := lv_entry ([.ref (ol_h G), .int x1, .int x2, .ref qo]) (n := 5) (Nat.le_of_ble_eq_true rfl)
  rw [lg_entry_eq]
  generalize (lg_sl ([.ref (ol_h G), .int x1, .int x2, .ref qo]) ++ List.replicate (5 - (lg_sl ([.ref (ol_h G), .int x1, .int x2, .ref qo])).length) Slot.unset).toArray = ls at hl ⊢
  have hl : lv_has ls 5 [(0, .ref (ol_h G)), (1, .int x1), (2, .int x2), (3, .ref qo)] := hl
  refine lv_aload_n hx hb d_w_clear_0 rfl (lv_at hl 3 rfl) ?_
  refine lv_iconst (v := (nI 0)) hx hb d_w_clear_1 (by decide) ?_
  refine lv_aload_n hx hb d_w_clear_2 rfl (lv_at hl 0 rfl) ?_
  refine lv_iload_n hx hb d_w_clear_3 rfl (lv_at hl 1 rfl) ?_
  refine lv_iload_n hx hb d_w_clear_4 rfl (lv_at hl 2 rfl) ?_
  obtain ⟨m9, meth9, c9, hn9, h1, h2, -, -, htab, -⟩ := Cond.codeWith_spec (hts0 _ List.mem_cons_self)
  cases hn9.symm.trans BL.named
  cases h1.symm.trans BL.method
  cases h2.symm.trans (Stand.of_body BL).code
  refine th_caught (th_V (C := "OrderLine") (n := 2) (As := [.int x1, .int x2]) (rest := [.int (nI 0), .ref qo]) ⟨hx, hb, hml, hown, hts⟩ hM (gw_W hts ml_w_19 im_o_clear se_o_clear k_o_clear in_o (by decide +kernel) rfl rfl ⟨Nat.le_of_ble_eq_true rfl, Nat.le_of_ble_eq_true rfl⟩) (lw_preOT hK hN hTW (fun _ _ h _ => h) hP.o) rfl rfl hl.1 rfl (lv_room (Nat.le_of_ble_eq_true rfl)) d_w_clear_5 ⟨Nat.le_of_ble_eq_true rfl, Nat.le_of_ble_eq_true rfl⟩) hown htab ⟨by decide, by decide⟩ (by decide) (hts _ cl_w_13) (fun st₀ x t ha hq => ?_) (fun x st₀ t H1 L h0 ha hq9 ht hvm hL => ?_)
  · obtain ⟨-, -, -, ce, q4, q5, q6, q7⟩ := hq
    exact ⟨ce, q4, q5, by rw [← ha.findClass]; exact q6, by rw [← ha.assignable]; exact q7⟩
  obtain ⟨q1, q2, q3, -⟩ := hq9
  rw [h0] at q2 q3
  rw [ht] at q1 q2 q3
  have hS : va_S (lw_A G qo) s.heap H1 ([] ++ L) := ⟨q2, fun q a1 a2 => q3 q a1 (fun z => a2 (Or.inl z)), fun q hq => Or.inl (hL q (by simpa using hq))⟩
  have hP : lw_H G co qo u g H1 := hP.mk (q3 qo hP.lt hq) q1
  refine lv_astore (lv' := [(4, .ref x), (0, .ref (ol_h G)), (1, .int x1), (2, .int x2), (3, .ref qo)]) hx hb d_w_clear_13 hl (by decide) rfl (fun ls hl => ?_)
  refine lv_iconst (v := (nI 1)) hx hb d_w_clear_15 (by decide) ?_
  refine W.widen (k := 1) (n := 6) (by omega) (by omega) ?_
  obtain ⟨b9, Z9, hp9, hO9⟩ := hO
  exact W.iret (v := nI 1) hx hb hr (fun t ht hW => ⟨⟨nI 1, (u, g), rfl, ⟨rfl, b9, Z9, hp9, fun h => absurd h (by decide), hO9⟩, by subst ht; exact hP⟩, hS.F ht⟩) hS.2.2 d_w_clear_16 hlocks
set_option maxHeartbeats 4000000 in
set_option maxRecDepth 100000 in
/-- the law's helper carry, its call returns -/
theorem h_carry (l : Launch) (G : OG) (hG : ol_ok G) {co : ClassId} {qo : Nat} (hq : ¬ ol_A G qo) {x1 x2 x3 : Int32} {u : OS} {g : Nat → Int64} {post : Int32 → OS → Prop} {rm : Room} (hrm : rm.frames ≤ 7 ∧ rm.locals ≤ 102 ∧ rm.cells = 0 ∧ rm.slots = 0) (hM : ol_M l y_o_carry b_o_carry 11 (some .int) rm G [.int x1, .int x2, .int x3] u (ol_Qi G post)) {hp : Int32 → List Nat → Prop} (hpo : ∀ r u', post r u' → ∃ Z, hp r Z ∧ Ov u' Z) : OH l G co qo y_w_carry b_w_carry 6 [(0, 12, 15, 13)] [.ref (ol_h G), .int x1, .int x2, .int x3, .ref qo] u g 0 hp := by
  refine va_MetW (cc := b_w_carry) (maxL := 6) (ret := some .int) (hh := [(0, 12, 15, 13)]) (by decide) rfl ?_
  intro p e s m args below meth c s₁ BL hml hv
  obtain ⟨rfl, hK, hN, hTW, hP⟩ := hv
  have hx := BL.exec
  have hb := BL.bytes
  have hr := BL.returns
  have hts0 := atoms_spec (ws := .codeWith y_w_carry b_w_carry 6 (some .int) [(0, 12, 15, 13)] :: GW) BL.pre
  have hts : ∀ w ∈ GW, w.before _ s = true := fun w hw => hts0 w (List.mem_cons_of_mem _ hw)
  have hown : s.vm.findClass "OrderLineLaw" = some m.cls := findClass_of_methodNamed BL.named
  have hlocks := BL.notSynchronized
  have hS : va_S (lw_A G qo) s.heap s.heap [] := va_S.rf
  have hl := lv_entry ([.ref (ol_h G), .int x1, .int x2, .int x3, .ref qo]) (n := 6) (Nat.le_of_ble_eq_true rfl)
  rw [lg_entry_eq]
  generalize (lg_sl ([.ref (ol_h G), .int x1, .int x2, .int x3, .ref qo]) ++ List.replicate (6 - (lg_sl ([.ref (ol_h G), .int x1, .int x2, .int x3, .ref qo])).length) Slot.unset).toArray = ls at hl ⊢
  have hl : lv_has ls 6 [(0, .ref (ol_h G)), (1, .int x1), (2, .int x2), (3, .int x3), (4, .ref qo)] := hl
  refine lv_aload hx hb d_w_carry_0 (lv_at hl 4 rfl) ?_
  refine lv_iconst (v := (nI 0)) hx hb d_w_carry_2 (by decide) ?_
  refine lv_aload_n hx hb d_w_carry_3 rfl (lv_at hl 0 rfl) ?_
  refine lv_iload_n hx hb d_w_carry_4 rfl (lv_at hl 1 rfl) ?_
  refine lv_iload_n hx hb d_w_carry_5 rfl (lv_at hl 2 rfl) ?_
  refine lv_iload_n hx hb d_w_carry_6 rfl (lv_at hl 3 rfl) ?_
  refine va_calli (va_runV (C := "OrderLine") (n := 3) (As := [.int x1, .int x2, .int x3]) (rest := [.int (nI 0), .ref qo]) ⟨hx, hb, hml, hown, hts⟩ hM (gw_W hts ml_w_22 im_o_carry se_o_carry k_o_carry in_o (by decide +kernel) hrm.2.2.1 hrm.2.2.2 ⟨by show rm.frames + 1 ≤ 8; omega, by show 8 + (11 + 11) + rm.locals ≤ 150; omega⟩) (lw_preO hK hN hP.o) rfl rfl hl.1 rfl (lv_room (Nat.le_of_ble_eq_true rfl)) d_w_carry_7 ⟨Nat.zero_le _, Nat.zero_le _⟩) hS (fun q _ h => Or.inl h) (fun q h => Or.inl h) (fun r u' t H1 locs ht hvm hpo9 hB hz hk1 hS => ?_)
  obtain ⟨Z9, hp9, hO9⟩ := hpo r u' hpo9
  rw [ht] at hB
  have hP : lw_H G co qo u' g H1 := hP.mk (hk1 qo hP.lt hq) hB
  refine lv_i2l (v := r.toInt64) hx hb d_w_carry_10 rfl ?_
  refine va_last (D := ol_D G) (cl := ol_cl) hx hb hK hP (lw_DD hG hq co u' g) hS 0 2 rfl rfl (vp_in_nI (by decide) (by decide)) d_w_carry_11 (fun H locs hP1 _ hS => ?_)
  have hP1 : lw_H G co qo u' (vp_updL g (nI 0).toNatClampNeg r.toInt64) H := hP1
  refine lv_goto (tgt := 19) hx hb d_w_carry_12 (by decide) ?_
  refine lv_iconst (v := (nI 0)) hx hb d_w_carry_19 (by decide) ?_
  refine W.widen (k := 1) (n := 6) (by omega) (by omega) ?_
  exact W.iret (v := nI 0) hx hb hr (fun t ht hW => ⟨⟨nI 0, (u', vp_updL g (nI 0).toNatClampNeg r.toInt64), rfl, ⟨rfl, r, Z9, hp9, fun _ => by rw [nI_clamp (by decide)]; simp [vp_updL], hO9⟩, by subst ht; exact hP1⟩, hS.F ht⟩) hS.2.2 d_w_carry_20 hlocks
set_option maxHeartbeats 4000000 in
set_option maxRecDepth 100000 in
/-- the law's helper carry, its call throws -/
theorem h_carryT (l : Launch) (G : OG) (hG : ol_ok G) {co : ClassId} {qo : Nat} (hq : ¬ ol_A G qo) {x1 x2 x3 : Int32} {u : OS} {g : Nat → Int64} (hM : ol_MT l y_o_carry b_o_carry 11 (some .int) ({ frames := 7, cells := 1, slots := 6, locals := 102 }) G [.int x1, .int x2, .int x3] u) {hp : Int32 → List Nat → Prop} (hO : ∃ (b : Int32) (Z : List Nat), hp b Z ∧ Ov u Z) : OH l G co qo y_w_carry b_w_carry 6 [(0, 12, 15, 13)] [.ref (ol_h G), .int x1, .int x2, .int x3, .ref qo] u g 1 hp := by
  refine va_MetW (cc := b_w_carry) (maxL := 6) (ret := some .int) (hh := [(0, 12, 15, 13)]) (by decide) rfl ?_
  intro p e s m args below meth c s₁ BL hml hv
  obtain ⟨rfl, hK, hN, hTW, hP⟩ := hv
  have hx := BL.exec
  have hb := BL.bytes
  have hr := BL.returns
  have hts0 := atoms_spec (ws := .codeWith y_w_carry b_w_carry 6 (some .int) [(0, 12, 15, 13)] :: GW) BL.pre
  have hts : ∀ w ∈ GW, w.before _ s = true := fun w hw => hts0 w (List.mem_cons_of_mem _ hw)
  have hown : s.vm.findClass "OrderLineLaw" = some m.cls := findClass_of_methodNamed BL.named
  have hlocks := BL.notSynchronized
  have hS : va_S (lw_A G qo) s.heap s.heap [] := va_S.rf
  have hl := lv_entry ([.ref (ol_h G), .int x1, .int x2, .int x3, .ref qo]) (n := 6) (Nat.le_of_ble_eq_true rfl)
  rw [lg_entry_eq]
  generalize (lg_sl ([.ref (ol_h G), .int x1, .int x2, .int x3, .ref qo]) ++ List.replicate (6 - (lg_sl ([.ref (ol_h G), .int x1, .int x2, .int x3, .ref qo])).length) Slot.unset).toArray = ls at hl ⊢
  have hl : lv_has ls 6 [(0, .ref (ol_h G)), (1, .int x1), (2, .int x2), (3, .int x3), (4, .ref qo)] := hl
  refine lv_aload hx hb d_w_carry_0 (lv_at hl 4 rfl) ?_
  refine lv_iconst (v := (nI 0)) hx hb d_w_carry_2 (by decide) ?_
  refine lv_aload_n hx hb d_w_carry_3 rfl (lv_at hl 0 rfl) ?_
  refine lv_iload_n hx hb d_w_carry_4 rfl (lv_at hl 1 rfl) ?_
  refine lv_iload_n hx hb d_w_carry_5 rfl (lv_at hl 2 rfl) ?_
  refine lv_iload_n hx hb d_w_carry_6 rfl (lv_at hl 3 rfl) ?_
  obtain ⟨m9, meth9, c9, hn9, h1, h2, -, -, htab, -⟩ := Cond.codeWith_spec (hts0 _ List.mem_cons_self)
  cases hn9.symm.trans BL.named
  cases h1.symm.trans BL.method
  cases h2.symm.trans (Stand.of_body BL).code
  refine th_caught (th_V (C := "OrderLine") (n := 3) (As := [.int x1, .int x2, .int x3]) (rest := [.int (nI 0), .ref qo]) ⟨hx, hb, hml, hown, hts⟩ hM (gw_W hts ml_w_22 im_o_carry se_o_carry k_o_carry in_o (by decide +kernel) rfl rfl ⟨Nat.le_of_ble_eq_true rfl, Nat.le_of_ble_eq_true rfl⟩) (lw_preOT hK hN hTW (fun _ _ h _ => h) hP.o) rfl rfl hl.1 rfl (lv_room (Nat.le_of_ble_eq_true rfl)) d_w_carry_7 ⟨Nat.le_of_ble_eq_true rfl, Nat.le_of_ble_eq_true rfl⟩) hown htab ⟨by decide, by decide⟩ (by decide) (hts _ cl_w_13) (fun st₀ x t ha hq => ?_) (fun x st₀ t H1 L h0 ha hq9 ht hvm hL => ?_)
  · obtain ⟨-, -, -, ce, q4, q5, q6, q7⟩ := hq
    exact ⟨ce, q4, q5, by rw [← ha.findClass]; exact q6, by rw [← ha.assignable]; exact q7⟩
  obtain ⟨q1, q2, q3, -⟩ := hq9
  rw [h0] at q2 q3
  rw [ht] at q1 q2 q3
  have hS : va_S (lw_A G qo) s.heap H1 ([] ++ L) := ⟨q2, fun q a1 a2 => q3 q a1 (fun z => a2 (Or.inl z)), fun q hq => Or.inl (hL q (by simpa using hq))⟩
  have hP : lw_H G co qo u g H1 := hP.mk (q3 qo hP.lt hq) q1
  refine lv_astore (lv' := [(5, .ref x), (0, .ref (ol_h G)), (1, .int x1), (2, .int x2), (3, .int x3), (4, .ref qo)]) hx hb d_w_carry_15 hl (by decide) rfl (fun ls hl => ?_)
  refine lv_iconst (v := (nI 1)) hx hb d_w_carry_17 (by decide) ?_
  refine W.widen (k := 1) (n := 6) (by omega) (by omega) ?_
  obtain ⟨b9, Z9, hp9, hO9⟩ := hO
  exact W.iret (v := nI 1) hx hb hr (fun t ht hW => ⟨⟨nI 1, (u, g), rfl, ⟨rfl, b9, Z9, hp9, fun h => absurd h (by decide), hO9⟩, by subst ht; exact hP⟩, hS.F ht⟩) hS.2.2 d_w_carry_18 hlocks
set_option maxHeartbeats 4000000 in
set_option maxRecDepth 100000 in
/-- the law's helper compare, its call returns -/
theorem h_compare (l : Launch) (G : OG) (hG : ol_ok G) {co : ClassId} {qo : Nat} (hq : ¬ ol_A G qo) {x1 x2 : Int32} {u : OS} {g : Nat → Int64} {post : Int32 → OS → Prop} {rm : Room} (hrm : rm.frames ≤ 7 ∧ rm.locals ≤ 102 ∧ rm.cells = 0 ∧ rm.slots = 0) (hM : ol_M l y_o_compare b_o_compare 5 (some .int) rm G [.int x1, .int x2] u (ol_Qi G post)) {hp : Int32 → List Nat → Prop} (hpo : ∀ r u', post r u' → ∃ Z, hp r Z ∧ Ov u' Z) : OH l G co qo y_w_compare b_w_compare 5 [(0, 10, 13, 13)] [.ref (ol_h G), .int x1, .int x2, .ref qo] u g 0 hp := by
  refine va_MetW (cc := b_w_compare) (maxL := 5) (ret := some .int) (hh := [(0, 10, 13, 13)]) (by decide) rfl ?_
  intro p e s m args below meth c s₁ BL hml hv
  obtain ⟨rfl, hK, hN, hTW, hP⟩ := hv
  have hx := BL.exec
  have hb := BL.bytes
  have hr := BL.returns
  have hts0 := atoms_spec (ws := .codeWith y_w_compare b_w_compare 5 (some .int) [(0, 10, 13, 13)] :: GW) BL.pre
  have hts : ∀ w ∈ GW, w.before _ s = true := fun w hw => hts0 w (List.mem_cons_of_mem _ hw)
  have hown : s.vm.findClass "OrderLineLaw" = some m.cls := findClass_of_methodNamed BL.named
  have hlocks := BL.notSynchronized
  have hS : va_S (lw_A G qo) s.heap s.heap [] := va_S.rf
  have hl := lv_entry ([.ref (ol_h G), .int x1, .int x2, .ref qo]) (n := 5) (Nat.le_of_ble_eq_true rfl)
  rw [lg_entry_eq]
  generalize (lg_sl ([.ref (ol_h G), .int x1, .int x2, .ref qo]) ++ List.replicate (5 - (lg_sl ([.ref (ol_h G), .int x1, .int x2, .ref qo])).length) Slot.unset).toArray = ls at hl ⊢
  have hl : lv_has ls 5 [(0, .ref (ol_h G)), (1, .int x1), (2, .int x2), (3, .ref qo)] := hl
  refine lv_aload_n hx hb d_w_compare_0 rfl (lv_at hl 3 rfl) ?_
  refine lv_iconst (v := (nI 0)) hx hb d_w_compare_1 (by decide) ?_
  refine lv_aload_n hx hb d_w_compare_2 rfl (lv_at hl 0 rfl) ?_
  refine lv_iload_n hx hb d_w_compare_3 rfl (lv_at hl 1 rfl) ?_
  refine lv_iload_n hx hb d_w_compare_4 rfl (lv_at hl 2 rfl) ?_
  refine va_calli (va_runV (C := "OrderLine") (n := 2) (As := [.int x1, .int x2]) (rest := [.int (nI 0), .ref qo]) ⟨hx, hb, hml, hown, hts⟩ hM (gw_W hts ml_w_26 im_o_compare se_o_compare k_o_compare in_o (by decide +kernel) hrm.2.2.1 hrm.2.2.2 ⟨by show rm.frames + 1 ≤ 8; omega, by show 8 + (5 + 11) + rm.locals ≤ 150; omega⟩) (lw_preO hK hN hP.o) rfl rfl hl.1 rfl (lv_room (Nat.le_of_ble_eq_true rfl)) d_w_compare_5 ⟨Nat.zero_le _, Nat.zero_le _⟩) hS (fun q _ h => Or.inl h) (fun q h => Or.inl h) (fun r u' t H1 locs ht hvm hpo9 hB hz hk1 hS => ?_)
  obtain ⟨Z9, hp9, hO9⟩ := hpo r u' hpo9
  rw [ht] at hB
  have hP : lw_H G co qo u' g H1 := hP.mk (hk1 qo hP.lt hq) hB
  refine lv_i2l (v := r.toInt64) hx hb d_w_compare_8 rfl ?_
  refine va_last (D := ol_D G) (cl := ol_cl) hx hb hK hP (lw_DD hG hq co u' g) hS 0 2 rfl rfl (vp_in_nI (by decide) (by decide)) d_w_compare_9 (fun H locs hP1 _ hS => ?_)
  have hP1 : lw_H G co qo u' (vp_updL g (nI 0).toNatClampNeg r.toInt64) H := hP1
  refine lv_goto (tgt := 17) hx hb d_w_compare_10 (by decide) ?_
  refine lv_iconst (v := (nI 0)) hx hb d_w_compare_17 (by decide) ?_
  refine W.widen (k := 1) (n := 6) (by omega) (by omega) ?_
  exact W.iret (v := nI 0) hx hb hr (fun t ht hW => ⟨⟨nI 0, (u', vp_updL g (nI 0).toNatClampNeg r.toInt64), rfl, ⟨rfl, r, Z9, hp9, fun _ => by rw [nI_clamp (by decide)]; simp [vp_updL], hO9⟩, by subst ht; exact hP1⟩, hS.F ht⟩) hS.2.2 d_w_compare_18 hlocks
set_option maxHeartbeats 4000000 in
set_option maxRecDepth 100000 in
/-- the law's helper compare, its call throws -/
theorem h_compareT (l : Launch) (G : OG) (hG : ol_ok G) {co : ClassId} {qo : Nat} (hq : ¬ ol_A G qo) {x1 x2 : Int32} {u : OS} {g : Nat → Int64} (hM : ol_MT l y_o_compare b_o_compare 5 (some .int) ({ frames := 7, cells := 1, slots := 6, locals := 102 }) G [.int x1, .int x2] u) {hp : Int32 → List Nat → Prop} (hO : ∃ (b : Int32) (Z : List Nat), hp b Z ∧ Ov u Z) : OH l G co qo y_w_compare b_w_compare 5 [(0, 10, 13, 13)] [.ref (ol_h G), .int x1, .int x2, .ref qo] u g 1 hp := by
  refine va_MetW (cc := b_w_compare) (maxL := 5) (ret := some .int) (hh := [(0, 10, 13, 13)]) (by decide) rfl ?_
  intro p e s m args below meth c s₁ BL hml hv
  obtain ⟨rfl, hK, hN, hTW, hP⟩ := hv
  have hx := BL.exec
  have hb := BL.bytes
  have hr := BL.returns
  have hts0 := atoms_spec (ws := .codeWith y_w_compare b_w_compare 5 (some .int) [(0, 10, 13, 13)] :: GW) BL.pre
  have hts : ∀ w ∈ GW, w.before _ s = true := fun w hw => hts0 w (List.mem_cons_of_mem _ hw)
  have hown : s.vm.findClass "OrderLineLaw" = some m.cls := findClass_of_methodNamed BL.named
  have hlocks := BL.notSynchronized
  have hS : va_S (lw_A G qo) s.heap s.heap [] := va_S.rf
  have hl := lv_entry ([.ref (ol_h G), .int x1, .int x2, .ref qo]) (n := 5) (Nat.le_of_ble_eq_true rfl)
  rw [lg_entry_eq]
  generalize (lg_sl ([.ref (ol_h G), .int x1, .int x2, .ref qo]) ++ List.replicate (5 - (lg_sl ([.ref (ol_h G), .int x1, .int x2, .ref qo])).length) Slot.unset).toArray = ls at hl ⊢
  have hl : lv_has ls 5 [(0, .ref (ol_h G)), (1, .int x1), (2, .int x2), (3, .ref qo)] := hl
  refine lv_aload_n hx hb d_w_compare_0 rfl (lv_at hl 3 rfl) ?_
  refine lv_iconst (v := (nI 0)) hx hb d_w_compare_1 (by decide) ?_
  refine lv_aload_n hx hb d_w_compare_2 rfl (lv_at hl 0 rfl) ?_
  refine lv_iload_n hx hb d_w_compare_3 rfl (lv_at hl 1 rfl) ?_
  refine lv_iload_n hx hb d_w_compare_4 rfl (lv_at hl 2 rfl) ?_
  obtain ⟨m9, meth9, c9, hn9, h1, h2, -, -, htab, -⟩ := Cond.codeWith_spec (hts0 _ List.mem_cons_self)
  cases hn9.symm.trans BL.named
  cases h1.symm.trans BL.method
  cases h2.symm.trans (Stand.of_body BL).code
  refine th_caught (th_V (C := "OrderLine") (n := 2) (As := [.int x1, .int x2]) (rest := [.int (nI 0), .ref qo]) ⟨hx, hb, hml, hown, hts⟩ hM (gw_W hts ml_w_26 im_o_compare se_o_compare k_o_compare in_o (by decide +kernel) rfl rfl ⟨Nat.le_of_ble_eq_true rfl, Nat.le_of_ble_eq_true rfl⟩) (lw_preOT hK hN hTW (fun _ _ h _ => h) hP.o) rfl rfl hl.1 rfl (lv_room (Nat.le_of_ble_eq_true rfl)) d_w_compare_5 ⟨Nat.le_of_ble_eq_true rfl, Nat.le_of_ble_eq_true rfl⟩) hown htab ⟨by decide, by decide⟩ (by decide) (hts _ cl_w_13) (fun st₀ x t ha hq => ?_) (fun x st₀ t H1 L h0 ha hq9 ht hvm hL => ?_)
  · obtain ⟨-, -, -, ce, q4, q5, q6, q7⟩ := hq
    exact ⟨ce, q4, q5, by rw [← ha.findClass]; exact q6, by rw [← ha.assignable]; exact q7⟩
  obtain ⟨q1, q2, q3, -⟩ := hq9
  rw [h0] at q2 q3
  rw [ht] at q1 q2 q3
  have hS : va_S (lw_A G qo) s.heap H1 ([] ++ L) := ⟨q2, fun q a1 a2 => q3 q a1 (fun z => a2 (Or.inl z)), fun q hq => Or.inl (hL q (by simpa using hq))⟩
  have hP : lw_H G co qo u g H1 := hP.mk (q3 qo hP.lt hq) q1
  refine lv_astore (lv' := [(4, .ref x), (0, .ref (ol_h G)), (1, .int x1), (2, .int x2), (3, .ref qo)]) hx hb d_w_compare_13 hl (by decide) rfl (fun ls hl => ?_)
  refine lv_iconst (v := (nI 1)) hx hb d_w_compare_15 (by decide) ?_
  refine W.widen (k := 1) (n := 6) (by omega) (by omega) ?_
  obtain ⟨b9, Z9, hp9, hO9⟩ := hO
  exact W.iret (v := nI 1) hx hb hr (fun t ht hW => ⟨⟨nI 1, (u, g), rfl, ⟨rfl, b9, Z9, hp9, fun h => absurd h (by decide), hO9⟩, by subst ht; exact hP⟩, hS.F ht⟩) hS.2.2 d_w_compare_16 hlocks
set_option maxHeartbeats 4000000 in
set_option maxRecDepth 100000 in
/-- the law's helper next, its call returns -/
theorem h_next (l : Launch) (G : OG) (hG : ol_ok G) {co : ClassId} {qo : Nat} (hq : ¬ ol_A G qo) {x1 x2 : Int32} {u : OS} {g : Nat → Int64} {post : Int32 → OS → Prop} {rm : Room} (hrm : rm.frames ≤ 7 ∧ rm.locals ≤ 102 ∧ rm.cells = 0 ∧ rm.slots = 0) (hM : ol_M l y_o_next b_o_next 5 (some .int) rm G [.int x1, .int x2] u (ol_Qi G post)) {hp : Int32 → List Nat → Prop} (hpo : ∀ r u', post r u' → ∃ Z, hp r Z ∧ Ov u' Z) : OH l G co qo y_w_next b_w_next 5 [(0, 10, 13, 13)] [.ref (ol_h G), .int x1, .int x2, .ref qo] u g 0 hp := by
  refine va_MetW (cc := b_w_next) (maxL := 5) (ret := some .int) (hh := [(0, 10, 13, 13)]) (by decide) rfl ?_
  intro p e s m args below meth c s₁ BL hml hv
  obtain ⟨rfl, hK, hN, hTW, hP⟩ := hv
  have hx := BL.exec
  have hb := BL.bytes
  have hr := BL.returns
  have hts0 := atoms_spec (ws := .codeWith y_w_next b_w_next 5 (some .int) [(0, 10, 13, 13)] :: GW) BL.pre
  have hts : ∀ w ∈ GW, w.before _ s = true := fun w hw => hts0 w (List.mem_cons_of_mem _ hw)
  have hown : s.vm.findClass "OrderLineLaw" = some m.cls := findClass_of_methodNamed BL.named
  have hlocks := BL.notSynchronized
  have hS : va_S (lw_A G qo) s.heap s.heap [] := va_S.rf
  have hl := lv_entry ([.ref (ol_h G), .int x1, .int x2, .ref qo]) (n := 5) (Nat.le_of_ble_eq_true rfl)
  rw [lg_entry_eq]
  generalize (lg_sl ([.ref (ol_h G), .int x1, .int x2, .ref qo]) ++ List.replicate (5 - (lg_sl ([.ref (ol_h G), .int x1, .int x2, .ref qo])).length) Slot.unset).toArray = ls at hl ⊢
  have hl : lv_has ls 5 [(0, .ref (ol_h G)), (1, .int x1), (2, .int x2), (3, .ref qo)] := hl
  refine lv_aload_n hx hb d_w_next_0 rfl (lv_at hl 3 rfl) ?_
  refine lv_iconst (v := (nI 0)) hx hb d_w_next_1 (by decide) ?_
  refine lv_aload_n hx hb d_w_next_2 rfl (lv_at hl 0 rfl) ?_
  refine lv_iload_n hx hb d_w_next_3 rfl (lv_at hl 1 rfl) ?_
  refine lv_iload_n hx hb d_w_next_4 rfl (lv_at hl 2 rfl) ?_
  refine va_calli (va_runV (C := "OrderLine") (n := 2) (As := [.int x1, .int x2]) (rest := [.int (nI 0), .ref qo]) ⟨hx, hb, hml, hown, hts⟩ hM (gw_W hts ml_w_29 im_o_next se_o_next k_o_next in_o (by decide +kernel) hrm.2.2.1 hrm.2.2.2 ⟨by show rm.frames + 1 ≤ 8; omega, by show 8 + (5 + 11) + rm.locals ≤ 150; omega⟩) (lw_preO hK hN hP.o) rfl rfl hl.1 rfl (lv_room (Nat.le_of_ble_eq_true rfl)) d_w_next_5 ⟨Nat.zero_le _, Nat.zero_le _⟩) hS (fun q _ h => Or.inl h) (fun q h => Or.inl h) (fun r u' t H1 locs ht hvm hpo9 hB hz hk1 hS => ?_)
  obtain ⟨Z9, hp9, hO9⟩ := hpo r u' hpo9
  rw [ht] at hB
  have hP : lw_H G co qo u' g H1 := hP.mk (hk1 qo hP.lt hq) hB
  refine lv_i2l (v := r.toInt64) hx hb d_w_next_8 rfl ?_
  refine va_last (D := ol_D G) (cl := ol_cl) hx hb hK hP (lw_DD hG hq co u' g) hS 0 2 rfl rfl (vp_in_nI (by decide) (by decide)) d_w_next_9 (fun H locs hP1 _ hS => ?_)
  have hP1 : lw_H G co qo u' (vp_updL g (nI 0).toNatClampNeg r.toInt64) H := hP1
  refine lv_goto (tgt := 17) hx hb d_w_next_10 (by decide) ?_
  refine lv_iconst (v := (nI 0)) hx hb d_w_next_17 (by decide) ?_
  refine W.widen (k := 1) (n := 6) (by omega) (by omega) ?_
  exact W.iret (v := nI 0) hx hb hr (fun t ht hW => ⟨⟨nI 0, (u', vp_updL g (nI 0).toNatClampNeg r.toInt64), rfl, ⟨rfl, r, Z9, hp9, fun _ => by rw [nI_clamp (by decide)]; simp [vp_updL], hO9⟩, by subst ht; exact hP1⟩, hS.F ht⟩) hS.2.2 d_w_next_18 hlocks
set_option maxHeartbeats 4000000 in
set_option maxRecDepth 100000 in
/-- the law's helper next, its call throws -/
theorem h_nextT (l : Launch) (G : OG) (hG : ol_ok G) {co : ClassId} {qo : Nat} (hq : ¬ ol_A G qo) {x1 x2 : Int32} {u : OS} {g : Nat → Int64} (hM : ol_MT l y_o_next b_o_next 5 (some .int) ({ frames := 7, cells := 1, slots := 6, locals := 102 }) G [.int x1, .int x2] u) {hp : Int32 → List Nat → Prop} (hO : ∃ (b : Int32) (Z : List Nat), hp b Z ∧ Ov u Z) : OH l G co qo y_w_next b_w_next 5 [(0, 10, 13, 13)] [.ref (ol_h G), .int x1, .int x2, .ref qo] u g 1 hp := by
  refine va_MetW (cc := b_w_next) (maxL := 5) (ret := some .int) (hh := [(0, 10, 13, 13)]) (by decide) rfl ?_
  intro p e s m args below meth c s₁ BL hml hv
  obtain ⟨rfl, hK, hN, hTW, hP⟩ := hv
  have hx := BL.exec
  have hb := BL.bytes
  have hr := BL.returns
  have hts0 := atoms_spec (ws := .codeWith y_w_next b_w_next 5 (some .int) [(0, 10, 13, 13)] :: GW) BL.pre
  have hts : ∀ w ∈ GW, w.before _ s = true := fun w hw => hts0 w (List.mem_cons_of_mem _ hw)
  have hown : s.vm.findClass "OrderLineLaw" = some m.cls := findClass_of_methodNamed BL.named
  have hlocks := BL.notSynchronized
  have hS : va_S (lw_A G qo) s.heap s.heap [] := va_S.rf
  have hl := lv_entry ([.ref (ol_h G), .int x1, .int x2, .ref qo]) (n := 5) (Nat.le_of_ble_eq_true rfl)
  rw [lg_entry_eq]
  generalize (lg_sl ([.ref (ol_h G), .int x1, .int x2, .ref qo]) ++ List.replicate (5 - (lg_sl ([.ref (ol_h G), .int x1, .int x2, .ref qo])).length) Slot.unset).toArray = ls at hl ⊢
  have hl : lv_has ls 5 [(0, .ref (ol_h G)), (1, .int x1), (2, .int x2), (3, .ref qo)] := hl
  refine lv_aload_n hx hb d_w_next_0 rfl (lv_at hl 3 rfl) ?_
  refine lv_iconst (v := (nI 0)) hx hb d_w_next_1 (by decide) ?_
  refine lv_aload_n hx hb d_w_next_2 rfl (lv_at hl 0 rfl) ?_
  refine lv_iload_n hx hb d_w_next_3 rfl (lv_at hl 1 rfl) ?_
  refine lv_iload_n hx hb d_w_next_4 rfl (lv_at hl 2 rfl) ?_
  obtain ⟨m9, meth9, c9, hn9, h1, h2, -, -, htab, -⟩ := Cond.codeWith_spec (hts0 _ List.mem_cons_self)
  cases hn9.symm.trans BL.named
  cases h1.symm.trans BL.method
  cases h2.symm.trans (Stand.of_body BL).code
  refine th_caught (th_V (C := "OrderLine") (n := 2) (As := [.int x1, .int x2]) (rest := [.int (nI 0), .ref qo]) ⟨hx, hb, hml, hown, hts⟩ hM (gw_W hts ml_w_29 im_o_next se_o_next k_o_next in_o (by decide +kernel) rfl rfl ⟨Nat.le_of_ble_eq_true rfl, Nat.le_of_ble_eq_true rfl⟩) (lw_preOT hK hN hTW (fun _ _ h _ => h) hP.o) rfl rfl hl.1 rfl (lv_room (Nat.le_of_ble_eq_true rfl)) d_w_next_5 ⟨Nat.le_of_ble_eq_true rfl, Nat.le_of_ble_eq_true rfl⟩) hown htab ⟨by decide, by decide⟩ (by decide) (hts _ cl_w_13) (fun st₀ x t ha hq => ?_) (fun x st₀ t H1 L h0 ha hq9 ht hvm hL => ?_)
  · obtain ⟨-, -, -, ce, q4, q5, q6, q7⟩ := hq
    exact ⟨ce, q4, q5, by rw [← ha.findClass]; exact q6, by rw [← ha.assignable]; exact q7⟩
  obtain ⟨q1, q2, q3, -⟩ := hq9
  rw [h0] at q2 q3
  rw [ht] at q1 q2 q3
  have hS : va_S (lw_A G qo) s.heap H1 ([] ++ L) := ⟨q2, fun q a1 a2 => q3 q a1 (fun z => a2 (Or.inl z)), fun q hq => Or.inl (hL q (by simpa using hq))⟩
  have hP : lw_H G co qo u g H1 := hP.mk (q3 qo hP.lt hq) q1
  refine lv_astore (lv' := [(4, .ref x), (0, .ref (ol_h G)), (1, .int x1), (2, .int x2), (3, .ref qo)]) hx hb d_w_next_13 hl (by decide) rfl (fun ls hl => ?_)
  refine lv_iconst (v := (nI 1)) hx hb d_w_next_15 (by decide) ?_
  refine W.widen (k := 1) (n := 6) (by omega) (by omega) ?_
  obtain ⟨b9, Z9, hp9, hO9⟩ := hO
  exact W.iret (v := nI 1) hx hb hr (fun t ht hW => ⟨⟨nI 1, (u, g), rfl, ⟨rfl, b9, Z9, hp9, fun h => absurd h (by decide), hO9⟩, by subst ht; exact hP⟩, hS.F ht⟩) hS.2.2 d_w_next_16 hlocks
set_option maxHeartbeats 4000000 in
set_option maxRecDepth 100000 in
/-- the law's helper place, its call returns -/
theorem h_place (l : Launch) (G : OG) (hG : ol_ok G) {co : ClassId} {qo : Nat} (hq : ¬ ol_A G qo) {x1 : Int32} {u : OS} {g : Nat → Int64} {post : Int32 → OS → Prop} {rm : Room} (hrm : rm.frames ≤ 7 ∧ rm.locals ≤ 102 ∧ rm.cells = 0 ∧ rm.slots = 0) (hM : ol_M l y_o_place b_o_place 4 (some .int) rm G [.int x1] u (ol_Qi G post)) {hp : Int32 → List Nat → Prop} (hpo : ∀ r u', post r u' → ∃ Z, hp r Z ∧ Ov u' Z) : OH l G co qo y_w_place b_w_place 4 [(0, 9, 12, 13)] [.ref (ol_h G), .int x1, .ref qo] u g 0 hp := by
  refine va_MetW (cc := b_w_place) (maxL := 4) (ret := some .int) (hh := [(0, 9, 12, 13)]) (by decide) rfl ?_
  intro p e s m args below meth c s₁ BL hml hv
  obtain ⟨rfl, hK, hN, hTW, hP⟩ := hv
  have hx := BL.exec
  have hb := BL.bytes
  have hr := BL.returns
  have hts0 := atoms_spec (ws := .codeWith y_w_place b_w_place 4 (some .int) [(0, 9, 12, 13)] :: GW) BL.pre
  have hts : ∀ w ∈ GW, w.before _ s = true := fun w hw => hts0 w (List.mem_cons_of_mem _ hw)
  have hown : s.vm.findClass "OrderLineLaw" = some m.cls := findClass_of_methodNamed BL.named
  have hlocks := BL.notSynchronized
  have hS : va_S (lw_A G qo) s.heap s.heap [] := va_S.rf
  have hl := lv_entry ([.ref (ol_h G), .int x1, .ref qo]) (n := 4) (Nat.le_of_ble_eq_true rfl)
  rw [lg_entry_eq]
  generalize (lg_sl ([.ref (ol_h G), .int x1, .ref qo]) ++ List.replicate (4 - (lg_sl ([.ref (ol_h G), .int x1, .ref qo])).length) Slot.unset).toArray = ls at hl ⊢
  have hl : lv_has ls 4 [(0, .ref (ol_h G)), (1, .int x1), (2, .ref qo)] := hl
  refine lv_aload_n hx hb d_w_place_0 rfl (lv_at hl 2 rfl) ?_
  refine lv_iconst (v := (nI 0)) hx hb d_w_place_1 (by decide) ?_
  refine lv_aload_n hx hb d_w_place_2 rfl (lv_at hl 0 rfl) ?_
  refine lv_iload_n hx hb d_w_place_3 rfl (lv_at hl 1 rfl) ?_
  refine va_calli (va_runV (C := "OrderLine") (n := 1) (As := [.int x1]) (rest := [.int (nI 0), .ref qo]) ⟨hx, hb, hml, hown, hts⟩ hM (gw_W hts ml_w_33 im_o_place se_o_place k_o_place in_o (by decide +kernel) hrm.2.2.1 hrm.2.2.2 ⟨by show rm.frames + 1 ≤ 8; omega, by show 8 + (4 + 11) + rm.locals ≤ 150; omega⟩) (lw_preO hK hN hP.o) rfl rfl hl.1 rfl (lv_room (Nat.le_of_ble_eq_true rfl)) d_w_place_4 ⟨Nat.zero_le _, Nat.zero_le _⟩) hS (fun q _ h => Or.inl h) (fun q h => Or.inl h) (fun r u' t H1 locs ht hvm hpo9 hB hz hk1 hS => ?_)
  obtain ⟨Z9, hp9, hO9⟩ := hpo r u' hpo9
  rw [ht] at hB
  have hP : lw_H G co qo u' g H1 := hP.mk (hk1 qo hP.lt hq) hB
  refine lv_i2l (v := r.toInt64) hx hb d_w_place_7 rfl ?_
  refine va_last (D := ol_D G) (cl := ol_cl) hx hb hK hP (lw_DD hG hq co u' g) hS 0 2 rfl rfl (vp_in_nI (by decide) (by decide)) d_w_place_8 (fun H locs hP1 _ hS => ?_)
  have hP1 : lw_H G co qo u' (vp_updL g (nI 0).toNatClampNeg r.toInt64) H := hP1
  refine lv_goto (tgt := 15) hx hb d_w_place_9 (by decide) ?_
  refine lv_iconst (v := (nI 0)) hx hb d_w_place_15 (by decide) ?_
  refine W.widen (k := 1) (n := 6) (by omega) (by omega) ?_
  exact W.iret (v := nI 0) hx hb hr (fun t ht hW => ⟨⟨nI 0, (u', vp_updL g (nI 0).toNatClampNeg r.toInt64), rfl, ⟨rfl, r, Z9, hp9, fun _ => by rw [nI_clamp (by decide)]; simp [vp_updL], hO9⟩, by subst ht; exact hP1⟩, hS.F ht⟩) hS.2.2 d_w_place_16 hlocks
set_option maxHeartbeats 4000000 in
set_option maxRecDepth 100000 in
/-- the law's helper place, its call throws -/
theorem h_placeT (l : Launch) (G : OG) (hG : ol_ok G) {co : ClassId} {qo : Nat} (hq : ¬ ol_A G qo) {x1 : Int32} {u : OS} {g : Nat → Int64} (hM : ol_MT l y_o_place b_o_place 4 (some .int) ({ frames := 7, cells := 1, slots := 6, locals := 102 }) G [.int x1] u) {hp : Int32 → List Nat → Prop} (hO : ∃ (b : Int32) (Z : List Nat), hp b Z ∧ Ov u Z) : OH l G co qo y_w_place b_w_place 4 [(0, 9, 12, 13)] [.ref (ol_h G), .int x1, .ref qo] u g 1 hp := by
  refine va_MetW (cc := b_w_place) (maxL := 4) (ret := some .int) (hh := [(0, 9, 12, 13)]) (by decide) rfl ?_
  intro p e s m args below meth c s₁ BL hml hv
  obtain ⟨rfl, hK, hN, hTW, hP⟩ := hv
  have hx := BL.exec
  have hb := BL.bytes
  have hr := BL.returns
  have hts0 := atoms_spec (ws := .codeWith y_w_place b_w_place 4 (some .int) [(0, 9, 12, 13)] :: GW) BL.pre
  have hts : ∀ w ∈ GW, w.before _ s = true := fun w hw => hts0 w (List.mem_cons_of_mem _ hw)
  have hown : s.vm.findClass "OrderLineLaw" = some m.cls := findClass_of_methodNamed BL.named
  have hlocks := BL.notSynchronized
  have hS : va_S (lw_A G qo) s.heap s.heap [] := va_S.rf
  have hl := lv_entry ([.ref (ol_h G), .int x1, .ref qo]) (n := 4) (Nat.le_of_ble_eq_true rfl)
  rw [lg_entry_eq]
  generalize (lg_sl ([.ref (ol_h G), .int x1, .ref qo]) ++ List.replicate (4 - (lg_sl ([.ref (ol_h G), .int x1, .ref qo])).length) Slot.unset).toArray = ls at hl ⊢
  have hl : lv_has ls 4 [(0, .ref (ol_h G)), (1, .int x1), (2, .ref qo)] := hl
  refine lv_aload_n hx hb d_w_place_0 rfl (lv_at hl 2 rfl) ?_
  refine lv_iconst (v := (nI 0)) hx hb d_w_place_1 (by decide) ?_
  refine lv_aload_n hx hb d_w_place_2 rfl (lv_at hl 0 rfl) ?_
  refine lv_iload_n hx hb d_w_place_3 rfl (lv_at hl 1 rfl) ?_
  obtain ⟨m9, meth9, c9, hn9, h1, h2, -, -, htab, -⟩ := Cond.codeWith_spec (hts0 _ List.mem_cons_self)
  cases hn9.symm.trans BL.named
  cases h1.symm.trans BL.method
  cases h2.symm.trans (Stand.of_body BL).code
  refine th_caught (th_V (C := "OrderLine") (n := 1) (As := [.int x1]) (rest := [.int (nI 0), .ref qo]) ⟨hx, hb, hml, hown, hts⟩ hM (gw_W hts ml_w_33 im_o_place se_o_place k_o_place in_o (by decide +kernel) rfl rfl ⟨Nat.le_of_ble_eq_true rfl, Nat.le_of_ble_eq_true rfl⟩) (lw_preOT hK hN hTW (fun _ _ h _ => h) hP.o) rfl rfl hl.1 rfl (lv_room (Nat.le_of_ble_eq_true rfl)) d_w_place_4 ⟨Nat.le_of_ble_eq_true rfl, Nat.le_of_ble_eq_true rfl⟩) hown htab ⟨by decide, by decide⟩ (by decide) (hts _ cl_w_13) (fun st₀ x t ha hq => ?_) (fun x st₀ t H1 L h0 ha hq9 ht hvm hL => ?_)
  · obtain ⟨-, -, -, ce, q4, q5, q6, q7⟩ := hq
    exact ⟨ce, q4, q5, by rw [← ha.findClass]; exact q6, by rw [← ha.assignable]; exact q7⟩
  obtain ⟨q1, q2, q3, -⟩ := hq9
  rw [h0] at q2 q3
  rw [ht] at q1 q2 q3
  have hS : va_S (lw_A G qo) s.heap H1 ([] ++ L) := ⟨q2, fun q a1 a2 => q3 q a1 (fun z => a2 (Or.inl z)), fun q hq => Or.inl (hL q (by simpa using hq))⟩
  have hP : lw_H G co qo u g H1 := hP.mk (q3 qo hP.lt hq) q1
  refine lv_astore_n (lv' := [(3, .ref x), (0, .ref (ol_h G)), (1, .int x1), (2, .ref qo)]) hx hb d_w_place_12 rfl hl (by decide) rfl (fun ls hl => ?_)
  refine lv_iconst (v := (nI 1)) hx hb d_w_place_13 (by decide) ?_
  refine W.widen (k := 1) (n := 6) (by omega) (by omega) ?_
  obtain ⟨b9, Z9, hp9, hO9⟩ := hO
  exact W.iret (v := nI 1) hx hb hr (fun t ht hW => ⟨⟨nI 1, (u, g), rfl, ⟨rfl, b9, Z9, hp9, fun h => absurd h (by decide), hO9⟩, by subst ht; exact hP⟩, hS.F ht⟩) hS.2.2 d_w_place_14 hlocks
set_option maxHeartbeats 4000000 in
set_option maxRecDepth 100000 in
/-- the law's helper greatest, its call returns -/
theorem h_greatest (l : Launch) (G : OG) (hG : ol_ok G) {co : ClassId} {qo : Nat} (hq : ¬ ol_A G qo) {x1 x2 : Int32} {u : OS} {g : Nat → Int64} {post : Int32 → OS → Prop} {rm : Room} (hrm : rm.frames ≤ 7 ∧ rm.locals ≤ 102 ∧ rm.cells = 0 ∧ rm.slots = 0) (hM : ol_M l y_o_greatest b_o_greatest 7 (some .int) rm G [.int x1, .int x2] u (ol_Qi G post)) {hp : Int32 → List Nat → Prop} (hpo : ∀ r u', post r u' → ∃ Z, hp r Z ∧ Ov u' Z) : OH l G co qo y_w_greatest b_w_greatest 5 [(0, 10, 13, 13)] [.ref (ol_h G), .int x1, .int x2, .ref qo] u g 0 hp := by
  refine va_MetW (cc := b_w_greatest) (maxL := 5) (ret := some .int) (hh := [(0, 10, 13, 13)]) (by decide) rfl ?_
  intro p e s m args below meth c s₁ BL hml hv
  obtain ⟨rfl, hK, hN, hTW, hP⟩ := hv
  have hx := BL.exec
  have hb := BL.bytes
  have hr := BL.returns
  have hts0 := atoms_spec (ws := .codeWith y_w_greatest b_w_greatest 5 (some .int) [(0, 10, 13, 13)] :: GW) BL.pre
  have hts : ∀ w ∈ GW, w.before _ s = true := fun w hw => hts0 w (List.mem_cons_of_mem _ hw)
  have hown : s.vm.findClass "OrderLineLaw" = some m.cls := findClass_of_methodNamed BL.named
  have hlocks := BL.notSynchronized
  have hS : va_S (lw_A G qo) s.heap s.heap [] := va_S.rf
  have hl := lv_entry ([.ref (ol_h G), .int x1, .int x2, .ref qo]) (n := 5) (Nat.le_of_ble_eq_true rfl)
  rw [lg_entry_eq]
  generalize (lg_sl ([.ref (ol_h G), .int x1, .int x2, .ref qo]) ++ List.replicate (5 - (lg_sl ([.ref (ol_h G), .int x1, .int x2, .ref qo])).length) Slot.unset).toArray = ls at hl ⊢
  have hl : lv_has ls 5 [(0, .ref (ol_h G)), (1, .int x1), (2, .int x2), (3, .ref qo)] := hl
  refine lv_aload_n hx hb d_w_greatest_0 rfl (lv_at hl 3 rfl) ?_
  refine lv_iconst (v := (nI 0)) hx hb d_w_greatest_1 (by decide) ?_
  refine lv_aload_n hx hb d_w_greatest_2 rfl (lv_at hl 0 rfl) ?_
  refine lv_iload_n hx hb d_w_greatest_3 rfl (lv_at hl 1 rfl) ?_
  refine lv_iload_n hx hb d_w_greatest_4 rfl (lv_at hl 2 rfl) ?_
  refine va_calli (va_runV (C := "OrderLine") (n := 2) (As := [.int x1, .int x2]) (rest := [.int (nI 0), .ref qo]) ⟨hx, hb, hml, hown, hts⟩ hM (gw_W hts ml_w_36 im_o_greatest se_o_greatest k_o_greatest in_o (by decide +kernel) hrm.2.2.1 hrm.2.2.2 ⟨by show rm.frames + 1 ≤ 8; omega, by show 8 + (7 + 11) + rm.locals ≤ 150; omega⟩) (lw_preO hK hN hP.o) rfl rfl hl.1 rfl (lv_room (Nat.le_of_ble_eq_true rfl)) d_w_greatest_5 ⟨Nat.zero_le _, Nat.zero_le _⟩) hS (fun q _ h => Or.inl h) (fun q h => Or.inl h) (fun r u' t H1 locs ht hvm hpo9 hB hz hk1 hS => ?_)
  obtain ⟨Z9, hp9, hO9⟩ := hpo r u' hpo9
  rw [ht] at hB
  have hP : lw_H G co qo u' g H1 := hP.mk (hk1 qo hP.lt hq) hB
  refine lv_i2l (v := r.toInt64) hx hb d_w_greatest_8 rfl ?_
  refine va_last (D := ol_D G) (cl := ol_cl) hx hb hK hP (lw_DD hG hq co u' g) hS 0 2 rfl rfl (vp_in_nI (by decide) (by decide)) d_w_greatest_9 (fun H locs hP1 _ hS => ?_)
  have hP1 : lw_H G co qo u' (vp_updL g (nI 0).toNatClampNeg r.toInt64) H := hP1
  refine lv_goto (tgt := 17) hx hb d_w_greatest_10 (by decide) ?_
  refine lv_iconst (v := (nI 0)) hx hb d_w_greatest_17 (by decide) ?_
  refine W.widen (k := 1) (n := 6) (by omega) (by omega) ?_
  exact W.iret (v := nI 0) hx hb hr (fun t ht hW => ⟨⟨nI 0, (u', vp_updL g (nI 0).toNatClampNeg r.toInt64), rfl, ⟨rfl, r, Z9, hp9, fun _ => by rw [nI_clamp (by decide)]; simp [vp_updL], hO9⟩, by subst ht; exact hP1⟩, hS.F ht⟩) hS.2.2 d_w_greatest_18 hlocks
set_option maxHeartbeats 4000000 in
set_option maxRecDepth 100000 in
/-- the law's helper greatest, its call throws -/
theorem h_greatestT (l : Launch) (G : OG) (hG : ol_ok G) {co : ClassId} {qo : Nat} (hq : ¬ ol_A G qo) {x1 x2 : Int32} {u : OS} {g : Nat → Int64} (hM : ol_MT l y_o_greatest b_o_greatest 7 (some .int) ({ frames := 7, cells := 1, slots := 6, locals := 102 }) G [.int x1, .int x2] u) {hp : Int32 → List Nat → Prop} (hO : ∃ (b : Int32) (Z : List Nat), hp b Z ∧ Ov u Z) : OH l G co qo y_w_greatest b_w_greatest 5 [(0, 10, 13, 13)] [.ref (ol_h G), .int x1, .int x2, .ref qo] u g 1 hp := by
  refine va_MetW (cc := b_w_greatest) (maxL := 5) (ret := some .int) (hh := [(0, 10, 13, 13)]) (by decide) rfl ?_
  intro p e s m args below meth c s₁ BL hml hv
  obtain ⟨rfl, hK, hN, hTW, hP⟩ := hv
  have hx := BL.exec
  have hb := BL.bytes
  have hr := BL.returns
  have hts0 := atoms_spec (ws := .codeWith y_w_greatest b_w_greatest 5 (some .int) [(0, 10, 13, 13)] :: GW) BL.pre
  have hts : ∀ w ∈ GW, w.before _ s = true := fun w hw => hts0 w (List.mem_cons_of_mem _ hw)
  have hown : s.vm.findClass "OrderLineLaw" = some m.cls := findClass_of_methodNamed BL.named
  have hlocks := BL.notSynchronized
  have hS : va_S (lw_A G qo) s.heap s.heap [] := va_S.rf
  have hl := lv_entry ([.ref (ol_h G), .int x1, .int x2, .ref qo]) (n := 5) (Nat.le_of_ble_eq_true rfl)
  rw [lg_entry_eq]
  generalize (lg_sl ([.ref (ol_h G), .int x1, .int x2, .ref qo]) ++ List.replicate (5 - (lg_sl ([.ref (ol_h G), .int x1, .int x2, .ref qo])).length) Slot.unset).toArray = ls at hl ⊢
  have hl : lv_has ls 5 [(0, .ref (ol_h G)), (1, .int x1), (2, .int x2), (3, .ref qo)] := hl
  refine lv_aload_n hx hb d_w_greatest_0 rfl (lv_at hl 3 rfl) ?_
  refine lv_iconst (v := (nI 0)) hx hb d_w_greatest_1 (by decide) ?_
  refine lv_aload_n hx hb d_w_greatest_2 rfl (lv_at hl 0 rfl) ?_
  refine lv_iload_n hx hb d_w_greatest_3 rfl (lv_at hl 1 rfl) ?_
  refine lv_iload_n hx hb d_w_greatest_4 rfl (lv_at hl 2 rfl) ?_
  obtain ⟨m9, meth9, c9, hn9, h1, h2, -, -, htab, -⟩ := Cond.codeWith_spec (hts0 _ List.mem_cons_self)
  cases hn9.symm.trans BL.named
  cases h1.symm.trans BL.method
  cases h2.symm.trans (Stand.of_body BL).code
  refine th_caught (th_V (C := "OrderLine") (n := 2) (As := [.int x1, .int x2]) (rest := [.int (nI 0), .ref qo]) ⟨hx, hb, hml, hown, hts⟩ hM (gw_W hts ml_w_36 im_o_greatest se_o_greatest k_o_greatest in_o (by decide +kernel) rfl rfl ⟨Nat.le_of_ble_eq_true rfl, Nat.le_of_ble_eq_true rfl⟩) (lw_preOT hK hN hTW (fun _ _ h _ => h) hP.o) rfl rfl hl.1 rfl (lv_room (Nat.le_of_ble_eq_true rfl)) d_w_greatest_5 ⟨Nat.le_of_ble_eq_true rfl, Nat.le_of_ble_eq_true rfl⟩) hown htab ⟨by decide, by decide⟩ (by decide) (hts _ cl_w_13) (fun st₀ x t ha hq => ?_) (fun x st₀ t H1 L h0 ha hq9 ht hvm hL => ?_)
  · obtain ⟨-, -, -, ce, q4, q5, q6, q7⟩ := hq
    exact ⟨ce, q4, q5, by rw [← ha.findClass]; exact q6, by rw [← ha.assignable]; exact q7⟩
  obtain ⟨q1, q2, q3, -⟩ := hq9
  rw [h0] at q2 q3
  rw [ht] at q1 q2 q3
  have hS : va_S (lw_A G qo) s.heap H1 ([] ++ L) := ⟨q2, fun q a1 a2 => q3 q a1 (fun z => a2 (Or.inl z)), fun q hq => Or.inl (hL q (by simpa using hq))⟩
  have hP : lw_H G co qo u g H1 := hP.mk (q3 qo hP.lt hq) q1
  refine lv_astore (lv' := [(4, .ref x), (0, .ref (ol_h G)), (1, .int x1), (2, .int x2), (3, .ref qo)]) hx hb d_w_greatest_13 hl (by decide) rfl (fun ls hl => ?_)
  refine lv_iconst (v := (nI 1)) hx hb d_w_greatest_15 (by decide) ?_
  refine W.widen (k := 1) (n := 6) (by omega) (by omega) ?_
  obtain ⟨b9, Z9, hp9, hO9⟩ := hO
  exact W.iret (v := nI 1) hx hb hr (fun t ht hW => ⟨⟨nI 1, (u, g), rfl, ⟨rfl, b9, Z9, hp9, fun h => absurd h (by decide), hO9⟩, by subst ht; exact hP⟩, hS.F ht⟩) hS.2.2 d_w_greatest_16 hlocks
end
section
/-! 31: the law's own rows: its calls of its helpers, of OrderLine, of the model -/
section SWR
variable {p : Program} {l : Launch} {e : Env} {R : Room} {s : State} {m : MethodId} {args : Array Value} {below : List Frame} {meth : Method} {c : Code} {H : Heap} {locs : List Loc} {cells slots : Nat}
/-- a call of a static method that has handlers -/
theorem sw_run {y : MethodName} {bytes cc : ByteArray} {maxL nL mc ms n index : Nat} {ret : Option FieldType} {ws : List Cond} {rm : Room} {Pc : Array Value → State → Prop} {Qc : Array Value → State → Outcome → State → Prop} {free : Addr → Prop} {hh : List (Nat × Nat × Nat × Nat)} {Ts : List Cond} {own : String} {As rest : List Value} {g : JFrame}
    (S : CallFix p m c cc nL s args Ts own) (hM : Met l y ws rm Pc Qc mc ms free) (hrc : rm.cells = mc) (hrs : rm.slots = ms) (hfrm : rm.frames + 1 ≤ R.frames) (hlo : 8 + (maxL + 11) + rm.locals ≤ R.locals) (hws : ∀ w ∈ ws, ∀ (a' : Array Value) (U : State), s.WarmedH U.vm → w.before a' U = true) (hcw : Cond.codeWith y bytes maxL ret hh ∈ ws) (hcode : (Cond.codeWith y bytes maxL ret hh).before args s = true)
    (hini : ∀ (a' : Array Value) (U : State), s.WarmedH U.vm → (Cond.initialized y.cls).before a' U = true) (hini0 : (Cond.initialized y.cls).before args s = true) (hy : y.cls ≠ "java/lang/invoke/MethodHandle" ∧ y.cls ≠ "java/lang/invoke/VarHandle") (hlen : (parseMethodDescriptor y.desc).map (fun d => d.parameters.length) = some n) (hl : (Cond.methodLink own index y).before args s = true) (hstt : (Cond.static y).before args s = true) (hp : PreS s H Pc As)
    (hg : g.method = m) (hn : As.length = n) (hsize : g.locals.size = nL) (hstack : g.stack = As.reverse ++ rest) (hW : 2 * g.monitorRoom + (rest.map fun v => v.category).sum ≤ 8) (hdg : decode cc g.pc = .ok (.invokestatic index, 3)) (hf : cells + mc ≤ R.cells ∧ slots + ms ≤ R.slots) :
    va_Run p l e R s m args below meth c H locs cells slots mc ms g rest (Qc As.toArray) (free) := by
  have hK : Back l R p e below s args y 3 8 (PreOf R mc ms Pc) (PostOf Qc mc ms free) := va_backW hM hp.1 hrc hrs hfrm hlo hws hcw hini
  obtain ⟨hx, hb, hml, ho, -⟩ := S
  intro T hT X
  obtain ⟨mk, methM, cM, hnamed, hmethM, -, -, -, -, -, -, hsigM⟩ := Cond.codeWith_spec hcode
  have hstatic : methM.isStatic = true := Cond.static_spec hnamed hmethM hstt
  obtain ⟨kP, hkP, -⟩ := className_of_methodNamed hnamed
  have hinitP : kP.init = .initialized := Cond.initialized_spec (findClass_of_methodNamed hnamed) hkP hini0
  have hlen2 : As.length = methM.sig.parameters.length := by
    rw [hsigM] at hlen
    exact hn.trans (Option.some.inj hlen).symm
  obtain ⟨vm₁, X₁, hstep₁⟩ := X.invokestatic hx ho hl hnamed hmethM hstatic hkP hinitP hy (g := g) hg (argsL := As) (rest := rest) hlen2 hstack (by rw [hb]; exact hdg)
  obtain ⟨v, ⟨U', l2, c2, s2⟩, X', ⟨g', mk', t, L, e1, e2, hq, h1, hL, h2, h3⟩, hsteps⟩ := hK m meth c ⟨T.setVm vm₁, locs, cells, slots⟩ { g with stack := rest } (.invokestatic index) mk As.toArray X₁ hg (hsize.trans hml.symm) (by rw [hb]; exact hdg) hW (X₁.named hnamed) ⟨hf.1, hf.2, hp.2 (T.setVm vm₁) hT X₁.warmed⟩
  dsimp only [Pt.U, Pt.locs, Pt.cells, Pt.slots] at X' e1 e2 h1 h2 h3 hsteps
  subst h1; subst h2; subst h3
  exact ⟨v, (T.setVm vm₁).calling g' mk' As.toArray, t, U', L, hT, X', hL, e1, e2, hq, fun target h => hstep₁ _ fun acts => by rw [doInvoke_state]; exact hsteps.trans h⟩
end SWR
/-- a method of OrderLine that returns an int: what it answers -/
def OO (l : Launch) (G : OG) (y : MethodName) (cc : ByteArray) (maxL : Nat) (ret : Option FieldType) (As : List Value) (u : OS) (hp : Int32 → OS → Prop) : Prop :=
  ∃ (S : Type) (post : Int32 → S → Prop) (f : S → OS) (rm : Room), (rm.frames ≤ 7 ∧ rm.locals ≤ 102 ∧ rm.cells = 0 ∧ rm.slots = 0) ∧ Met l y (.code y cc maxL ret :: GW) rm (va_Pc (.ref (ol_h G) :: As) (ol_U G u)) (va_Qi post (fun q t => ol_P G (f q) t.heap) (ol_A G)) 0 0 (ol_A G) ∧ ∀ r q, post r q → hp r (f q)
/-- a method of the model that returns an int: what it answers -/
def OM (l : Launch) (B : MG) (y : MethodName) (cc : ByteArray) (maxL : Nat) (ret : Option FieldType) (As : List Value) (u : MS) (hp : Int32 → MS → Prop) : Prop :=
  ∃ (S : Type) (post : Int32 → S → Prop) (f : S → MS) (rm : Room), (rm.frames ≤ 7 ∧ rm.locals ≤ 102 ∧ rm.cells = 0 ∧ rm.slots = 0) ∧ Met l y (.code y cc maxL ret :: GW) rm (va_Pc (.ref (om_h B) :: As) (om_U B u)) (va_Qi post (fun q t => om_P B (f q) t.heap) (om_A B)) 0 0 (om_A B) ∧ ∀ r q, post r q → hp r (f q)
theorem OO.i {l : Launch} {G : OG} {y : MethodName} {cc : ByteArray} {maxL : Nat} {ret : Option FieldType} {As : List Value} {u : OS} {rm : Room} {post : Int32 → OS → Prop} {hp : Int32 → OS → Prop} (hM : ol_M l y cc maxL ret rm G As u (ol_Qi G post)) (hrm : rm.frames ≤ 7 ∧ rm.locals ≤ 102 ∧ rm.cells = 0 ∧ rm.slots = 0) (h : ∀ r u', post r u' → hp r u') : OO l G y cc maxL ret As u hp := ⟨OS, post, fun q => q, rm, hrm, hM, h⟩
theorem OO.z {l : Launch} {G : OG} {y : MethodName} {cc : ByteArray} {maxL : Nat} {ret : Option FieldType} {As : List Value} {u : OS} {rm : Room} {post : Bool → OS → Prop} {hp : Int32 → OS → Prop} (hM : ol_M l y cc maxL ret rm G As u (ol_Qz G post)) (hrm : rm.frames ≤ 7 ∧ rm.locals ≤ 102 ∧ rm.cells = 0 ∧ rm.slots = 0) (h : ∀ r u', post r u' → hp (ol_z r) u') : OO l G y cc maxL ret As u hp := ⟨Bool × OS, _, fun q => q.2, rm, hrm, hM, fun r q hq => by rw [hq.1]; exact h _ _ hq.2⟩
theorem OM.i {l : Launch} {B : MG} {y : MethodName} {cc : ByteArray} {maxL : Nat} {ret : Option FieldType} {As : List Value} {u : MS} {rm : Room} {post : Int32 → MS → Prop} {hp : Int32 → MS → Prop} (hM : om_M l y cc maxL ret rm B As u (om_Qi B post)) (hrm : rm.frames ≤ 7 ∧ rm.locals ≤ 102 ∧ rm.cells = 0 ∧ rm.slots = 0) (h : ∀ r u', post r u' → hp r u') : OM l B y cc maxL ret As u hp := ⟨MS, post, fun q => q, rm, hrm, hM, h⟩
theorem OM.z {l : Launch} {B : MG} {y : MethodName} {cc : ByteArray} {maxL : Nat} {ret : Option FieldType} {As : List Value} {u : MS} {rm : Room} {post : Bool → MS → Prop} {hp : Int32 → MS → Prop} (hM : om_M l y cc maxL ret rm B As u (om_Qz B post)) (hrm : rm.frames ≤ 7 ∧ rm.locals ≤ 102 ∧ rm.cells = 0 ∧ rm.slots = 0) (h : ∀ r u', post r u' → hp (ol_z r) u') : OM l B y cc maxL ret As u hp := ⟨Bool × MS, _, fun q => q.2, rm, hrm, hM, fun r q hq => by rw [hq.1]; exact h _ _ hq.2⟩
/-- what holds all through the law -/
def lw_F (p : Program) (s : State) (m : MethodId) (args : Array Value) (c : Code) (G : OG) (B : MG) (co : ClassId) (qo : Nat) : Prop :=
  (p.tables.exec = Jvm.exec ∧ c.code = code ∧ c.maxLocals = 7 ∧ s.vm.findClass "OrderLineLaw" = some m.cls ∧ ∀ w ∈ GW, w.before args s = true) ∧ va_K (ol_D G) ol_cl (ol_ty G ++ [(co, .long)]) s ∧ va_K (om_D B) ol_cl (om_ty B) s ∧ ol_N s ∧ TW s ∧ ol_ok G ∧ om_ok B ∧ (∀ z, lw_A G qo z → s.heap.size ≤ z) ∧ (∀ z, om_A B z → s.heap.size ≤ z) ∧ ¬ ol_A G qo ∧ ∀ z, om_A B z → ¬ lw_A G qo z
/-- the cells of both, and the one long -/
def lw_W (G : OG) (B : MG) (co : ClassId) (qo : Nat) (u : OS) (g : Nat → Int64) (ms : MS) (H : Heap) : Prop := lw_H G co qo u g H ∧ om_P B ms H
theorem lw_ok_of {R r1 : Room} {rm : Room} (h : rm.frames ≤ 7 ∧ rm.locals ≤ 102 ∧ rm.cells = 0 ∧ rm.slots = 0) {maxL : Nat} (hm : maxL ≤ 40) : rm.frames + 1 ≤ room_1.frames ∧ 8 + (maxL + 11) + rm.locals ≤ room_1.locals := ⟨by show _ ≤ 11; omega, by show _ ≤ 394; omega⟩
section LWR
variable {p : Program} {l : Launch} {e : Env} {s : State} {m : MethodId} {args : Array Value} {below : List Frame} {meth : Method} {c : Code} {H : Heap} {locs : List Loc} {cells slots : Nat} {Q : State → Prop}
variable {G : OG} {B : MG} {co : ClassId} {qo : Nat} {u : OS} {g : Nat → Int64} {ms : MS} {bytes : ByteArray} {pc maxL n index : Nat} {ls : Array Slot} {rest st0 : List Value} {y : MethodName} {As : List Value} {ret : Option FieldType}
theorem lw_StK (hS : va_S (fun q : Nat => s.heap.size ≤ q) s.heap H locs) : StK s.heap H := fun a cell hc _ => by
  have hlt := (Array.getElem?_eq_some_iff.mp hc).1
  rw [hS.2.1 a hlt (Nat.not_le.mpr hlt)]; exact hc
theorem lw_ch {hh : List (Nat × Nat × Nat × Nat)} {k : Nat} {hp : Int32 → List Nat → Prop} (F : lw_F p s m args c G B co qo) (hM : OH l G co qo y bytes maxL hh As u g k hp) (h1 : Cond.methodLink "OrderLineLaw" index y ∈ GW) (h2 : Cond.static y ∈ GW) (h3 : Cond.codeWith y bytes maxL (some .int) hh ∈ GW) (h4 : Cond.initialized y.cls ∈ GW) (hd : y.cls ≠ "java/lang/invoke/MethodHandle" ∧ y.cls ≠ "java/lang/invoke/VarHandle" ∧ (parseMethodDescriptor y.desc).map (fun d => d.parameters.length) = some n) (hmx : maxL ≤ 40)
    (hW : lw_W G B co qo u g ms H) (hS : va_S (fun q : Nat => s.heap.size ≤ q) s.heap H locs) (hsz : ls.size = 7) (hn : As.length = n) (hst : st0 = As.reverse ++ rest) (hro : (rest.map fun v => v.category).sum ≤ 8) (hdg : decode code pc = .ok (.invokestatic index, 3)) (hc : cells + 1 ≤ 814184) (hs : slots + 6 ≤ 6653552)
    (kk : ∀ (u' : OS) (g' : Nat → Int64) (H1 : Heap) (locs1 : List Loc) (b : Int32) (Z : List Nat), hp b Z → (k = 0 → g' 0 = b.toInt64) → Ov u' Z → lw_W G B co qo u' g' ms H1 → va_S (fun q : Nat => s.heap.size ≤ q) s.heap H1 locs1 → W p l e room_1 s m args below meth c H1 locs1 (cells + 1) (slots + 6) Q (F0 m (pc + 3) ls (.int (nI k) :: rest))) : W p l e room_1 s m args below meth c H locs cells slots Q (F0 m pc ls st0) := by
  obtain ⟨F0', hK, hKm, hN, hTW, hG, hB, ho, hm, hq, hdis⟩ := F
  have hts := F0'.2.2.2.2
  have hws : ∀ w ∈ (Cond.codeWith y bytes maxL (some .int) hh :: GW), ∀ (a' : Array Value) (U : State), s.WarmedH U.vm → w.before a' U = true := pay_in hts (fun w hw => by
    rcases List.mem_cons.mp hw with rfl | h
    · exact ⟨h3, GW_good h3⟩
    · exact ⟨h, GW_good h⟩)
  refine va_calli (sw_run (R := room_1) (n := n) (As := As) (rest := rest) F0' hM rfl rfl (by show _ ≤ 11; decide) (by show 8 + (maxL + 11) + 150 ≤ 394; omega) hws List.mem_cons_self (hts _ h3) (fun a' U hW => hws _ (List.mem_cons_of_mem _ h4) a' U hW) (hts _ h4) ⟨hd.1, hd.2.1⟩ hd.2.2 (hts _ h1) (hts _ h2)
    ⟨fun a U g mk q => ⟨q.1, va_K.moved (u := U) (U := U.calling g mk a) (Vm.Alike.refl U.vm) q.2.1, ol_N.same (u := U) (U := U.calling g mk a) rfl q.2.2.1, q.2.2.2.1.blind, q.2.2.2.2⟩, fun U hU hW9 => ⟨rfl, va_K.moved hW9.alike hK, hN.warm hW9, hTW.move hW9 (by rw [hU]; exact lw_StK hS), by rw [hU]; exact hW.1⟩⟩ rfl hn hsz hst (lv_room hro) hdg ⟨hc, hs⟩) hS (fun q _ h => ho q h) (fun q h => ho q h) (fun r q t H1 locs1 ht hvm hpo hB9 hz hk1 hS1 => ?_)
  obtain ⟨rfl, b, Z, hp9, hb, hO⟩ := hpo
  rw [ht] at hB9
  exact kk q.1 q.2 H1 locs1 b Z hp9 hb hO ⟨hB9, hW.2.kept (fun z hz => hk1 z (hW.2.lt hz) (hdis z hz))⟩ hS1
theorem lw_cm {hp : Int32 → MS → Prop} (F : lw_F p s m args c G B co qo) (hM : OM l B y bytes maxL ret As ms hp) (h1 : Cond.methodLink "OrderLineLaw" index y ∈ GW) (h2 : Cond.instanceMethod y ∈ GW) (h3 : Cond.selects "OrderLineModel" y y ∈ GW) (h4 : Cond.code y bytes maxL ret ∈ GW) (h5 : Cond.initialized y.cls ∈ GW) (hd : y.cls ≠ "java/lang/invoke/MethodHandle" ∧ y.cls ≠ "java/lang/invoke/VarHandle" ∧ (parseMethodDescriptor y.desc).map (fun d => d.parameters.length) = some n) (hmx : maxL ≤ 40)
    (hW : lw_W G B co qo u g ms H) (hS : va_S (fun q : Nat => s.heap.size ≤ q) s.heap H locs) (hsz : ls.size = 7) (hn : As.length = n) (hst : st0 = As.reverse ++ .ref (om_h B) :: rest) (hro : (rest.map fun v => v.category).sum ≤ 8) (hdg : decode code pc = .ok (.invokevirtual index, 3)) (hc : cells ≤ 814184) (hs : slots ≤ 6653552)
    (kk : ∀ (r : Int32) (ms' : MS) (H1 : Heap) (locs1 : List Loc), hp r ms' → lw_W G B co qo u g ms' H1 → va_S (fun q : Nat => s.heap.size ≤ q) s.heap H1 locs1 → W p l e room_1 s m args below meth c H1 locs1 cells slots Q (F0 m (pc + 3) ls (.int r :: rest))) : W p l e room_1 s m args below meth c H locs cells slots Q (F0 m pc ls st0) := by
  obtain ⟨F0', hK, hKm, hN, hTW, hG, hB, ho, hm, hq, hdis⟩ := F
  have hts := F0'.2.2.2.2
  obtain ⟨S, post, f, rm, hrm, hM, hpo⟩ := hM
  refine va_calli (va_runV (R := room_1) (C := "OrderLineModel") (n := n) (As := As) (rest := rest) F0' hM (gw_W hts h1 h2 h3 h4 h5 hd hrm.2.2.1 hrm.2.2.2 (lw_ok_of (R := room_1) (r1 := room_1) hrm hmx))
    ⟨fun a U g mk q => ⟨q.1, va_K.moved (u := U) (U := U.calling g mk a) (Vm.Alike.refl U.vm) q.2.1, q.2.2⟩, by obtain ⟨th, f, mn, g⟩ := ms; exact va_recv hKm hW.2 (ci := 2) (q0 := 0) rfl rfl, fun U hU hW9 => ⟨rfl, va_K.moved hW9.alike hKm, by rw [hU]; exact hW.2⟩⟩ rfl hn hsz hst (lv_room hro) hdg ⟨hc, hs⟩) hS (fun q _ h => hm q h) (fun q h => hm q h) (fun r q t H1 locs1 ht hvm hpo9 hB9 hz hk1 hS1 => ?_)
  rw [ht] at hB9
  exact kk r (f q) H1 locs1 (hpo r q hpo9) ⟨hW.1.kept hG (fun z hz => hk1 z (by
    rcases hz with h | h
    · exact hW.1.o.lt hG h
    · rw [h]; exact hW.1.lt) (fun h => hdis z h hz)), hB9⟩ hS1
theorem lw_co {hp : Int32 → OS → Prop} (F : lw_F p s m args c G B co qo) (hM : OO l G y bytes maxL ret As u hp) (h1 : Cond.methodLink "OrderLineLaw" index y ∈ GW) (h2 : Cond.instanceMethod y ∈ GW) (h3 : Cond.selects "OrderLine" y y ∈ GW) (h4 : Cond.code y bytes maxL ret ∈ GW) (h5 : Cond.initialized y.cls ∈ GW) (hd : y.cls ≠ "java/lang/invoke/MethodHandle" ∧ y.cls ≠ "java/lang/invoke/VarHandle" ∧ (parseMethodDescriptor y.desc).map (fun d => d.parameters.length) = some n) (hmx : maxL ≤ 40)
    (hW : lw_W G B co qo u g ms H) (hS : va_S (fun q : Nat => s.heap.size ≤ q) s.heap H locs) (hsz : ls.size = 7) (hn : As.length = n) (hst : st0 = As.reverse ++ .ref (ol_h G) :: rest) (hro : (rest.map fun v => v.category).sum ≤ 8) (hdg : decode code pc = .ok (.invokevirtual index, 3)) (hc : cells ≤ 814184) (hs : slots ≤ 6653552)
    (kk : ∀ (r : Int32) (u' : OS) (H1 : Heap) (locs1 : List Loc), hp r u' → lw_W G B co qo u' g ms H1 → va_S (fun q : Nat => s.heap.size ≤ q) s.heap H1 locs1 → W p l e room_1 s m args below meth c H1 locs1 cells slots Q (F0 m (pc + 3) ls (.int r :: rest))) : W p l e room_1 s m args below meth c H locs cells slots Q (F0 m pc ls st0) := by
  obtain ⟨F0', hK, hKm, hN, hTW, hG, hB, ho, hm, hq, hdis⟩ := F
  have hts := F0'.2.2.2.2
  obtain ⟨S, post, f, rm, hrm, hM, hpo⟩ := hM
  refine va_calli (va_runV (R := room_1) (C := "OrderLine") (n := n) (As := As) (rest := rest) F0' hM (gw_W hts h1 h2 h3 h4 h5 hd hrm.2.2.1 hrm.2.2.2 (lw_ok_of (R := room_1) (r1 := room_1) hrm hmx))
    (lw_preO hK hN hW.1.o) rfl hn hsz hst (lv_room hro) hdg ⟨hc, hs⟩) hS (fun q _ h => ho q (Or.inl h)) (fun q h => ho q (Or.inl h)) (fun r q t H1 locs1 ht hvm hpo9 hB9 hz hk1 hS1 => ?_)
  rw [ht] at hB9
  exact kk r (f q) H1 locs1 (hpo r q hpo9) ⟨hW.1.mk (hk1 qo hW.1.lt hq) hB9, hW.2.kept (fun z hz => hk1 z (hW.2.lt hz) (fun h => hdis z hz (Or.inl h)))⟩ hS1
theorem lw_vm {post : MS → Prop} {rm : Room} (F : lw_F p s m args c G B co qo) (hM : om_M l y bytes maxL none rm B As ms (om_Qv B post)) (hrm : rm.frames ≤ 7 ∧ rm.locals ≤ 102 ∧ rm.cells = 0 ∧ rm.slots = 0) (h1 : Cond.methodLink "OrderLineLaw" index y ∈ GW) (h2 : Cond.instanceMethod y ∈ GW) (h3 : Cond.selects "OrderLineModel" y y ∈ GW) (h4 : Cond.code y bytes maxL none ∈ GW) (h5 : Cond.initialized y.cls ∈ GW) (hd : y.cls ≠ "java/lang/invoke/MethodHandle" ∧ y.cls ≠ "java/lang/invoke/VarHandle" ∧ (parseMethodDescriptor y.desc).map (fun d => d.parameters.length) = some n) (hmx : maxL ≤ 40)
    (hW : lw_W G B co qo u g ms H) (hS : va_S (fun q : Nat => s.heap.size ≤ q) s.heap H locs) (hsz : ls.size = 7) (hn : As.length = n) (hst : st0 = As.reverse ++ .ref (om_h B) :: rest) (hro : (rest.map fun v => v.category).sum ≤ 8) (hdg : decode code pc = .ok (.invokevirtual index, 3)) (hc : cells ≤ 814184) (hs : slots ≤ 6653552)
    (kk : ∀ (ms' : MS) (H1 : Heap) (locs1 : List Loc), post ms' → lw_W G B co qo u g ms' H1 → va_S (fun q : Nat => s.heap.size ≤ q) s.heap H1 locs1 → W p l e room_1 s m args below meth c H1 locs1 cells slots Q (F0 m (pc + 3) ls rest)) : W p l e room_1 s m args below meth c H locs cells slots Q (F0 m pc ls st0) := by
  obtain ⟨F0', hK, hKm, hN, hTW, hG, hB, ho, hm, hq, hdis⟩ := F
  have hts := F0'.2.2.2.2
  refine va_callv (va_runV (R := room_1) (C := "OrderLineModel") (n := n) (As := As) (rest := rest) F0' hM (gw_W hts h1 h2 h3 h4 h5 hd hrm.2.2.1 hrm.2.2.2 (lw_ok_of (R := room_1) (r1 := room_1) hrm hmx))
    ⟨fun a U g mk q => ⟨q.1, va_K.moved (u := U) (U := U.calling g mk a) (Vm.Alike.refl U.vm) q.2.1, q.2.2⟩, by obtain ⟨th, f, mn, g⟩ := ms; exact va_recv hKm hW.2 (ci := 2) (q0 := 0) rfl rfl, fun U hU hW9 => ⟨rfl, va_K.moved hW9.alike hKm, by rw [hU]; exact hW.2⟩⟩ rfl hn hsz hst (lv_room hro) hdg ⟨hc, hs⟩) hS (fun q _ h => hm q h) (fun q h => hm q h) (fun q t H1 locs1 ht hvm hpo9 hB9 hz hk1 hS1 => ?_)
  rw [ht] at hB9
  exact kk q H1 locs1 hpo9 ⟨hW.1.kept hG (fun z hz => hk1 z (by
    rcases hz with h | h
    · exact hW.1.o.lt hG h
    · rw [h]; exact hW.1.lt) (fun h => hdis z h hz)), hB9⟩ hS1
theorem lw_vo {post : OS → Prop} {rm : Room} (F : lw_F p s m args c G B co qo) (hM : ol_M l y bytes maxL none rm G As u (ol_Qv G post)) (hrm : rm.frames ≤ 7 ∧ rm.locals ≤ 102 ∧ rm.cells = 0 ∧ rm.slots = 0) (h1 : Cond.methodLink "OrderLineLaw" index y ∈ GW) (h2 : Cond.instanceMethod y ∈ GW) (h3 : Cond.selects "OrderLine" y y ∈ GW) (h4 : Cond.code y bytes maxL none ∈ GW) (h5 : Cond.initialized y.cls ∈ GW) (hd : y.cls ≠ "java/lang/invoke/MethodHandle" ∧ y.cls ≠ "java/lang/invoke/VarHandle" ∧ (parseMethodDescriptor y.desc).map (fun d => d.parameters.length) = some n) (hmx : maxL ≤ 40)
    (hW : lw_W G B co qo u g ms H) (hS : va_S (fun q : Nat => s.heap.size ≤ q) s.heap H locs) (hsz : ls.size = 7) (hn : As.length = n) (hst : st0 = As.reverse ++ .ref (ol_h G) :: rest) (hro : (rest.map fun v => v.category).sum ≤ 8) (hdg : decode code pc = .ok (.invokevirtual index, 3)) (hc : cells ≤ 814184) (hs : slots ≤ 6653552)
    (kk : ∀ (u' : OS) (H1 : Heap) (locs1 : List Loc), post u' → lw_W G B co qo u' g ms H1 → va_S (fun q : Nat => s.heap.size ≤ q) s.heap H1 locs1 → W p l e room_1 s m args below meth c H1 locs1 cells slots Q (F0 m (pc + 3) ls rest)) : W p l e room_1 s m args below meth c H locs cells slots Q (F0 m pc ls st0) := by
  obtain ⟨F0', hK, hKm, hN, hTW, hG, hB, ho, hm, hq, hdis⟩ := F
  have hts := F0'.2.2.2.2
  refine va_callv (va_runV (R := room_1) (C := "OrderLine") (n := n) (As := As) (rest := rest) F0' hM (gw_W hts h1 h2 h3 h4 h5 hd hrm.2.2.1 hrm.2.2.2 (lw_ok_of (R := room_1) (r1 := room_1) hrm hmx))
    (lw_preO hK hN hW.1.o) rfl hn hsz hst (lv_room hro) hdg ⟨hc, hs⟩) hS (fun q _ h => ho q (Or.inl h)) (fun q h => ho q (Or.inl h)) (fun q t H1 locs1 ht hvm hpo9 hB9 hz hk1 hS1 => ?_)
  rw [ht] at hB9
  exact kk q H1 locs1 hpo9 ⟨hW.1.mk (hk1 qo hW.1.lt hq) hB9, hW.2.kept (fun z hz => hk1 z (hW.2.lt hz) (fun h => hdis z hz (Or.inl h)))⟩ hS1
end LWR
end
section
/-! 32: operation by operation, OrderLine and the model answer alike -/
theorem sp1 {Z : List Nat} {i x : Nat} (h : Z[i]? = some x) : ∃ A S : List Nat, Z = A ++ x :: S ∧ A.length = i := by
  obtain ⟨hi, hx⟩ := List.getElem?_eq_some_iff.mp h
  refine ⟨Z.take i, Z.drop (i + 1), ?_, by rw [List.length_take]; omega⟩
  rw [← hx, List.getElem_cons_drop, List.take_append_drop]
theorem sp2 {Z : List Nat} {i j x y : Nat} (h : Z[i]? = some x) (h2 : Z[j]? = some y) (hij : i < j) : ∃ A M S : List Nat, Z = A ++ x :: (M ++ y :: S) ∧ A.length = i ∧ M.length = j - i - 1 := by
  obtain ⟨A, R, rfl, hA⟩ := sp1 h
  rw [List.getElem?_append_right (by omega), show j - A.length = (j - i - 1) + 1 by omega, List.getElem?_cons_succ] at h2
  obtain ⟨M, S, rfl, hM⟩ := sp1 h2
  exact ⟨A, M, S, rfl, hA, hM⟩
theorem nI_inj {a b : Nat} (ha : a < 2 ^ 31) (hb : b < 2 ^ 31) (h : nI a = nI b) : a = b := by
  have := congrArg Int32.toInt h
  rw [nI_toInt ha, nI_toInt hb] at this
  omega
theorem fu_or {L : Nat → Nat} {b n : Nat → Option Nat} {t : Nat → Bool} {F : Nat → Nat} {nf la mn : Nat} {Z : List Nat} (hO : Ov (L, b, n, t, F, nf, la, mn) Z) : full Z ∨ ∃ m, fr Z m := by
  obtain ⟨-, hH, -⟩ := hO
  cases nf with
  | zero => exact Or.inl (full_of hH)
  | succ nf => exact Or.inr ⟨_, fr_of hH (Nat.succ_pos _)⟩
theorem fu_no {Z : List Nat} {m : Nat} (h : full Z) (h2 : fr Z m) : False := by
  obtain ⟨i, hi⟩ := h m h2.1
  exact h2.2.1 i hi
set_option maxHeartbeats 4000000 in
/-- behind -/
theorem pr_behind (l : Launch) (hfl : l.flags = flags0) (G : OG) (hG : ol_ok G) (B : MG) (hB : om_ok B) {co : ClassId} {qo : Nat} (hq : ¬ ol_A G qo) {u : OS} {g : Nat → Int64} {ms : MS} {Z : List Nat} (hO : Ov u Z) (hM : Mi ms.2.1 ms.2.2.1 Z) (x1 : Int32) : ∃ (k : Nat) (hp : Int32 → List Nat → Prop), k < 2 ∧ OH l G co qo y_w_behind b_w_behind 4 [(0, 9, 12, 13)] [.ref (ol_h G), .int x1, .ref qo] u g k hp ∧ ∀ b Z', hp b Z' → Zk Z' → OM l B y_m_behind b_m_behind 3 (some .int) [.int x1] ms (fun r ms' => (k = 0 → r = b) ∧ ms'.1 = k ∧ Mi ms'.2.1 ms'.2.2.1 Z') := by
  obtain ⟨L, b, n, t, F, nf, la, mn⟩ := u
  obtain ⟨th, f, mm, g'⟩ := ms
  have hM : Mi f mm Z := hM
  have hZ := Zk.of hO
  rcases bd_or Z x1 with hbd | ⟨pp, x, hx, rfl⟩
  · refine ⟨1, fun _ Z' => Z' = Z, by decide, h_behindT l G hG hq (c_o_behindT l hfl G hG hO hbd) ⟨0, Z, rfl, hO⟩, fun b Z' e _ => ?_⟩
    subst e
    exact OM.i (c_m_behindT l B hB hZ hM hbd) (by decide) (fun r u' e => by rw [e]; exact ⟨fun h => absurd h (by decide), rfl, hM⟩)
  · refine ⟨0, fun b Z' => (full Z ∧ b = -1 ∧ Z' = Z) ∨ ∃ m, fr Z m ∧ b = nI m ∧ Z' = Z.insertIdx (pp + 1) m, by decide, h_behind l G hG hq (by decide) (c_o_behind l G hG hO hx) (fun r u' h => ?_), fun b Z' e hZ' => ?_⟩
    · rcases h with ⟨h1, h2, h3⟩ | ⟨m, h1, h2, h3⟩
      · exact ⟨Z, Or.inl ⟨h1, h2, rfl⟩, h3⟩
      · exact ⟨_, Or.inr ⟨m, h1, h2, rfl⟩, h3⟩
    · rcases e with ⟨h1, rfl, rfl⟩ | ⟨m, h1, rfl, rfl⟩
      · exact OM.i (c_m_behindF l B hB hZ hM hx h1) (by decide) (fun r u' h => by rw [h.2]; exact ⟨fun _ => h.1, rfl, hM⟩)
      · have hlen := hZ'.2.2.1
        have hpp := gt_lt hx
        rw [List.length_insertIdx_of_le_length (by omega)] at hlen
        exact OM.i (c_m_behind l B hB hZ hM hx h1 (by omega)) (by decide) (fun r u' h => by
          obtain ⟨h1, f', rfl, h2⟩ := h
          exact ⟨fun _ => h1, rfl, h2⟩)
set_option maxHeartbeats 4000000 in
/-- several -/
theorem pr_several (l : Launch) (hfl : l.flags = flags0) (G : OG) (hG : ol_ok G) (B : MG) (hB : om_ok B) {co : ClassId} {qo : Nat} (hq : ¬ ol_A G qo) {u : OS} {g : Nat → Int64} {ms : MS} {Z : List Nat} (hO : Ov u Z) (hM : Mi ms.2.1 ms.2.2.1 Z) (x1 x2 : Int32) : ∃ (k : Nat) (hp : Int32 → List Nat → Prop), k < 2 ∧ OH l G co qo y_w_several b_w_several 5 [(0, 10, 13, 13)] [.ref (ol_h G), .int x1, .int x2, .ref qo] u g k hp ∧ ∀ b Z', hp b Z' → Zk Z' → OM l B y_m_several b_m_several 6 (some .int) [.int x1, .int x2] ms (fun r ms' => (k = 0 → r = b) ∧ ms'.1 = k ∧ Mi ms'.2.1 ms'.2.2.1 Z') := by
  obtain ⟨L, b, n, t, F, nf, la, mn⟩ := u
  obtain ⟨th, f, mm, g'⟩ := ms
  have hM : Mi f mm Z := hM
  have hZ := Zk.of hO
  rcases bd_or Z x1 with hbd | ⟨pp, x, hx, rfl⟩
  · refine ⟨1, fun _ Z' => Z' = Z, by decide, h_severalT l G hG hq (c_o_severalT l hfl G hG hO hbd) ⟨0, Z, rfl, hO⟩, fun b Z' e _ => ?_⟩
    subst e
    exact OM.i (c_m_severalT l B hB hZ hM hbd) (by decide) (fun r u' e => by rw [e]; exact ⟨fun h => absurd h (by decide), rfl, hM⟩)
  · refine ⟨0, fun b Z' => (¬ (∃ k, sk Z x2 k) ∧ b = -1 ∧ Z' = Z) ∨ ∃ k m : Nat, sk Z x2 k ∧ sev k Z (pp + 1) Z' ∧ fr Z m ∧ b = nI m, by decide, h_several l G hG hq (by decide) (c_o_several l G hG hO hx) (fun r u' h => ?_), fun b Z' e hZ' => ?_⟩
    · rcases h with ⟨h1, h2, h3⟩ | ⟨k, m, Z9, h1, h2, h3, h4, h5⟩
      · exact ⟨Z, Or.inl ⟨h1, h2, rfl⟩, h3⟩
      · exact ⟨Z9, Or.inr ⟨k, m, h1, h2, h3, h4⟩, h5⟩
    · rcases e with ⟨h1, rfl, rfl⟩ | ⟨k, m, h1, h2, h3, rfl⟩
      · exact OM.i (c_m_severalN l B hB hZ hM hx h1) (by decide) (fun r u' h => by rw [h.2]; exact ⟨fun _ => h.1, rfl, hM⟩)
      · obtain ⟨rfl, h1b⟩ := id h1
        exact OM.i (c_m_several l B hB hZ hM hx h1 h2 h3) (by decide) (fun r u' h => by
          obtain ⟨h1, f', rfl, h2⟩ := h
          exact ⟨fun _ => h1, rfl, h2⟩)
set_option maxHeartbeats 4000000 in
/-- clear -/
theorem pr_clear (l : Launch) (hfl : l.flags = flags0) (G : OG) (hG : ol_ok G) (B : MG) (hB : om_ok B) {co : ClassId} {qo : Nat} (hq : ¬ ol_A G qo) {u : OS} {g : Nat → Int64} {ms : MS} {Z : List Nat} (hO : Ov u Z) (hM : Mi ms.2.1 ms.2.2.1 Z) (x1 x2 : Int32) : ∃ (k : Nat) (hp : Int32 → List Nat → Prop), k < 2 ∧ OH l G co qo y_w_clear b_w_clear 5 [(0, 10, 13, 13)] [.ref (ol_h G), .int x1, .int x2, .ref qo] u g k hp ∧ ∀ b Z', hp b Z' → Zk Z' → OM l B y_m_clear b_m_clear 4 (some .int) [.int x1, .int x2] ms (fun r ms' => (k = 0 → r = b) ∧ ms'.1 = k ∧ Mi ms'.2.1 ms'.2.2.1 Z') := by
  obtain ⟨L, b, n, t, F, nf, la, mn⟩ := u
  obtain ⟨th, f, mm, g'⟩ := ms
  have hM : Mi f mm Z := hM
  have hZ := Zk.of hO
  rcases bd_or Z x1 with hbd | ⟨pa, xa, ha, rfl⟩
  · refine ⟨1, fun _ Z' => Z' = Z, by decide, h_clearT l G hG hq (c_o_clearT1 l hfl G hG hO hbd) ⟨0, Z, rfl, hO⟩, fun b Z' e _ => ?_⟩
    subst e
    exact OM.i (c_m_clearT1 l B hB hZ hM hbd) (by decide) (fun r u' e => by rw [e]; exact ⟨fun h => absurd h (by decide), rfl, hM⟩)
  rcases bd_or Z x2 with hbd | ⟨pb, xb, hb0, rfl⟩
  · refine ⟨1, fun _ Z' => Z' = Z, by decide, h_clearT l G hG hq (c_o_clearT2 l hfl G hG hO ha hbd) ⟨0, Z, rfl, hO⟩, fun b Z' e _ => ?_⟩
    subst e
    exact OM.i (c_m_clearT2 l B hB hZ hM ha hbd) (by decide) (fun r u' e => by rw [e]; exact ⟨fun h => absurd h (by decide), rfl, hM⟩)
  rcases Nat.lt_or_ge pa pb with hab | hab
  · obtain ⟨A, M, S, rfl, hA, hML⟩ := sp2 ha hb0 hab
    refine ⟨0, fun b Z' => b = nI M.length ∧ Z' = A ++ xa :: xb :: S, by decide, h_clear l G hG hq (by decide) (c_o_clear l G hG hO) (fun r u' h => ⟨_, ⟨h.1, rfl⟩, h.2⟩), fun b Z' e _ => ?_⟩
    obtain ⟨rfl, rfl⟩ := e
    exact OM.i (c_m_clear l B hB hZ hM) (by decide) (fun r u' h => by
      obtain ⟨h1, f', rfl, h2⟩ := h
      exact ⟨fun _ => h1, rfl, h2⟩)
  · refine ⟨0, fun b Z' => b = nI 0 ∧ Z' = Z, by decide, h_clear l G hG hq (by decide) (c_o_clear0 l G hG hO ha hb0 hab) (fun r u' h => ⟨Z, ⟨h.1, rfl⟩, h.2⟩), fun b Z' e _ => ?_⟩
    obtain ⟨rfl, rfl⟩ := e
    exact OM.i (c_m_clear0 l B hB hZ hM ha hb0 hab) (by decide) (fun r u' h => by rw [h.2]; exact ⟨fun _ => h.1, rfl, hM⟩)
set_option maxHeartbeats 4000000 in
/-- compare -/
theorem pr_compare (l : Launch) (hfl : l.flags = flags0) (G : OG) (hG : ol_ok G) (B : MG) (hB : om_ok B) {co : ClassId} {qo : Nat} (hq : ¬ ol_A G qo) {u : OS} {g : Nat → Int64} {ms : MS} {Z : List Nat} (hO : Ov u Z) (hM : Mi ms.2.1 ms.2.2.1 Z) (x1 x2 : Int32) : ∃ (k : Nat) (hp : Int32 → List Nat → Prop), k < 2 ∧ OH l G co qo y_w_compare b_w_compare 5 [(0, 10, 13, 13)] [.ref (ol_h G), .int x1, .int x2, .ref qo] u g k hp ∧ ∀ b Z', hp b Z' → Zk Z' → OM l B y_m_compare b_m_compare 5 (some .int) [.int x1, .int x2] ms (fun r ms' => (k = 0 → r = b) ∧ ms'.1 = k ∧ Mi ms'.2.1 ms'.2.2.1 Z') := by
  obtain ⟨L, b, n, t, F, nf, la, mn⟩ := u
  obtain ⟨th, f, mm, g'⟩ := ms
  have hM : Mi f mm Z := hM
  have hZ := Zk.of hO
  rcases bd_or Z x1 with hbd | ⟨pa, xa, ha, rfl⟩
  · refine ⟨1, fun _ Z' => Z' = Z, by decide, h_compareT l G hG hq (c_o_compareT1 l hfl G hG hO hbd) ⟨0, Z, rfl, hO⟩, fun b Z' e _ => ?_⟩
    subst e
    exact OM.i (c_m_compareT1 l B hB hZ hM hbd) (by decide) (fun r u' e => by rw [e]; exact ⟨fun h => absurd h (by decide), rfl, hM⟩)
  rcases bd_or Z x2 with hbd | ⟨pb, xb, hb0, rfl⟩
  · refine ⟨1, fun _ Z' => Z' = Z, by decide, h_compareT l G hG hq (c_o_compareT2 l hfl G hG hO ha hbd) ⟨0, Z, rfl, hO⟩, fun b Z' e _ => ?_⟩
    subst e
    exact OM.i (c_m_compareT2 l B hB hZ hM ha hbd) (by decide) (fun r u' e => by rw [e]; exact ⟨fun h => absurd h (by decide), rfl, hM⟩)
  · refine ⟨0, fun b Z' => b = (if pa < pb then -1 else if pb < pa then nI 1 else nI 0) ∧ Z' = Z, by decide, h_compare l G hG hq (by decide) (c_o_compare l G hG hO ha hb0) (fun r u' h => ⟨Z, ⟨h.1, rfl⟩, h.2⟩), fun b Z' e _ => ?_⟩
    obtain ⟨rfl, rfl⟩ := e
    exact OM.i (c_m_compare l B hB hZ hM ha hb0) (by decide) (fun r u' h => by rw [h.2]; exact ⟨fun _ => h.1, rfl, hM⟩)
set_option maxHeartbeats 4000000 in
/-- greatest -/
theorem pr_greatest (l : Launch) (hfl : l.flags = flags0) (G : OG) (hG : ol_ok G) (B : MG) (hB : om_ok B) {co : ClassId} {qo : Nat} (hq : ¬ ol_A G qo) {u : OS} {g : Nat → Int64} {ms : MS} {Z : List Nat} (hO : Ov u Z) (hM : Mi ms.2.1 ms.2.2.1 Z) (x1 x2 : Int32) : ∃ (k : Nat) (hp : Int32 → List Nat → Prop), k < 2 ∧ OH l G co qo y_w_greatest b_w_greatest 5 [(0, 10, 13, 13)] [.ref (ol_h G), .int x1, .int x2, .ref qo] u g k hp ∧ ∀ b Z', hp b Z' → Zk Z' → OM l B y_m_greatest b_m_greatest 5 (some .int) [.int x1, .int x2] ms (fun r ms' => (k = 0 → r = b) ∧ ms'.1 = k ∧ Mi ms'.2.1 ms'.2.2.1 Z') := by
  obtain ⟨L, b, n, t, F, nf, la, mn⟩ := u
  obtain ⟨th, f, mm, g'⟩ := ms
  have hM : Mi f mm Z := hM
  have hZ := Zk.of hO
  rcases bd_or Z x1 with hbd | ⟨pa, xa, ha, rfl⟩
  · refine ⟨1, fun _ Z' => Z' = Z, by decide, h_greatestT l G hG hq (c_o_greatestT1 l hfl G hG hO hbd) ⟨0, Z, rfl, hO⟩, fun b Z' e _ => ?_⟩
    subst e
    exact OM.i (c_m_greatestT1 l B hB hZ hM hbd) (by decide) (fun r u' e => by rw [e]; exact ⟨fun h => absurd h (by decide), rfl, hM⟩)
  rcases bd_or Z x2 with hbd | ⟨pb, xb, hb0, rfl⟩
  · refine ⟨1, fun _ Z' => Z' = Z, by decide, h_greatestT l G hG hq (c_o_greatestT2 l hfl G hG hO ha hbd) ⟨0, Z, rfl, hO⟩, fun b Z' e _ => ?_⟩
    subst e
    exact OM.i (c_m_greatestT2 l B hB hZ hM ha hbd) (by decide) (fun r u' e => by rw [e]; exact ⟨fun h => absurd h (by decide), rfl, hM⟩)
  · refine ⟨0, fun b Z' => b = (if pb < pa then -1 else nI (gm Z pa (pb - pa + 1))) ∧ Z' = Z, by decide, h_greatest l G hG hq (by decide) (c_o_greatest l G hG hO ha hb0) (fun r u' h => ⟨Z, ⟨h.1, rfl⟩, h.2⟩), fun b Z' e _ => ?_⟩
    obtain ⟨rfl, rfl⟩ := e
    exact OM.i (c_m_greatest l B hB hZ hM ha hb0) (by decide) (fun r u' h => by rw [h.2]; exact ⟨fun _ => h.1, rfl, hM⟩)
set_option maxHeartbeats 4000000 in
/-- place -/
theorem pr_place (l : Launch) (hfl : l.flags = flags0) (G : OG) (hG : ol_ok G) (B : MG) (hB : om_ok B) {co : ClassId} {qo : Nat} (hq : ¬ ol_A G qo) {u : OS} {g : Nat → Int64} {ms : MS} {Z : List Nat} (hO : Ov u Z) (hM : Mi ms.2.1 ms.2.2.1 Z) (x1 : Int32) : ∃ (k : Nat) (hp : Int32 → List Nat → Prop), k < 2 ∧ OH l G co qo y_w_place b_w_place 4 [(0, 9, 12, 13)] [.ref (ol_h G), .int x1, .ref qo] u g k hp ∧ ∀ b Z', hp b Z' → Zk Z' → OM l B y_m_place b_m_place 2 (some .int) [.int x1] ms (fun r ms' => (k = 0 → r = b) ∧ ms'.1 = k ∧ Mi ms'.2.1 ms'.2.2.1 Z') := by
  obtain ⟨L, b, n, t, F, nf, la, mn⟩ := u
  obtain ⟨th, f, mm, g'⟩ := ms
  have hM : Mi f mm Z := hM
  have hZ := Zk.of hO
  rcases bd_or Z x1 with hbd | ⟨pp, x, hx, rfl⟩
  · refine ⟨1, fun _ Z' => Z' = Z, by decide, h_placeT l G hG hq (c_o_placeT l hfl G hG hO hbd) ⟨0, Z, rfl, hO⟩, fun b Z' e _ => ?_⟩
    subst e
    exact OM.i (c_m_placeT l B hB hZ hM hbd) (by decide) (fun r u' e => by rw [e]; exact ⟨fun h => absurd h (by decide), rfl, hM⟩)
  · refine ⟨0, fun b Z' => b = nI pp ∧ Z' = Z, by decide, h_place l G hG hq (by decide) (c_o_place l G hG hO hx) (fun r u' h => ⟨Z, ⟨h.1, rfl⟩, h.2⟩), fun b Z' e _ => ?_⟩
    obtain ⟨rfl, rfl⟩ := e
    exact OM.i (c_m_place l B hB hZ hM hx) (by decide) (fun r u' h => by rw [h.2]; exact ⟨fun _ => h.1, rfl, hM⟩)
set_option maxHeartbeats 4000000 in
/-- next -/
theorem pr_next (l : Launch) (hfl : l.flags = flags0) (G : OG) (hG : ol_ok G) (B : MG) (hB : om_ok B) {co : ClassId} {qo : Nat} (hq : ¬ ol_A G qo) {u : OS} {g : Nat → Int64} {ms : MS} {Z : List Nat} (hO : Ov u Z) (hM : Mi ms.2.1 ms.2.2.1 Z) (x1 x2 : Int32) : ∃ (k : Nat) (hp : Int32 → List Nat → Prop), k < 2 ∧ OH l G co qo y_w_next b_w_next 5 [(0, 10, 13, 13)] [.ref (ol_h G), .int x1, .int x2, .ref qo] u g k hp ∧ ∀ b Z', hp b Z' → Zk Z' → OM l B y_m_next b_m_next 4 (some .int) [.int x1, .int x2] ms (fun r ms' => (k = 0 → r = b) ∧ ms'.1 = k ∧ Mi ms'.2.1 ms'.2.2.1 Z') := by
  obtain ⟨L, b, n, t, F, nf, la, mn⟩ := u
  obtain ⟨th, f, mm, g'⟩ := ms
  have hM : Mi f mm Z := hM
  have hZ := Zk.of hO
  rcases bd_or Z x1 with hbd | ⟨pp, x, hx, rfl⟩
  · refine ⟨1, fun _ Z' => Z' = Z, by decide, h_nextT l G hG hq (c_o_nextT l hfl G hG hO hbd) ⟨0, Z, rfl, hO⟩, fun b Z' e _ => ?_⟩
    subst e
    exact OM.i (c_m_nextT l B hB hZ hM hbd) (by decide) (fun r u' e => by rw [e]; exact ⟨fun h => absurd h (by decide), rfl, hM⟩)
  · refine ⟨0, fun b Z' => b = (if x2 = 0 then (if pp = 0 then -1 else nI (Z.getD (pp - 1) 0)) else (if pp + 1 < Z.length then nI (Z.getD (pp + 1) 0) else -1)) ∧ Z' = Z, by decide, h_next l G hG hq (by decide) (c_o_next l G hG hO hx) (fun r u' h => ⟨Z, ⟨h.1, rfl⟩, h.2⟩), fun b Z' e _ => ?_⟩
    obtain ⟨rfl, rfl⟩ := e
    exact OM.i (c_m_next l B hB hZ hM hx) (by decide) (fun r u' h => by rw [h.2]; exact ⟨fun _ => h.1, rfl, hM⟩)
set_option maxHeartbeats 4000000 in
/-- carry -/
theorem pr_carry (l : Launch) (hfl : l.flags = flags0) (G : OG) (hG : ol_ok G) (B : MG) (hB : om_ok B) {co : ClassId} {qo : Nat} (hq : ¬ ol_A G qo) {u : OS} {g : Nat → Int64} {ms : MS} {Z : List Nat} (hO : Ov u Z) (hM : Mi ms.2.1 ms.2.2.1 Z) (x1 x2 x3 : Int32) : ∃ (k : Nat) (hp : Int32 → List Nat → Prop), k < 2 ∧ OH l G co qo y_w_carry b_w_carry 6 [(0, 12, 15, 13)] [.ref (ol_h G), .int x1, .int x2, .int x3, .ref qo] u g k hp ∧ ∀ b Z', hp b Z' → Zk Z' → OM l B y_m_carry b_m_carry 9 (some .int) [.int x1, .int x2, .int x3] ms (fun r ms' => (k = 0 → r = b) ∧ ms'.1 = k ∧ Mi ms'.2.1 ms'.2.2.1 Z') := by
  obtain ⟨L, b, n, t, F, nf, la, mn⟩ := u
  obtain ⟨th, f, mm, g'⟩ := ms
  have hM : Mi f mm Z := hM
  have hZ := Zk.of hO
  rcases bd_or Z x1 with hbd | ⟨pa, xa, ha, rfl⟩
  · refine ⟨1, fun _ Z' => Z' = Z, by decide, h_carryT l G hG hq (c_o_carryT1 l hfl G hG hO hbd) ⟨0, Z, rfl, hO⟩, fun b Z' e _ => ?_⟩
    subst e
    exact OM.i (c_m_carryT1 l B hB hZ hM hbd) (by decide) (fun r u' e => by rw [e]; exact ⟨fun h => absurd h (by decide), rfl, hM⟩)
  rcases bd_or Z x2 with hbd | ⟨pb, xb, hb0, rfl⟩
  · refine ⟨1, fun _ Z' => Z' = Z, by decide, h_carryT l G hG hq (c_o_carryT2 l hfl G hG hO ha hbd) ⟨0, Z, rfl, hO⟩, fun b Z' e _ => ?_⟩
    subst e
    exact OM.i (c_m_carryT2 l B hB hZ hM ha hbd) (by decide) (fun r u' e => by rw [e]; exact ⟨fun h => absurd h (by decide), rfl, hM⟩)
  rcases bd_or Z x3 with hbd | ⟨pq, xc, hc0, rfl⟩
  · refine ⟨1, fun _ Z' => Z' = Z, by decide, h_carryT l G hG hq (c_o_carryT3 l hfl G hG hO ha hb0 hbd) ⟨0, Z, rfl, hO⟩, fun b Z' e _ => ?_⟩
    subst e
    exact OM.i (c_m_carryT3 l B hB hZ hM ha hb0 hbd) (by decide) (fun r u' e => by rw [e]; exact ⟨fun h => absurd h (by decide), rfl, hM⟩)
  by_cases hN : pb ≤ pa ∨ (pa < pq ∧ pq < pb)
  · refine ⟨0, fun b Z' => b = -1 ∧ Z' = Z, by decide, h_carry l G hG hq (by decide) (c_o_carryN l G hG hO ha hb0 hc0 hN) (fun r u' h => ⟨Z, ⟨h.1, rfl⟩, h.2⟩), fun b Z' e _ => ?_⟩
    obtain ⟨rfl, rfl⟩ := e
    exact OM.i (c_m_carryN l B hB hZ hM ha hb0 hc0 hN) (by decide) (fun r u' h => by rw [h.2]; exact ⟨fun _ => h.1, rfl, hM⟩)
  have hab : pa < pb := by omega
  rcases Nat.lt_trichotomy pq pa with hca | hca | hca
  · obtain ⟨A1, A2, R, rfl, hA1, hA2⟩ := sp2 hc0 ha hca
    have hb1 : R[pb - pa - 1]? = some xb := by
      rw [show A1 ++ xc :: (A2 ++ xa :: R) = (A1 ++ xc :: (A2 ++ [xa])) ++ R by simp, List.getElem?_append_right (by simp; omega)] at hb0
      rw [← hb0]; congr 1; simp; omega
    obtain ⟨M, S, rfl, hML⟩ := sp1 hb1
    refine ⟨0, fun b Z' => b = nI M.length ∧ Z' = A1 ++ xc :: (M ++ (A2 ++ xa :: xb :: S)), by decide, h_carry l G hG hq (by decide) (c_o_carryB l G hG hO) (fun r u' h => ⟨_, ⟨h.1, rfl⟩, h.2⟩), fun b Z' e _ => ?_⟩
    obtain ⟨rfl, rfl⟩ := e
    have eZ : A1 ++ xc :: (A2 ++ xa :: (M ++ xb :: S)) = (A1 ++ xc :: A2) ++ xa :: (M ++ xb :: S) := by simp
    rw [eZ] at hZ hM hc0
    exact OM.i (c_m_carry (xb := xb) l B hB hZ hM rfl hc0 (Or.inl (by simp; omega)) (show (A1 ++ xc :: A2) ++ xa :: (xb :: S) = A1 ++ xc :: (A2 ++ xa :: xb :: S) by simp)) (by decide) (fun r u' h => by
      obtain ⟨h1, f', g9, rfl, h2⟩ := h
      exact ⟨fun _ => h1, rfl, h2⟩)
  · subst hca
    have hxc : xc = xa := Option.some.inj (hc0.symm.trans ha)
    subst hxc
    refine ⟨0, fun b Z' => b = nI (pb - pq - 1) ∧ Z' = Z, by decide, h_carry l G hG hq (by decide) (c_o_carryA l G hG hO ha hb0 hab) (fun r u' h => ⟨_, ⟨h.1, rfl⟩, h.2⟩), fun b Z' e _ => ?_⟩
    obtain ⟨rfl, rfl⟩ := e
    obtain ⟨A, M, S, rfl, hA, hML⟩ := sp2 ha hb0 hab
    exact OM.i (c_m_carry (xb := xb) (U := A) (V := xb :: S) l B hB hZ hM rfl hc0 (Or.inl (by omega)) rfl) (by decide) (fun r u' h => by
      obtain ⟨h1, f', g9, rfl, h2⟩ := h
      exact ⟨fun _ => by rw [h1, hML], rfl, h2⟩)
  · have hbq : pb ≤ pq := by omega
    obtain ⟨A, R, rfl, hA⟩ := sp1 ha
    have hb1 : R[pb - pa - 1]? = some xb := by
      rw [List.getElem?_append_right (by omega), show pb - A.length = (pb - pa - 1) + 1 by omega, List.getElem?_cons_succ] at hb0
      exact hb0
    have hc1 : R[pq - pa - 1]? = some xc := by
      rw [List.getElem?_append_right (by omega), show pq - A.length = (pq - pa - 1) + 1 by omega, List.getElem?_cons_succ] at hc0
      exact hc0
    obtain ⟨M, T, hR, hML⟩ : ∃ M T : List Nat, R = M ++ T ∧ M.length = pb - pa - 1 := ⟨R.take (pb - pa - 1), R.drop (pb - pa - 1), (List.take_append_drop _ _).symm, by rw [List.length_take]; have := gt_lt hb1; omega⟩
    subst hR
    rw [List.getElem?_append_right (by omega), show pb - pa - 1 - M.length = 0 by omega] at hb1
    rw [List.getElem?_append_right (by omega)] at hc1
    obtain ⟨Q0, S, rfl, hQ0⟩ := sp1 hc1
    refine ⟨0, fun b Z' => b = nI M.length ∧ Z' = A ++ xa :: (Q0 ++ xc :: (M ++ S)), by decide, h_carry l G hG hq (by decide) (c_o_carryC l G hG hO (by rw [← hd_app]; exact hb1)) (fun r u' h => ⟨_, ⟨h.1, rfl⟩, h.2⟩), fun b Z' e _ => ?_⟩
    obtain ⟨rfl, rfl⟩ := e
    exact OM.i (c_m_carry (xb := xb) (U := A ++ xa :: Q0) (V := S) l B hB hZ hM hb1 hc0 (Or.inr (by omega)) (by simp)) (by decide) (fun r u' h => by
      obtain ⟨h1, f', g9, rfl, h2⟩ := h
      exact ⟨fun _ => h1, rfl, by simpa using h2⟩)
set_option maxHeartbeats 4000000 in
/-- remove -/
theorem pr_remove (l : Launch) (G : OG) (hG : ol_ok G) (B : MG) (hB : om_ok B) {u : OS} {ms : MS} {Z : List Nat} (hO : Ov u Z) (hM : Mi ms.2.1 ms.2.2.1 Z) (x1 : Int32) : ∃ (b : Int32) (Z' : List Nat), OO l G y_o_remove b_o_remove 2 (some .boolean) [.int x1] u (fun r u' => r = b ∧ Ov u' Z') ∧ OM l B y_m_remove b_m_remove 3 (some .boolean) [.int x1] ms (fun r ms' => r = b ∧ Mi ms'.2.1 ms'.2.2.1 Z') := by
  obtain ⟨L, b, n, t, F, nf, la, mn⟩ := u
  obtain ⟨th, f, mm, g'⟩ := ms
  have hM : Mi f mm Z := hM
  have hZ := Zk.of hO
  rcases bd_or Z x1 with hbd | ⟨pp, x, hx, rfl⟩
  · refine ⟨ol_z false, Z, OO.z (c_o_removeN l G hG hO hbd) (by decide) (fun r u' h => by rw [h.1]; exact ⟨rfl, h.2⟩), OM.z (c_m_removeN l B hB hZ hM hbd) (by decide) (fun r u' h => ?_)⟩
    rw [h.1, h.2]; exact ⟨rfl, hM⟩
  cases pp with
  | zero =>
    have hx0 : x = 0 := Option.some.inj (hx.symm.trans hZ.2.2.2)
    subst hx0
    refine ⟨ol_z false, Z, OO.z (c_o_remove0 l G hG hO) (by decide) (fun r u' h => by rw [h.1]; exact ⟨rfl, h.2⟩), OM.z (c_m_remove0 l B hB hZ hM) (by decide) (fun r u' h => by rw [h.1, h.2]; exact ⟨rfl, hM⟩)⟩
  | succ pp =>
    refine ⟨ol_z true, Z.eraseIdx (pp + 1), OO.z (c_o_remove l G hG hO hx) (by decide) (fun r u' h => by rw [h.1]; exact ⟨rfl, h.2⟩), OM.z (c_m_remove l B hB hZ hM hx) (by decide) (fun r u' h => ?_)⟩
    obtain ⟨rfl, f', rfl, h2⟩ := h
    exact ⟨rfl, h2⟩
set_option maxHeartbeats 4000000 in
/-- has -/
theorem pr_has (l : Launch) (G : OG) (hG : ol_ok G) (B : MG) (hB : om_ok B) {u : OS} {ms : MS} {Z : List Nat} (hO : Ov u Z) (hM : Mi ms.2.1 ms.2.2.1 Z) (x1 : Int32) : ∃ (b : Int32) (Z' : List Nat), OO l G y_o_has b_o_has 2 (some .boolean) [.int x1] u (fun r u' => r = b ∧ Ov u' Z') ∧ OM l B y_m_has b_m_has 2 (some .boolean) [.int x1] ms (fun r ms' => r = b ∧ Mi ms'.2.1 ms'.2.2.1 Z') := by
  obtain ⟨L, b, n, t, F, nf, la, mn⟩ := u
  obtain ⟨th, f, mm, g'⟩ := ms
  have hM : Mi f mm Z := hM
  have hZ := Zk.of hO
  rcases bd_or Z x1 with hbd | ⟨pp, x, hx, rfl⟩
  · refine ⟨ol_z false, Z, OO.z (c_o_hasQ l G hG hO hbd) (by decide) (fun r u' h => by rw [h.1]; exact ⟨rfl, h.2⟩), OM.z (c_m_hasN l B hB hZ hM hbd) (by decide) (fun r u' h => ?_)⟩
    rw [h.1, h.2]; exact ⟨rfl, hM⟩
  · refine ⟨ol_z true, Z, OO.z (c_o_hasP l G hG hO hx) (by decide) (fun r u' h => by rw [h.1]; exact ⟨rfl, h.2⟩), OM.z (c_m_has l B hB hZ hM hx) (by decide) (fun r u' h => ?_)⟩
    rw [h.1, h.2]; exact ⟨rfl, hM⟩
set_option maxHeartbeats 4000000 in
/-- at -/
theorem pr_at (l : Launch) (G : OG) (hG : ol_ok G) (B : MG) (hB : om_ok B) {u : OS} {ms : MS} {Z : List Nat} (hO : Ov u Z) (hM : Mi ms.2.1 ms.2.2.1 Z) (x1 : Int32) : ∃ (b : Int32) (Z' : List Nat), OO l G y_o_at b_o_at 4 (some .int) [.int x1] u (fun r u' => r = b ∧ Ov u' Z') ∧ OM l B y_m_at b_m_at 2 (some .int) [.int x1] ms (fun r ms' => r = b ∧ Mi ms'.2.1 ms'.2.2.1 Z') := by
  obtain ⟨L, b, n, t, F, nf, la, mn⟩ := u
  obtain ⟨th, f, mm, g'⟩ := ms
  have hM : Mi f mm Z := hM
  have hZ := Zk.of hO
  have hZl := hZ.2.2.1
  by_cases h : ∃ j, j < Z.length ∧ x1 = nI j
  · obtain ⟨j, hj, rfl⟩ := h
    have key : ∀ r : Int32, ((¬ (∃ i, i < Z.length ∧ nI j = nI i) ∧ r = -1) ∨ ∃ i x : Nat, nI j = nI i ∧ Z[i]? = some x ∧ r = nI x) → r = nI (Z.getD j 0) := by
      intro r h
      rcases h with ⟨h1, -⟩ | ⟨i, x, h1, h2, h3⟩
      · exact absurd ⟨j, hj, rfl⟩ h1
      · have hi := gt_lt h2
        have := nI_inj (by omega) (by omega) h1
        subst this
        rw [h3, gd_of h2]
    exact ⟨nI (Z.getD j 0), Z, OO.i (c_o_at l G hG hO) (by decide) (fun r u' h => ⟨key r h.1, h.2⟩), OM.i (c_m_at l B hB hZ hM) (by decide) (fun r u' h => by rw [h.2]; exact ⟨key r h.1, hM⟩)⟩
  · have key : ∀ r : Int32, ((¬ (∃ i, i < Z.length ∧ x1 = nI i) ∧ r = -1) ∨ ∃ i x : Nat, x1 = nI i ∧ Z[i]? = some x ∧ r = nI x) → r = -1 := by
      intro r h9
      rcases h9 with ⟨-, h1⟩ | ⟨i, x, h1, h2, h3⟩
      · exact h1
      · exact absurd ⟨i, gt_lt h2, h1⟩ h
    exact ⟨-1, Z, OO.i (c_o_at l G hG hO) (by decide) (fun r u' h => ⟨key r h.1, h.2⟩), OM.i (c_m_at l B hB hZ hM) (by decide) (fun r u' h => by rw [h.2]; exact ⟨key r h.1, hM⟩)⟩
set_option maxHeartbeats 4000000 in
/-- look -/
theorem pr_look (l : Launch) (G : OG) (hG : ol_ok G) (B : MG) (hB : om_ok B) {u : OS} {ms : MS} {Z : List Nat} (hO : Ov u Z) (hM : Mi ms.2.1 ms.2.2.1 Z) (x1 : Int32) : ∃ (b : Int32) (Z' : List Nat), OO l G y_o_look b_o_look 2 (some .int) [.int x1] u (fun r u' => r = b ∧ Ov u' Z') ∧ OM l B y_m_look b_m_look 2 (some .int) [.int x1] ms (fun r ms' => r = b ∧ Mi ms'.2.1 ms'.2.2.1 Z') := by
  obtain ⟨L, b, n, t, F, nf, la, mn⟩ := u
  obtain ⟨th, f, mm, g'⟩ := ms
  have hM : Mi f mm Z := hM
  have hZ := Zk.of hO
  rcases fu_or hO with hfu | ⟨m9, hfr⟩
  · refine ⟨if x1 = 0 then nI Z.length else if x1 = nI 1 then nI (Z.getD (Z.length - 1) 0) else -1, Z, OO.i (c_o_look l G hG hO) (by decide) (fun r u' h => ⟨?_, h.2⟩), OM.i (c_m_lookF l B hB hZ hM hfu) (by decide) (fun r u' h => ?_)⟩
    · have h1 := h.1
      split at h1
      · rename_i c1; rw [if_pos c1]; exact h1
      · rename_i c1; rw [if_neg c1]
        split at h1
        · rename_i c2; rw [if_pos c2]; exact h1
        · rename_i c2; rw [if_neg c2]
          split at h1
          · rcases h1 with ⟨-, h1⟩ | ⟨m, h1, -⟩
            · exact h1
            · exact absurd h1 (fun z => fu_no hfu z)
          · exact h1
    · rw [h.2]
      refine ⟨?_, hM⟩
      have h1 := h.1
      split at h1
      · rename_i c1; rw [if_pos c1]; exact h1
      · rename_i c1; rw [if_neg c1]
        split at h1
        · rename_i c2; rw [if_pos c2]; exact h1
        · rename_i c2; rw [if_neg c2]
          split at h1 <;> exact h1
  · refine ⟨if x1 = 0 then nI Z.length else if x1 = nI 1 then nI (Z.getD (Z.length - 1) 0) else if x1 = nI 2 then nI m9 else -1, Z, OO.i (c_o_look l G hG hO) (by decide) (fun r u' h => ⟨?_, h.2⟩), OM.i (c_m_look l B hB hZ hM hfr) (by decide) (fun r u' h => ?_)⟩
    · have h1 := h.1
      split at h1
      · rename_i c1; rw [if_pos c1]; exact h1
      · rename_i c1; rw [if_neg c1]
        split at h1
        · rename_i c2; rw [if_pos c2]; exact h1
        · rename_i c2; rw [if_neg c2]
          split at h1
          · rename_i c3; rw [if_pos c3]
            rcases h1 with ⟨h1, -⟩ | ⟨m, h1, h2⟩
            · exact absurd hfr (fun z => fu_no h1 z)
            · rw [h2, fr_uniq h1 hfr]
          · rename_i c3; rw [if_neg c3]; exact h1
    · rw [h.2]
      refine ⟨?_, hM⟩
      have h1 := h.1
      split at h1
      · rename_i c1; rw [if_pos c1]; exact h1
      · rename_i c1; rw [if_neg c1]
        split at h1
        · rename_i c2; rw [if_pos c2]; exact h1
        · rename_i c2; rw [if_neg c2]
          split at h1
          · rename_i c3; rw [if_pos c3]; exact h1
          · rename_i c3; rw [if_neg c3]; exact h1
end
section
/-! 33: the skeleton's head: the law's own end, what holds at its entry -/
def R_law : String := "OrderLineLaw"
def lw_P (b : Addr) (xs : List Int32) (args : Array Value) (s : State) : Prop := args = #[.ref b] ∧ s.IntsAt b xs ∧ xs.length ≤ 2048 ∧ (Jvm.Cond.and given_1 narrow_1).before args s = true
def lw_Q (_ : Array Value) (s : State) (o : Outcome) (t : State) : Prop := o = .returned (some (.int 1)) ∧ Framed s o t [] 814184 6653552
def lw_Z (below : List Frame) (a : Array Value) (s : State) : State → Prop := fun t => ∃ o, t.status = .running ∧ Ended t below o ∧ lw_Q a s o t
/-- the law's own end, with 1 on the stack, nothing written that was there before, its room as the claim has it -/
theorem lw_ret {p : Program} {l : Launch} {e : Env} {s : State} {m : MethodId} {below : List Frame} {meth : Method} {c : Code} {b : Nat} (hx : p.tables.exec = Jvm.exec) (hb : c.code = code) (hr : meth.sig.returnType = ret) (hlocks : meth.locks = false) {pc : Nat} {H : Heap} {ls : Array Slot} (hdg : decode code pc = .ok (.ireturn, 1)) : W p l e room_1 s m #[Value.ref b] below meth c H [] 814184 6653552 (lw_Z below #[Value.ref b] s) (F0 m pc ls [.int 1]) := by
  intro T hT X
  obtain ⟨fs, hret, hrun, hended, hW, hframe⟩ := X.leave (v := some (.int 1)) (hlocks := hlocks) (fun h => by rw [hr] at h; cases h)
  have hmeth' : T.vm.method? m = some meth := X.method'
  refine ⟨T.setFrames fs, ?_, .returned (some (.int 1)), hrun, hended, rfl, ⟨_, rfl⟩, hW, hframe⟩
  jvm_step X.here [X.here.top, hx, hb, hdg, hmeth', hr, ret, narrow_b1]
  (try refine ⟨rfl, ?_⟩); (try refine ⟨rfl, ?_⟩)
  first | (intro acts; rw [hret _ acts rfl rfl rfl]) | rw [hret _ _ rfl rfl rfl]
  exact Steps.refl _
/-- what holds at the law's entry: the machine, the code, the tables' words (any of lw_tbl by 'hts w (by decide +kernel)'), the script of L ints xs at the cell b, what the Statement gives of the start (any of its parts by flat_of_before) -/
def lw_At (p : Program) (s : State) (m : MethodId) (meth : Method) (c : Code) (b L : Nat) (xs : Nat → Int32) : Prop :=
  p.tables.exec = Jvm.exec ∧ c.code = code ∧ meth.sig.returnType = ret ∧ c.maxLocals = 7 ∧ s.vm.findClass R_law = some m.cls ∧ (∀ w ∈ lw_tbl, w.before #[Value.ref b] s = true) ∧ va_X b L xs s s.heap ∧ b < s.heap.size ∧ meth.locks = false ∧ (Jvm.Cond.and given_1 narrow_1).before #[Value.ref b] s = true
theorem Zk.of' {u : OS} {Z : List Nat} (h : Ov u Z) : Zk Z := by
  obtain ⟨L, b, n, t, F, nf, la, mn⟩ := u
  exact Zk.of h
theorem pr_thrown (l : Launch) (B : MG) (hB : om_ok B) {ms : MS} {Z : List Nat} (hZ : Zk Z) (hM : Mi ms.2.1 ms.2.2.1 Z) : OM l B y_m_thrown b_m_thrown 1 (some .int) [] ms (fun r ms' => r = nI ms.1 ∧ ms' = ms) := by
  obtain ⟨th, f, mm, g'⟩ := ms
  exact OM.i (c_m_thrown l B hB hZ hM) (by decide) (fun r u' h => h)
theorem lw_cmp (x : Int64) : lg_cmp x x = 0 := by simp [lg_cmp]
theorem lw_i4 (j : Nat) : nI (4 * j) + Int32.ofInt 4 = nI (4 * (j + 1)) := by
  rw [show Int32.ofInt 4 = nI 4 from rfl, nI_add, show 4 * (j + 1) = 4 * j + 4 by omega]
section LWL
variable {p : Program} {l : Launch} {e : Env} {R : Room} {s : State} {m : MethodId} {args : Array Value} {below : List Frame} {meth : Method} {c : Code} {H : Heap} {locs : List Loc} {cells slots : Nat} {Q : State → Prop} {pc : Nat} {ls : Array Slot} {rest : List Value}
theorem lw_sl (hx : p.tables.exec = Jvm.exec) (hb : c.code = code) {b L : Nat} {xs : Nat → Int32} (hX : va_X b L xs s s.heap) (hbl : b < s.heap.size) (hS : va_S (fun q : Nat => s.heap.size ≤ q) s.heap H locs) {i : Nat} (hi : i < L) (hL : L ≤ 2048) (hdg : decode code pc = .ok (.iaload, 1))
    (kk : W p l e R s m args below meth c H locs cells slots Q (F0 m (pc + 1) ls (.int (xs i) :: rest))) : W p l e R s m args below meth c H locs cells slots Q (F0 m pc ls (.int (nI i) :: .ref b :: rest)) :=
  va_sld hx hb hX hbl (Nat.not_le.mpr hbl) hS (vp_in_nI hi (by omega)) hdg (by rw [nI_clamp (by omega)]; exact kk)
theorem lw_leq (hx : p.tables.exec = Jvm.exec) (hb : c.code = code) {x : Int64} {off : Int} {tgt : Nat} (hd1 : decode code pc = .ok (.lcmp, 1)) (hd2 : decode code (pc + 1) = .ok (.ifCond .eq off, 3)) (ht : ((pc + 1 : Nat) : Int) + off = (tgt : Int))
    (kk : W p l e R s m args below meth c H locs cells slots Q (F0 m tgt ls rest)) : W p l e R s m args below meth c H locs cells slots Q (F0 m pc ls (.long x :: .long x :: rest)) :=
  W.lcmp hx hb hd1 (lv_if_eq hx hb hd2 ht (fun _ => kk) (fun h => absurd (lw_cmp x) h))
end LWL
/-- on from an operation's end -/
def lw_N (p : Program) (l : Launch) (e : Env) (s : State) (m : MethodId) (b : Nat) (below : List Frame) (meth : Method) (c : Code) (G : OG) (B : MG) (co : ClassId) (qo j cells slots : Nat) (Q : State → Prop) : Prop :=
  ∀ (u : OS) (g : Nat → Int64) (ms : MS) (Z : List Nat) (H : Heap) (locs : List Loc) (ls : Array Slot), Ov u Z → Mi ms.2.1 ms.2.2.1 Z → lw_W G B co qo u g ms H → va_S (fun q : Nat => s.heap.size ≤ q) s.heap H locs → lv_has ls 7 [(4, .int (nI (4 * j))), (3, .ref qo), (2, .ref (om_h B)), (1, .ref (ol_h G)), (0, .ref b)] → W p l e room_1 s m #[Value.ref b] below meth c H locs (cells + 1) (slots + 6) Q (F0 m 763 ls [])
end
section
/-! 34: the law's operations -/
set_option maxHeartbeats 4000000 in
set_option maxRecDepth 100000 in
/-- the law's operation behind -/
theorem op_behind {p : Program} {l : Launch} {e : Env} {s : State} {m : MethodId} {below : List Frame} {meth : Method} {c : Code} {Q : State → Prop} {b L : Nat} {xs : Nat → Int32} {G : OG} {B : MG} {co : ClassId} {qo j cells slots : Nat} (hfl : l.flags = flags0) (F : lw_F p s m #[Value.ref b] c G B co qo) (hX : va_X b L xs s s.heap) (hbl : b < s.heap.size) (hj : 4 * j + 4 ≤ L) (hL : L ≤ 2048) (hc : cells + 1 ≤ 814184) (hs : slots + 6 ≤ 6653552) (hN : lw_N p l e s m b below meth c G B co qo j cells slots Q) {u : OS} {g : Nat → Int64} {ms : MS} {Z : List Nat} {H : Heap} {locs : List Loc} {ls : Array Slot} (hO : Ov u Z) (hM : Mi ms.2.1 ms.2.2.1 Z) (hW : lw_W G B co qo u g ms H) (hS : va_S (fun q : Nat => s.heap.size ≤ q) s.heap H locs) (hl : lv_has ls 7 [(4, .int (nI (4 * j))), (3, .ref qo), (2, .ref (om_h B)), (1, .ref (ol_h G)), (0, .ref b)]) : W p l e room_1 s m #[Value.ref b] below meth c H locs cells slots Q (F0 m 104 ls []) := by
  obtain ⟨⟨hx, hb, hml, hown, hts⟩, hK, hKm, hNs, hTW, hG, hB, ho, hm, hq, hdis⟩ := id F
  obtain ⟨k, hp, hk2, hOH, hOM⟩ := pr_behind l hfl G hG B hB (co := co) (qo := qo) (g := g) hq hO hM (xs (4 * j + 1))
  refine lv_aload_n hx hb d_w_law_104 rfl (lv_at hl 3 rfl) ?_
  refine lv_aload_n hx hb d_w_law_105 rfl (lv_at hl 4 rfl) ?_
  refine lv_iload hx hb d_w_law_106 (lv_at hl 0 rfl) ?_
  refine lv_iconst (v := (nI 1)) hx hb d_w_law_108 (by decide) ?_
  refine lv_iadd hx hb d_w_law_109 ?_
  refine tp_i (nI ((4 * j) + 1)) (nI_add _ _) ?_
  refine lw_sl hx hb hX hbl hS (i := 4 * j + 1) (by omega) hL d_w_law_110 ?_
  refine lv_aload_n hx hb d_w_law_111 rfl (lv_at hl 1 rfl) ?_
  refine lw_ch (n := 3) (As := [.ref (ol_h G), .int (xs (4 * j + 1)), .ref qo]) (rest := []) F hOH ml_w_43 sm_w_behind k_w_behind in_w (by decide +kernel) (by decide) hW hS hl.1 rfl rfl (Nat.le_of_ble_eq_true rfl) d_w_law_112 hc hs (fun u g H locs b9 Z9 hp9 hb9 hO hW hS => ?_)
  refine lv_istore (lv' := [(5, .int (nI k)), (4, .int (nI (4 * j))), (3, .ref qo), (2, .ref (om_h B)), (1, .ref (ol_h G)), (0, .ref b)]) hx hb d_w_law_115 hl (by decide) rfl (fun ls hl => ?_)
  refine lv_aload_n hx hb d_w_law_117 rfl (lv_at hl 3 rfl) ?_
  refine lv_aload_n hx hb d_w_law_118 rfl (lv_at hl 5 rfl) ?_
  refine lv_iload hx hb d_w_law_119 (lv_at hl 1 rfl) ?_
  refine lv_iconst (v := (nI 1)) hx hb d_w_law_121 (by decide) ?_
  refine lv_iadd hx hb d_w_law_122 ?_
  refine tp_i (nI ((4 * j) + 1)) (nI_add _ _) ?_
  refine lw_sl hx hb hX hbl hS (i := 4 * j + 1) (by omega) hL d_w_law_123 ?_
  refine lw_cm (n := 1) (As := [.int (xs (4 * j + 1))]) (rest := []) F (hOM b9 Z9 hp9 (Zk.of' hO)) ml_w_48 im_m_behind se_m_behind k_m_behind in_m (by decide +kernel) (by decide) hW hS hl.1 rfl rfl (Nat.le_of_ble_eq_true rfl) d_w_law_124 (by omega) (by omega) (fun r ms H locs hq9 hW hS => ?_)
  obtain ⟨hrb, hth, hM⟩ := hq9
  refine lv_istore (lv' := [(6, .int r), (5, .int (nI k)), (4, .int (nI (4 * j))), (3, .ref qo), (2, .ref (om_h B)), (1, .ref (ol_h G)), (0, .ref b)]) hx hb d_w_law_127 hl (by decide) rfl (fun ls hl => ?_)
  refine lv_aload_n hx hb d_w_law_129 rfl (lv_at hl 4 rfl) ?_
  refine lw_cm (n := 0) (As := []) (rest := []) F (pr_thrown l B hB (Zk.of' hO) hM) ml_w_49 im_m_thrown se_m_thrown k_m_thrown in_m (by decide +kernel) (by decide) hW hS hl.1 rfl rfl (Nat.le_of_ble_eq_true rfl) d_w_law_130 (by omega) (by omega) (fun r2 ms2 H locs hq8 hW hS => ?_)
  obtain ⟨hr2, hms⟩ := hq8
  rw [hms] at hW
  rw [hr2, hth]
  refine lv_iload hx hb d_w_law_133 (lv_at hl 1 rfl) ?_
  refine nb_eq (tgt := 140) hx hb (by omega) (by omega) d_w_law_135 (by decide) (fun q1 => ?_) (fun q1 => ?_)
  · refine lv_iload hx hb d_w_law_140 (lv_at hl 1 rfl) ?_
    refine nz_ne (tgt := 157) hx hb (by omega) d_w_law_142 (by decide) (fun q2 => ?_) (fun q2 => ?_)
    · refine lv_goto (tgt := 763) hx hb d_w_law_157 (by decide) ?_
      exact hN _ _ _ _ _ _ _ hO hM hW hS (lv_sub hl [2, 3, 4, 5, 6] rfl)
    · refine lv_aload_n hx hb d_w_law_145 rfl (lv_at hl 3 rfl) ?_
      refine lv_iconst (v := (nI 0)) hx hb d_w_law_146 (by decide) ?_
      refine va_lald (D := ol_D G) (cl := ol_cl) hx hb hK hW.1 0 2 rfl rfl (vp_in_nI (by decide) (by decide)) d_w_law_147 ?_
      refine tp_l b9.toInt64 (by rw [nI_clamp (by decide)]; exact hb9 q2) ?_
      refine lv_iload hx hb d_w_law_148 (lv_at hl 0 rfl) ?_
      refine lv_i2l (v := b9.toInt64) hx hb d_w_law_150 (by rw [hrb q2]) ?_
      refine lw_leq (tgt := 157) hx hb d_w_law_151 d_w_law_152 (by decide) ?_
      refine lv_goto (tgt := 763) hx hb d_w_law_157 (by decide) ?_
      exact hN _ _ _ _ _ _ _ hO hM hW hS (lv_sub hl [2, 3, 4, 5, 6] rfl)
  · exact absurd rfl q1
set_option maxHeartbeats 4000000 in
set_option maxRecDepth 100000 in
/-- the law's operation several -/
theorem op_several {p : Program} {l : Launch} {e : Env} {s : State} {m : MethodId} {below : List Frame} {meth : Method} {c : Code} {Q : State → Prop} {b L : Nat} {xs : Nat → Int32} {G : OG} {B : MG} {co : ClassId} {qo j cells slots : Nat} (hfl : l.flags = flags0) (F : lw_F p s m #[Value.ref b] c G B co qo) (hX : va_X b L xs s s.heap) (hbl : b < s.heap.size) (hj : 4 * j + 4 ≤ L) (hL : L ≤ 2048) (hc : cells + 1 ≤ 814184) (hs : slots + 6 ≤ 6653552) (hN : lw_N p l e s m b below meth c G B co qo j cells slots Q) {u : OS} {g : Nat → Int64} {ms : MS} {Z : List Nat} {H : Heap} {locs : List Loc} {ls : Array Slot} (hO : Ov u Z) (hM : Mi ms.2.1 ms.2.2.1 Z) (hW : lw_W G B co qo u g ms H) (hS : va_S (fun q : Nat => s.heap.size ≤ q) s.heap H locs) (hl : lv_has ls 7 [(4, .int (nI (4 * j))), (3, .ref qo), (2, .ref (om_h B)), (1, .ref (ol_h G)), (0, .ref b)]) : W p l e room_1 s m #[Value.ref b] below meth c H locs cells slots Q (F0 m 160 ls []) := by
  obtain ⟨⟨hx, hb, hml, hown, hts⟩, hK, hKm, hNs, hTW, hG, hB, ho, hm, hq, hdis⟩ := id F
  obtain ⟨k, hp, hk2, hOH, hOM⟩ := pr_several l hfl G hG B hB (co := co) (qo := qo) (g := g) hq hO hM (xs (4 * j + 1)) (xs (4 * j + 2))
  refine lv_aload_n hx hb d_w_law_160 rfl (lv_at hl 3 rfl) ?_
  refine lv_aload_n hx hb d_w_law_161 rfl (lv_at hl 4 rfl) ?_
  refine lv_iload hx hb d_w_law_162 (lv_at hl 0 rfl) ?_
  refine lv_iconst (v := (nI 1)) hx hb d_w_law_164 (by decide) ?_
  refine lv_iadd hx hb d_w_law_165 ?_
  refine tp_i (nI ((4 * j) + 1)) (nI_add _ _) ?_
  refine lw_sl hx hb hX hbl hS (i := 4 * j + 1) (by omega) hL d_w_law_166 ?_
  refine lv_aload_n hx hb d_w_law_167 rfl (lv_at hl 4 rfl) ?_
  refine lv_iload hx hb d_w_law_168 (lv_at hl 0 rfl) ?_
  refine lv_iconst (v := (nI 2)) hx hb d_w_law_170 (by decide) ?_
  refine lv_iadd hx hb d_w_law_171 ?_
  refine tp_i (nI ((4 * j) + 2)) (nI_add _ _) ?_
  refine lw_sl hx hb hX hbl hS (i := 4 * j + 2) (by omega) hL d_w_law_172 ?_
  refine lv_aload_n hx hb d_w_law_173 rfl (lv_at hl 1 rfl) ?_
  refine lw_ch (n := 4) (As := [.ref (ol_h G), .int (xs (4 * j + 1)), .int (xs (4 * j + 2)), .ref qo]) (rest := []) F hOH ml_w_53 sm_w_several k_w_several in_w (by decide +kernel) (by decide) hW hS hl.1 rfl rfl (Nat.le_of_ble_eq_true rfl) d_w_law_174 hc hs (fun u g H locs b9 Z9 hp9 hb9 hO hW hS => ?_)
  refine lv_istore (lv' := [(5, .int (nI k)), (4, .int (nI (4 * j))), (3, .ref qo), (2, .ref (om_h B)), (1, .ref (ol_h G)), (0, .ref b)]) hx hb d_w_law_177 hl (by decide) rfl (fun ls hl => ?_)
  refine lv_aload_n hx hb d_w_law_179 rfl (lv_at hl 3 rfl) ?_
  refine lv_aload_n hx hb d_w_law_180 rfl (lv_at hl 5 rfl) ?_
  refine lv_iload hx hb d_w_law_181 (lv_at hl 1 rfl) ?_
  refine lv_iconst (v := (nI 1)) hx hb d_w_law_183 (by decide) ?_
  refine lv_iadd hx hb d_w_law_184 ?_
  refine tp_i (nI ((4 * j) + 1)) (nI_add _ _) ?_
  refine lw_sl hx hb hX hbl hS (i := 4 * j + 1) (by omega) hL d_w_law_185 ?_
  refine lv_aload_n hx hb d_w_law_186 rfl (lv_at hl 5 rfl) ?_
  refine lv_iload hx hb d_w_law_187 (lv_at hl 1 rfl) ?_
  refine lv_iconst (v := (nI 2)) hx hb d_w_law_189 (by decide) ?_
  refine lv_iadd hx hb d_w_law_190 ?_
  refine tp_i (nI ((4 * j) + 2)) (nI_add _ _) ?_
  refine lw_sl hx hb hX hbl hS (i := 4 * j + 2) (by omega) hL d_w_law_191 ?_
  refine lw_cm (n := 2) (As := [.int (xs (4 * j + 1)), .int (xs (4 * j + 2))]) (rest := []) F (hOM b9 Z9 hp9 (Zk.of' hO)) ml_w_56 im_m_several se_m_several k_m_several in_m (by decide +kernel) (by decide) hW hS hl.1 rfl rfl (Nat.le_of_ble_eq_true rfl) d_w_law_192 (by omega) (by omega) (fun r ms H locs hq9 hW hS => ?_)
  obtain ⟨hrb, hth, hM⟩ := hq9
  refine lv_istore (lv' := [(6, .int r), (5, .int (nI k)), (4, .int (nI (4 * j))), (3, .ref qo), (2, .ref (om_h B)), (1, .ref (ol_h G)), (0, .ref b)]) hx hb d_w_law_195 hl (by decide) rfl (fun ls hl => ?_)
  refine lv_aload_n hx hb d_w_law_197 rfl (lv_at hl 4 rfl) ?_
  refine lw_cm (n := 0) (As := []) (rest := []) F (pr_thrown l B hB (Zk.of' hO) hM) ml_w_49 im_m_thrown se_m_thrown k_m_thrown in_m (by decide +kernel) (by decide) hW hS hl.1 rfl rfl (Nat.le_of_ble_eq_true rfl) d_w_law_198 (by omega) (by omega) (fun r2 ms2 H locs hq8 hW hS => ?_)
  obtain ⟨hr2, hms⟩ := hq8
  rw [hms] at hW
  rw [hr2, hth]
  refine lv_iload hx hb d_w_law_201 (lv_at hl 1 rfl) ?_
  refine nb_eq (tgt := 208) hx hb (by omega) (by omega) d_w_law_203 (by decide) (fun q1 => ?_) (fun q1 => ?_)
  · refine lv_iload hx hb d_w_law_208 (lv_at hl 1 rfl) ?_
    refine nz_ne (tgt := 225) hx hb (by omega) d_w_law_210 (by decide) (fun q2 => ?_) (fun q2 => ?_)
    · refine lv_goto (tgt := 763) hx hb d_w_law_225 (by decide) ?_
      exact hN _ _ _ _ _ _ _ hO hM hW hS (lv_sub hl [2, 3, 4, 5, 6] rfl)
    · refine lv_aload_n hx hb d_w_law_213 rfl (lv_at hl 3 rfl) ?_
      refine lv_iconst (v := (nI 0)) hx hb d_w_law_214 (by decide) ?_
      refine va_lald (D := ol_D G) (cl := ol_cl) hx hb hK hW.1 0 2 rfl rfl (vp_in_nI (by decide) (by decide)) d_w_law_215 ?_
      refine tp_l b9.toInt64 (by rw [nI_clamp (by decide)]; exact hb9 q2) ?_
      refine lv_iload hx hb d_w_law_216 (lv_at hl 0 rfl) ?_
      refine lv_i2l (v := b9.toInt64) hx hb d_w_law_218 (by rw [hrb q2]) ?_
      refine lw_leq (tgt := 225) hx hb d_w_law_219 d_w_law_220 (by decide) ?_
      refine lv_goto (tgt := 763) hx hb d_w_law_225 (by decide) ?_
      exact hN _ _ _ _ _ _ _ hO hM hW hS (lv_sub hl [2, 3, 4, 5, 6] rfl)
  · exact absurd rfl q1
set_option maxHeartbeats 4000000 in
set_option maxRecDepth 100000 in
/-- the law's operation clear -/
theorem op_clear {p : Program} {l : Launch} {e : Env} {s : State} {m : MethodId} {below : List Frame} {meth : Method} {c : Code} {Q : State → Prop} {b L : Nat} {xs : Nat → Int32} {G : OG} {B : MG} {co : ClassId} {qo j cells slots : Nat} (hfl : l.flags = flags0) (F : lw_F p s m #[Value.ref b] c G B co qo) (hX : va_X b L xs s s.heap) (hbl : b < s.heap.size) (hj : 4 * j + 4 ≤ L) (hL : L ≤ 2048) (hc : cells + 1 ≤ 814184) (hs : slots + 6 ≤ 6653552) (hN : lw_N p l e s m b below meth c G B co qo j cells slots Q) {u : OS} {g : Nat → Int64} {ms : MS} {Z : List Nat} {H : Heap} {locs : List Loc} {ls : Array Slot} (hO : Ov u Z) (hM : Mi ms.2.1 ms.2.2.1 Z) (hW : lw_W G B co qo u g ms H) (hS : va_S (fun q : Nat => s.heap.size ≤ q) s.heap H locs) (hl : lv_has ls 7 [(4, .int (nI (4 * j))), (3, .ref qo), (2, .ref (om_h B)), (1, .ref (ol_h G)), (0, .ref b)]) : W p l e room_1 s m #[Value.ref b] below meth c H locs cells slots Q (F0 m 253 ls []) := by
  obtain ⟨⟨hx, hb, hml, hown, hts⟩, hK, hKm, hNs, hTW, hG, hB, ho, hm, hq, hdis⟩ := id F
  obtain ⟨k, hp, hk2, hOH, hOM⟩ := pr_clear l hfl G hG B hB (co := co) (qo := qo) (g := g) hq hO hM (xs (4 * j + 1)) (xs (4 * j + 2))
  refine lv_aload_n hx hb d_w_law_253 rfl (lv_at hl 3 rfl) ?_
  refine lv_aload_n hx hb d_w_law_254 rfl (lv_at hl 4 rfl) ?_
  refine lv_iload hx hb d_w_law_255 (lv_at hl 0 rfl) ?_
  refine lv_iconst (v := (nI 1)) hx hb d_w_law_257 (by decide) ?_
  refine lv_iadd hx hb d_w_law_258 ?_
  refine tp_i (nI ((4 * j) + 1)) (nI_add _ _) ?_
  refine lw_sl hx hb hX hbl hS (i := 4 * j + 1) (by omega) hL d_w_law_259 ?_
  refine lv_aload_n hx hb d_w_law_260 rfl (lv_at hl 4 rfl) ?_
  refine lv_iload hx hb d_w_law_261 (lv_at hl 0 rfl) ?_
  refine lv_iconst (v := (nI 2)) hx hb d_w_law_263 (by decide) ?_
  refine lv_iadd hx hb d_w_law_264 ?_
  refine tp_i (nI ((4 * j) + 2)) (nI_add _ _) ?_
  refine lw_sl hx hb hX hbl hS (i := 4 * j + 2) (by omega) hL d_w_law_265 ?_
  refine lv_aload_n hx hb d_w_law_266 rfl (lv_at hl 1 rfl) ?_
  refine lw_ch (n := 4) (As := [.ref (ol_h G), .int (xs (4 * j + 1)), .int (xs (4 * j + 2)), .ref qo]) (rest := []) F hOH ml_w_62 sm_w_clear k_w_clear in_w (by decide +kernel) (by decide) hW hS hl.1 rfl rfl (Nat.le_of_ble_eq_true rfl) d_w_law_267 hc hs (fun u g H locs b9 Z9 hp9 hb9 hO hW hS => ?_)
  refine lv_istore (lv' := [(5, .int (nI k)), (4, .int (nI (4 * j))), (3, .ref qo), (2, .ref (om_h B)), (1, .ref (ol_h G)), (0, .ref b)]) hx hb d_w_law_270 hl (by decide) rfl (fun ls hl => ?_)
  refine lv_aload_n hx hb d_w_law_272 rfl (lv_at hl 3 rfl) ?_
  refine lv_aload_n hx hb d_w_law_273 rfl (lv_at hl 5 rfl) ?_
  refine lv_iload hx hb d_w_law_274 (lv_at hl 1 rfl) ?_
  refine lv_iconst (v := (nI 1)) hx hb d_w_law_276 (by decide) ?_
  refine lv_iadd hx hb d_w_law_277 ?_
  refine tp_i (nI ((4 * j) + 1)) (nI_add _ _) ?_
  refine lw_sl hx hb hX hbl hS (i := 4 * j + 1) (by omega) hL d_w_law_278 ?_
  refine lv_aload_n hx hb d_w_law_279 rfl (lv_at hl 5 rfl) ?_
  refine lv_iload hx hb d_w_law_280 (lv_at hl 1 rfl) ?_
  refine lv_iconst (v := (nI 2)) hx hb d_w_law_282 (by decide) ?_
  refine lv_iadd hx hb d_w_law_283 ?_
  refine tp_i (nI ((4 * j) + 2)) (nI_add _ _) ?_
  refine lw_sl hx hb hX hbl hS (i := 4 * j + 2) (by omega) hL d_w_law_284 ?_
  refine lw_cm (n := 2) (As := [.int (xs (4 * j + 1)), .int (xs (4 * j + 2))]) (rest := []) F (hOM b9 Z9 hp9 (Zk.of' hO)) ml_w_64 im_m_clear se_m_clear k_m_clear in_m (by decide +kernel) (by decide) hW hS hl.1 rfl rfl (Nat.le_of_ble_eq_true rfl) d_w_law_285 (by omega) (by omega) (fun r ms H locs hq9 hW hS => ?_)
  obtain ⟨hrb, hth, hM⟩ := hq9
  refine lv_istore (lv' := [(6, .int r), (5, .int (nI k)), (4, .int (nI (4 * j))), (3, .ref qo), (2, .ref (om_h B)), (1, .ref (ol_h G)), (0, .ref b)]) hx hb d_w_law_288 hl (by decide) rfl (fun ls hl => ?_)
  refine lv_aload_n hx hb d_w_law_290 rfl (lv_at hl 4 rfl) ?_
  refine lw_cm (n := 0) (As := []) (rest := []) F (pr_thrown l B hB (Zk.of' hO) hM) ml_w_49 im_m_thrown se_m_thrown k_m_thrown in_m (by decide +kernel) (by decide) hW hS hl.1 rfl rfl (Nat.le_of_ble_eq_true rfl) d_w_law_291 (by omega) (by omega) (fun r2 ms2 H locs hq8 hW hS => ?_)
  obtain ⟨hr2, hms⟩ := hq8
  rw [hms] at hW
  rw [hr2, hth]
  refine lv_iload hx hb d_w_law_294 (lv_at hl 1 rfl) ?_
  refine nb_eq (tgt := 301) hx hb (by omega) (by omega) d_w_law_296 (by decide) (fun q1 => ?_) (fun q1 => ?_)
  · refine lv_iload hx hb d_w_law_301 (lv_at hl 1 rfl) ?_
    refine nz_ne (tgt := 318) hx hb (by omega) d_w_law_303 (by decide) (fun q2 => ?_) (fun q2 => ?_)
    · refine lv_goto (tgt := 763) hx hb d_w_law_318 (by decide) ?_
      exact hN _ _ _ _ _ _ _ hO hM hW hS (lv_sub hl [2, 3, 4, 5, 6] rfl)
    · refine lv_aload_n hx hb d_w_law_306 rfl (lv_at hl 3 rfl) ?_
      refine lv_iconst (v := (nI 0)) hx hb d_w_law_307 (by decide) ?_
      refine va_lald (D := ol_D G) (cl := ol_cl) hx hb hK hW.1 0 2 rfl rfl (vp_in_nI (by decide) (by decide)) d_w_law_308 ?_
      refine tp_l b9.toInt64 (by rw [nI_clamp (by decide)]; exact hb9 q2) ?_
      refine lv_iload hx hb d_w_law_309 (lv_at hl 0 rfl) ?_
      refine lv_i2l (v := b9.toInt64) hx hb d_w_law_311 (by rw [hrb q2]) ?_
      refine lw_leq (tgt := 318) hx hb d_w_law_312 d_w_law_313 (by decide) ?_
      refine lv_goto (tgt := 763) hx hb d_w_law_318 (by decide) ?_
      exact hN _ _ _ _ _ _ _ hO hM hW hS (lv_sub hl [2, 3, 4, 5, 6] rfl)
  · exact absurd rfl q1
set_option maxHeartbeats 4000000 in
set_option maxRecDepth 100000 in
/-- the law's operation carry -/
theorem op_carry {p : Program} {l : Launch} {e : Env} {s : State} {m : MethodId} {below : List Frame} {meth : Method} {c : Code} {Q : State → Prop} {b L : Nat} {xs : Nat → Int32} {G : OG} {B : MG} {co : ClassId} {qo j cells slots : Nat} (hfl : l.flags = flags0) (F : lw_F p s m #[Value.ref b] c G B co qo) (hX : va_X b L xs s s.heap) (hbl : b < s.heap.size) (hj : 4 * j + 4 ≤ L) (hL : L ≤ 2048) (hc : cells + 1 ≤ 814184) (hs : slots + 6 ≤ 6653552) (hN : lw_N p l e s m b below meth c G B co qo j cells slots Q) {u : OS} {g : Nat → Int64} {ms : MS} {Z : List Nat} {H : Heap} {locs : List Loc} {ls : Array Slot} (hO : Ov u Z) (hM : Mi ms.2.1 ms.2.2.1 Z) (hW : lw_W G B co qo u g ms H) (hS : va_S (fun q : Nat => s.heap.size ≤ q) s.heap H locs) (hl : lv_has ls 7 [(4, .int (nI (4 * j))), (3, .ref qo), (2, .ref (om_h B)), (1, .ref (ol_h G)), (0, .ref b)]) : W p l e room_1 s m #[Value.ref b] below meth c H locs cells slots Q (F0 m 321 ls []) := by
  obtain ⟨⟨hx, hb, hml, hown, hts⟩, hK, hKm, hNs, hTW, hG, hB, ho, hm, hq, hdis⟩ := id F
  obtain ⟨k, hp, hk2, hOH, hOM⟩ := pr_carry l hfl G hG B hB (co := co) (qo := qo) (g := g) hq hO hM (xs (4 * j + 1)) (xs (4 * j + 2)) (xs (4 * j + 3))
  refine lv_aload_n hx hb d_w_law_321 rfl (lv_at hl 3 rfl) ?_
  refine lv_aload_n hx hb d_w_law_322 rfl (lv_at hl 4 rfl) ?_
  refine lv_iload hx hb d_w_law_323 (lv_at hl 0 rfl) ?_
  refine lv_iconst (v := (nI 1)) hx hb d_w_law_325 (by decide) ?_
  refine lv_iadd hx hb d_w_law_326 ?_
  refine tp_i (nI ((4 * j) + 1)) (nI_add _ _) ?_
  refine lw_sl hx hb hX hbl hS (i := 4 * j + 1) (by omega) hL d_w_law_327 ?_
  refine lv_aload_n hx hb d_w_law_328 rfl (lv_at hl 4 rfl) ?_
  refine lv_iload hx hb d_w_law_329 (lv_at hl 0 rfl) ?_
  refine lv_iconst (v := (nI 2)) hx hb d_w_law_331 (by decide) ?_
  refine lv_iadd hx hb d_w_law_332 ?_
  refine tp_i (nI ((4 * j) + 2)) (nI_add _ _) ?_
  refine lw_sl hx hb hX hbl hS (i := 4 * j + 2) (by omega) hL d_w_law_333 ?_
  refine lv_aload_n hx hb d_w_law_334 rfl (lv_at hl 4 rfl) ?_
  refine lv_iload hx hb d_w_law_335 (lv_at hl 0 rfl) ?_
  refine lv_iconst (v := (nI 3)) hx hb d_w_law_337 (by decide) ?_
  refine lv_iadd hx hb d_w_law_338 ?_
  refine tp_i (nI ((4 * j) + 3)) (nI_add _ _) ?_
  refine lw_sl hx hb hX hbl hS (i := 4 * j + 3) (by omega) hL d_w_law_339 ?_
  refine lv_aload_n hx hb d_w_law_340 rfl (lv_at hl 1 rfl) ?_
  refine lw_ch (n := 5) (As := [.ref (ol_h G), .int (xs (4 * j + 1)), .int (xs (4 * j + 2)), .int (xs (4 * j + 3)), .ref qo]) (rest := []) F hOH ml_w_65 sm_w_carry k_w_carry in_w (by decide +kernel) (by decide) hW hS hl.1 rfl rfl (Nat.le_of_ble_eq_true rfl) d_w_law_341 hc hs (fun u g H locs b9 Z9 hp9 hb9 hO hW hS => ?_)
  refine lv_istore (lv' := [(5, .int (nI k)), (4, .int (nI (4 * j))), (3, .ref qo), (2, .ref (om_h B)), (1, .ref (ol_h G)), (0, .ref b)]) hx hb d_w_law_344 hl (by decide) rfl (fun ls hl => ?_)
  refine lv_aload_n hx hb d_w_law_346 rfl (lv_at hl 3 rfl) ?_
  refine lv_aload_n hx hb d_w_law_347 rfl (lv_at hl 5 rfl) ?_
  refine lv_iload hx hb d_w_law_348 (lv_at hl 1 rfl) ?_
  refine lv_iconst (v := (nI 1)) hx hb d_w_law_350 (by decide) ?_
  refine lv_iadd hx hb d_w_law_351 ?_
  refine tp_i (nI ((4 * j) + 1)) (nI_add _ _) ?_
  refine lw_sl hx hb hX hbl hS (i := 4 * j + 1) (by omega) hL d_w_law_352 ?_
  refine lv_aload_n hx hb d_w_law_353 rfl (lv_at hl 5 rfl) ?_
  refine lv_iload hx hb d_w_law_354 (lv_at hl 1 rfl) ?_
  refine lv_iconst (v := (nI 2)) hx hb d_w_law_356 (by decide) ?_
  refine lv_iadd hx hb d_w_law_357 ?_
  refine tp_i (nI ((4 * j) + 2)) (nI_add _ _) ?_
  refine lw_sl hx hb hX hbl hS (i := 4 * j + 2) (by omega) hL d_w_law_358 ?_
  refine lv_aload_n hx hb d_w_law_359 rfl (lv_at hl 5 rfl) ?_
  refine lv_iload hx hb d_w_law_360 (lv_at hl 1 rfl) ?_
  refine lv_iconst (v := (nI 3)) hx hb d_w_law_362 (by decide) ?_
  refine lv_iadd hx hb d_w_law_363 ?_
  refine tp_i (nI ((4 * j) + 3)) (nI_add _ _) ?_
  refine lw_sl hx hb hX hbl hS (i := 4 * j + 3) (by omega) hL d_w_law_364 ?_
  refine lw_cm (n := 3) (As := [.int (xs (4 * j + 1)), .int (xs (4 * j + 2)), .int (xs (4 * j + 3))]) (rest := []) F (hOM b9 Z9 hp9 (Zk.of' hO)) ml_w_68 im_m_carry se_m_carry k_m_carry in_m (by decide +kernel) (by decide) hW hS hl.1 rfl rfl (Nat.le_of_ble_eq_true rfl) d_w_law_365 (by omega) (by omega) (fun r ms H locs hq9 hW hS => ?_)
  obtain ⟨hrb, hth, hM⟩ := hq9
  refine lv_istore (lv' := [(6, .int r), (5, .int (nI k)), (4, .int (nI (4 * j))), (3, .ref qo), (2, .ref (om_h B)), (1, .ref (ol_h G)), (0, .ref b)]) hx hb d_w_law_368 hl (by decide) rfl (fun ls hl => ?_)
  refine lv_aload_n hx hb d_w_law_370 rfl (lv_at hl 4 rfl) ?_
  refine lw_cm (n := 0) (As := []) (rest := []) F (pr_thrown l B hB (Zk.of' hO) hM) ml_w_49 im_m_thrown se_m_thrown k_m_thrown in_m (by decide +kernel) (by decide) hW hS hl.1 rfl rfl (Nat.le_of_ble_eq_true rfl) d_w_law_371 (by omega) (by omega) (fun r2 ms2 H locs hq8 hW hS => ?_)
  obtain ⟨hr2, hms⟩ := hq8
  rw [hms] at hW
  rw [hr2, hth]
  refine lv_iload hx hb d_w_law_374 (lv_at hl 1 rfl) ?_
  refine nb_eq (tgt := 381) hx hb (by omega) (by omega) d_w_law_376 (by decide) (fun q1 => ?_) (fun q1 => ?_)
  · refine lv_iload hx hb d_w_law_381 (lv_at hl 1 rfl) ?_
    refine nz_ne (tgt := 398) hx hb (by omega) d_w_law_383 (by decide) (fun q2 => ?_) (fun q2 => ?_)
    · refine lv_goto (tgt := 763) hx hb d_w_law_398 (by decide) ?_
      exact hN _ _ _ _ _ _ _ hO hM hW hS (lv_sub hl [2, 3, 4, 5, 6] rfl)
    · refine lv_aload_n hx hb d_w_law_386 rfl (lv_at hl 3 rfl) ?_
      refine lv_iconst (v := (nI 0)) hx hb d_w_law_387 (by decide) ?_
      refine va_lald (D := ol_D G) (cl := ol_cl) hx hb hK hW.1 0 2 rfl rfl (vp_in_nI (by decide) (by decide)) d_w_law_388 ?_
      refine tp_l b9.toInt64 (by rw [nI_clamp (by decide)]; exact hb9 q2) ?_
      refine lv_iload hx hb d_w_law_389 (lv_at hl 0 rfl) ?_
      refine lv_i2l (v := b9.toInt64) hx hb d_w_law_391 (by rw [hrb q2]) ?_
      refine lw_leq (tgt := 398) hx hb d_w_law_392 d_w_law_393 (by decide) ?_
      refine lv_goto (tgt := 763) hx hb d_w_law_398 (by decide) ?_
      exact hN _ _ _ _ _ _ _ hO hM hW hS (lv_sub hl [2, 3, 4, 5, 6] rfl)
  · exact absurd rfl q1
set_option maxHeartbeats 4000000 in
set_option maxRecDepth 100000 in
/-- the law's operation compare -/
theorem op_compare {p : Program} {l : Launch} {e : Env} {s : State} {m : MethodId} {below : List Frame} {meth : Method} {c : Code} {Q : State → Prop} {b L : Nat} {xs : Nat → Int32} {G : OG} {B : MG} {co : ClassId} {qo j cells slots : Nat} (hfl : l.flags = flags0) (F : lw_F p s m #[Value.ref b] c G B co qo) (hX : va_X b L xs s s.heap) (hbl : b < s.heap.size) (hj : 4 * j + 4 ≤ L) (hL : L ≤ 2048) (hc : cells + 1 ≤ 814184) (hs : slots + 6 ≤ 6653552) (hN : lw_N p l e s m b below meth c G B co qo j cells slots Q) {u : OS} {g : Nat → Int64} {ms : MS} {Z : List Nat} {H : Heap} {locs : List Loc} {ls : Array Slot} (hO : Ov u Z) (hM : Mi ms.2.1 ms.2.2.1 Z) (hW : lw_W G B co qo u g ms H) (hS : va_S (fun q : Nat => s.heap.size ≤ q) s.heap H locs) (hl : lv_has ls 7 [(4, .int (nI (4 * j))), (3, .ref qo), (2, .ref (om_h B)), (1, .ref (ol_h G)), (0, .ref b)]) : W p l e room_1 s m #[Value.ref b] below meth c H locs cells slots Q (F0 m 401 ls []) := by
  obtain ⟨⟨hx, hb, hml, hown, hts⟩, hK, hKm, hNs, hTW, hG, hB, ho, hm, hq, hdis⟩ := id F
  obtain ⟨k, hp, hk2, hOH, hOM⟩ := pr_compare l hfl G hG B hB (co := co) (qo := qo) (g := g) hq hO hM (xs (4 * j + 1)) (xs (4 * j + 2))
  refine lv_aload_n hx hb d_w_law_401 rfl (lv_at hl 3 rfl) ?_
  refine lv_aload_n hx hb d_w_law_402 rfl (lv_at hl 4 rfl) ?_
  refine lv_iload hx hb d_w_law_403 (lv_at hl 0 rfl) ?_
  refine lv_iconst (v := (nI 1)) hx hb d_w_law_405 (by decide) ?_
  refine lv_iadd hx hb d_w_law_406 ?_
  refine tp_i (nI ((4 * j) + 1)) (nI_add _ _) ?_
  refine lw_sl hx hb hX hbl hS (i := 4 * j + 1) (by omega) hL d_w_law_407 ?_
  refine lv_aload_n hx hb d_w_law_408 rfl (lv_at hl 4 rfl) ?_
  refine lv_iload hx hb d_w_law_409 (lv_at hl 0 rfl) ?_
  refine lv_iconst (v := (nI 2)) hx hb d_w_law_411 (by decide) ?_
  refine lv_iadd hx hb d_w_law_412 ?_
  refine tp_i (nI ((4 * j) + 2)) (nI_add _ _) ?_
  refine lw_sl hx hb hX hbl hS (i := 4 * j + 2) (by omega) hL d_w_law_413 ?_
  refine lv_aload_n hx hb d_w_law_414 rfl (lv_at hl 1 rfl) ?_
  refine lw_ch (n := 4) (As := [.ref (ol_h G), .int (xs (4 * j + 1)), .int (xs (4 * j + 2)), .ref qo]) (rest := []) F hOH ml_w_69 sm_w_compare k_w_compare in_w (by decide +kernel) (by decide) hW hS hl.1 rfl rfl (Nat.le_of_ble_eq_true rfl) d_w_law_415 hc hs (fun u g H locs b9 Z9 hp9 hb9 hO hW hS => ?_)
  refine lv_istore (lv' := [(5, .int (nI k)), (4, .int (nI (4 * j))), (3, .ref qo), (2, .ref (om_h B)), (1, .ref (ol_h G)), (0, .ref b)]) hx hb d_w_law_418 hl (by decide) rfl (fun ls hl => ?_)
  refine lv_aload_n hx hb d_w_law_420 rfl (lv_at hl 3 rfl) ?_
  refine lv_aload_n hx hb d_w_law_421 rfl (lv_at hl 5 rfl) ?_
  refine lv_iload hx hb d_w_law_422 (lv_at hl 1 rfl) ?_
  refine lv_iconst (v := (nI 1)) hx hb d_w_law_424 (by decide) ?_
  refine lv_iadd hx hb d_w_law_425 ?_
  refine tp_i (nI ((4 * j) + 1)) (nI_add _ _) ?_
  refine lw_sl hx hb hX hbl hS (i := 4 * j + 1) (by omega) hL d_w_law_426 ?_
  refine lv_aload_n hx hb d_w_law_427 rfl (lv_at hl 5 rfl) ?_
  refine lv_iload hx hb d_w_law_428 (lv_at hl 1 rfl) ?_
  refine lv_iconst (v := (nI 2)) hx hb d_w_law_430 (by decide) ?_
  refine lv_iadd hx hb d_w_law_431 ?_
  refine tp_i (nI ((4 * j) + 2)) (nI_add _ _) ?_
  refine lw_sl hx hb hX hbl hS (i := 4 * j + 2) (by omega) hL d_w_law_432 ?_
  refine lw_cm (n := 2) (As := [.int (xs (4 * j + 1)), .int (xs (4 * j + 2))]) (rest := []) F (hOM b9 Z9 hp9 (Zk.of' hO)) ml_w_71 im_m_compare se_m_compare k_m_compare in_m (by decide +kernel) (by decide) hW hS hl.1 rfl rfl (Nat.le_of_ble_eq_true rfl) d_w_law_433 (by omega) (by omega) (fun r ms H locs hq9 hW hS => ?_)
  obtain ⟨hrb, hth, hM⟩ := hq9
  refine lv_istore (lv' := [(6, .int r), (5, .int (nI k)), (4, .int (nI (4 * j))), (3, .ref qo), (2, .ref (om_h B)), (1, .ref (ol_h G)), (0, .ref b)]) hx hb d_w_law_436 hl (by decide) rfl (fun ls hl => ?_)
  refine lv_aload_n hx hb d_w_law_438 rfl (lv_at hl 4 rfl) ?_
  refine lw_cm (n := 0) (As := []) (rest := []) F (pr_thrown l B hB (Zk.of' hO) hM) ml_w_49 im_m_thrown se_m_thrown k_m_thrown in_m (by decide +kernel) (by decide) hW hS hl.1 rfl rfl (Nat.le_of_ble_eq_true rfl) d_w_law_439 (by omega) (by omega) (fun r2 ms2 H locs hq8 hW hS => ?_)
  obtain ⟨hr2, hms⟩ := hq8
  rw [hms] at hW
  rw [hr2, hth]
  refine lv_iload hx hb d_w_law_442 (lv_at hl 1 rfl) ?_
  refine nb_eq (tgt := 449) hx hb (by omega) (by omega) d_w_law_444 (by decide) (fun q1 => ?_) (fun q1 => ?_)
  · refine lv_iload hx hb d_w_law_449 (lv_at hl 1 rfl) ?_
    refine nz_ne (tgt := 466) hx hb (by omega) d_w_law_451 (by decide) (fun q2 => ?_) (fun q2 => ?_)
    · refine lv_goto (tgt := 763) hx hb d_w_law_466 (by decide) ?_
      exact hN _ _ _ _ _ _ _ hO hM hW hS (lv_sub hl [2, 3, 4, 5, 6] rfl)
    · refine lv_aload_n hx hb d_w_law_454 rfl (lv_at hl 3 rfl) ?_
      refine lv_iconst (v := (nI 0)) hx hb d_w_law_455 (by decide) ?_
      refine va_lald (D := ol_D G) (cl := ol_cl) hx hb hK hW.1 0 2 rfl rfl (vp_in_nI (by decide) (by decide)) d_w_law_456 ?_
      refine tp_l b9.toInt64 (by rw [nI_clamp (by decide)]; exact hb9 q2) ?_
      refine lv_iload hx hb d_w_law_457 (lv_at hl 0 rfl) ?_
      refine lv_i2l (v := b9.toInt64) hx hb d_w_law_459 (by rw [hrb q2]) ?_
      refine lw_leq (tgt := 466) hx hb d_w_law_460 d_w_law_461 (by decide) ?_
      refine lv_goto (tgt := 763) hx hb d_w_law_466 (by decide) ?_
      exact hN _ _ _ _ _ _ _ hO hM hW hS (lv_sub hl [2, 3, 4, 5, 6] rfl)
  · exact absurd rfl q1
set_option maxHeartbeats 4000000 in
set_option maxRecDepth 100000 in
/-- the law's operation place -/
theorem op_place {p : Program} {l : Launch} {e : Env} {s : State} {m : MethodId} {below : List Frame} {meth : Method} {c : Code} {Q : State → Prop} {b L : Nat} {xs : Nat → Int32} {G : OG} {B : MG} {co : ClassId} {qo j cells slots : Nat} (hfl : l.flags = flags0) (F : lw_F p s m #[Value.ref b] c G B co qo) (hX : va_X b L xs s s.heap) (hbl : b < s.heap.size) (hj : 4 * j + 4 ≤ L) (hL : L ≤ 2048) (hc : cells + 1 ≤ 814184) (hs : slots + 6 ≤ 6653552) (hN : lw_N p l e s m b below meth c G B co qo j cells slots Q) {u : OS} {g : Nat → Int64} {ms : MS} {Z : List Nat} {H : Heap} {locs : List Loc} {ls : Array Slot} (hO : Ov u Z) (hM : Mi ms.2.1 ms.2.2.1 Z) (hW : lw_W G B co qo u g ms H) (hS : va_S (fun q : Nat => s.heap.size ≤ q) s.heap H locs) (hl : lv_has ls 7 [(4, .int (nI (4 * j))), (3, .ref qo), (2, .ref (om_h B)), (1, .ref (ol_h G)), (0, .ref b)]) : W p l e room_1 s m #[Value.ref b] below meth c H locs cells slots Q (F0 m 578 ls []) := by
  obtain ⟨⟨hx, hb, hml, hown, hts⟩, hK, hKm, hNs, hTW, hG, hB, ho, hm, hq, hdis⟩ := id F
  obtain ⟨k, hp, hk2, hOH, hOM⟩ := pr_place l hfl G hG B hB (co := co) (qo := qo) (g := g) hq hO hM (xs (4 * j + 1))
  refine lv_aload_n hx hb d_w_law_578 rfl (lv_at hl 3 rfl) ?_
  refine lv_aload_n hx hb d_w_law_579 rfl (lv_at hl 4 rfl) ?_
  refine lv_iload hx hb d_w_law_580 (lv_at hl 0 rfl) ?_
  refine lv_iconst (v := (nI 1)) hx hb d_w_law_582 (by decide) ?_
  refine lv_iadd hx hb d_w_law_583 ?_
  refine tp_i (nI ((4 * j) + 1)) (nI_add _ _) ?_
  refine lw_sl hx hb hX hbl hS (i := 4 * j + 1) (by omega) hL d_w_law_584 ?_
  refine lv_aload_n hx hb d_w_law_585 rfl (lv_at hl 1 rfl) ?_
  refine lw_ch (n := 3) (As := [.ref (ol_h G), .int (xs (4 * j + 1)), .ref qo]) (rest := []) F hOH ml_w_80 sm_w_place k_w_place in_w (by decide +kernel) (by decide) hW hS hl.1 rfl rfl (Nat.le_of_ble_eq_true rfl) d_w_law_586 hc hs (fun u g H locs b9 Z9 hp9 hb9 hO hW hS => ?_)
  refine lv_istore (lv' := [(5, .int (nI k)), (4, .int (nI (4 * j))), (3, .ref qo), (2, .ref (om_h B)), (1, .ref (ol_h G)), (0, .ref b)]) hx hb d_w_law_589 hl (by decide) rfl (fun ls hl => ?_)
  refine lv_aload_n hx hb d_w_law_591 rfl (lv_at hl 3 rfl) ?_
  refine lv_aload_n hx hb d_w_law_592 rfl (lv_at hl 5 rfl) ?_
  refine lv_iload hx hb d_w_law_593 (lv_at hl 1 rfl) ?_
  refine lv_iconst (v := (nI 1)) hx hb d_w_law_595 (by decide) ?_
  refine lv_iadd hx hb d_w_law_596 ?_
  refine tp_i (nI ((4 * j) + 1)) (nI_add _ _) ?_
  refine lw_sl hx hb hX hbl hS (i := 4 * j + 1) (by omega) hL d_w_law_597 ?_
  refine lw_cm (n := 1) (As := [.int (xs (4 * j + 1))]) (rest := []) F (hOM b9 Z9 hp9 (Zk.of' hO)) ml_w_82 im_m_place se_m_place k_m_place in_m (by decide +kernel) (by decide) hW hS hl.1 rfl rfl (Nat.le_of_ble_eq_true rfl) d_w_law_598 (by omega) (by omega) (fun r ms H locs hq9 hW hS => ?_)
  obtain ⟨hrb, hth, hM⟩ := hq9
  refine lv_istore (lv' := [(6, .int r), (5, .int (nI k)), (4, .int (nI (4 * j))), (3, .ref qo), (2, .ref (om_h B)), (1, .ref (ol_h G)), (0, .ref b)]) hx hb d_w_law_601 hl (by decide) rfl (fun ls hl => ?_)
  refine lv_aload_n hx hb d_w_law_603 rfl (lv_at hl 4 rfl) ?_
  refine lw_cm (n := 0) (As := []) (rest := []) F (pr_thrown l B hB (Zk.of' hO) hM) ml_w_49 im_m_thrown se_m_thrown k_m_thrown in_m (by decide +kernel) (by decide) hW hS hl.1 rfl rfl (Nat.le_of_ble_eq_true rfl) d_w_law_604 (by omega) (by omega) (fun r2 ms2 H locs hq8 hW hS => ?_)
  obtain ⟨hr2, hms⟩ := hq8
  rw [hms] at hW
  rw [hr2, hth]
  refine lv_iload hx hb d_w_law_607 (lv_at hl 1 rfl) ?_
  refine nb_eq (tgt := 614) hx hb (by omega) (by omega) d_w_law_609 (by decide) (fun q1 => ?_) (fun q1 => ?_)
  · refine lv_iload hx hb d_w_law_614 (lv_at hl 1 rfl) ?_
    refine nz_ne (tgt := 631) hx hb (by omega) d_w_law_616 (by decide) (fun q2 => ?_) (fun q2 => ?_)
    · refine lv_goto (tgt := 763) hx hb d_w_law_631 (by decide) ?_
      exact hN _ _ _ _ _ _ _ hO hM hW hS (lv_sub hl [2, 3, 4, 5, 6] rfl)
    · refine lv_aload_n hx hb d_w_law_619 rfl (lv_at hl 3 rfl) ?_
      refine lv_iconst (v := (nI 0)) hx hb d_w_law_620 (by decide) ?_
      refine va_lald (D := ol_D G) (cl := ol_cl) hx hb hK hW.1 0 2 rfl rfl (vp_in_nI (by decide) (by decide)) d_w_law_621 ?_
      refine tp_l b9.toInt64 (by rw [nI_clamp (by decide)]; exact hb9 q2) ?_
      refine lv_iload hx hb d_w_law_622 (lv_at hl 0 rfl) ?_
      refine lv_i2l (v := b9.toInt64) hx hb d_w_law_624 (by rw [hrb q2]) ?_
      refine lw_leq (tgt := 631) hx hb d_w_law_625 d_w_law_626 (by decide) ?_
      refine lv_goto (tgt := 763) hx hb d_w_law_631 (by decide) ?_
      exact hN _ _ _ _ _ _ _ hO hM hW hS (lv_sub hl [2, 3, 4, 5, 6] rfl)
  · exact absurd rfl q1
set_option maxHeartbeats 4000000 in
set_option maxRecDepth 100000 in
/-- the law's operation greatest -/
theorem op_greatest {p : Program} {l : Launch} {e : Env} {s : State} {m : MethodId} {below : List Frame} {meth : Method} {c : Code} {Q : State → Prop} {b L : Nat} {xs : Nat → Int32} {G : OG} {B : MG} {co : ClassId} {qo j cells slots : Nat} (hfl : l.flags = flags0) (F : lw_F p s m #[Value.ref b] c G B co qo) (hX : va_X b L xs s s.heap) (hbl : b < s.heap.size) (hj : 4 * j + 4 ≤ L) (hL : L ≤ 2048) (hc : cells + 1 ≤ 814184) (hs : slots + 6 ≤ 6653552) (hN : lw_N p l e s m b below meth c G B co qo j cells slots Q) {u : OS} {g : Nat → Int64} {ms : MS} {Z : List Nat} {H : Heap} {locs : List Loc} {ls : Array Slot} (hO : Ov u Z) (hM : Mi ms.2.1 ms.2.2.1 Z) (hW : lw_W G B co qo u g ms H) (hS : va_S (fun q : Nat => s.heap.size ≤ q) s.heap H locs) (hl : lv_has ls 7 [(4, .int (nI (4 * j))), (3, .ref qo), (2, .ref (om_h B)), (1, .ref (ol_h G)), (0, .ref b)]) : W p l e room_1 s m #[Value.ref b] below meth c H locs cells slots Q (F0 m 659 ls []) := by
  obtain ⟨⟨hx, hb, hml, hown, hts⟩, hK, hKm, hNs, hTW, hG, hB, ho, hm, hq, hdis⟩ := id F
  obtain ⟨k, hp, hk2, hOH, hOM⟩ := pr_greatest l hfl G hG B hB (co := co) (qo := qo) (g := g) hq hO hM (xs (4 * j + 1)) (xs (4 * j + 2))
  refine lv_aload_n hx hb d_w_law_659 rfl (lv_at hl 3 rfl) ?_
  refine lv_aload_n hx hb d_w_law_660 rfl (lv_at hl 4 rfl) ?_
  refine lv_iload hx hb d_w_law_661 (lv_at hl 0 rfl) ?_
  refine lv_iconst (v := (nI 1)) hx hb d_w_law_663 (by decide) ?_
  refine lv_iadd hx hb d_w_law_664 ?_
  refine tp_i (nI ((4 * j) + 1)) (nI_add _ _) ?_
  refine lw_sl hx hb hX hbl hS (i := 4 * j + 1) (by omega) hL d_w_law_665 ?_
  refine lv_aload_n hx hb d_w_law_666 rfl (lv_at hl 4 rfl) ?_
  refine lv_iload hx hb d_w_law_667 (lv_at hl 0 rfl) ?_
  refine lv_iconst (v := (nI 2)) hx hb d_w_law_669 (by decide) ?_
  refine lv_iadd hx hb d_w_law_670 ?_
  refine tp_i (nI ((4 * j) + 2)) (nI_add _ _) ?_
  refine lw_sl hx hb hX hbl hS (i := 4 * j + 2) (by omega) hL d_w_law_671 ?_
  refine lv_aload_n hx hb d_w_law_672 rfl (lv_at hl 1 rfl) ?_
  refine lw_ch (n := 4) (As := [.ref (ol_h G), .int (xs (4 * j + 1)), .int (xs (4 * j + 2)), .ref qo]) (rest := []) F hOH ml_w_87 sm_w_greatest k_w_greatest in_w (by decide +kernel) (by decide) hW hS hl.1 rfl rfl (Nat.le_of_ble_eq_true rfl) d_w_law_673 hc hs (fun u g H locs b9 Z9 hp9 hb9 hO hW hS => ?_)
  refine lv_istore (lv' := [(5, .int (nI k)), (4, .int (nI (4 * j))), (3, .ref qo), (2, .ref (om_h B)), (1, .ref (ol_h G)), (0, .ref b)]) hx hb d_w_law_676 hl (by decide) rfl (fun ls hl => ?_)
  refine lv_aload_n hx hb d_w_law_678 rfl (lv_at hl 3 rfl) ?_
  refine lv_aload_n hx hb d_w_law_679 rfl (lv_at hl 5 rfl) ?_
  refine lv_iload hx hb d_w_law_680 (lv_at hl 1 rfl) ?_
  refine lv_iconst (v := (nI 1)) hx hb d_w_law_682 (by decide) ?_
  refine lv_iadd hx hb d_w_law_683 ?_
  refine tp_i (nI ((4 * j) + 1)) (nI_add _ _) ?_
  refine lw_sl hx hb hX hbl hS (i := 4 * j + 1) (by omega) hL d_w_law_684 ?_
  refine lv_aload_n hx hb d_w_law_685 rfl (lv_at hl 5 rfl) ?_
  refine lv_iload hx hb d_w_law_686 (lv_at hl 1 rfl) ?_
  refine lv_iconst (v := (nI 2)) hx hb d_w_law_688 (by decide) ?_
  refine lv_iadd hx hb d_w_law_689 ?_
  refine tp_i (nI ((4 * j) + 2)) (nI_add _ _) ?_
  refine lw_sl hx hb hX hbl hS (i := 4 * j + 2) (by omega) hL d_w_law_690 ?_
  refine lw_cm (n := 2) (As := [.int (xs (4 * j + 1)), .int (xs (4 * j + 2))]) (rest := []) F (hOM b9 Z9 hp9 (Zk.of' hO)) ml_w_89 im_m_greatest se_m_greatest k_m_greatest in_m (by decide +kernel) (by decide) hW hS hl.1 rfl rfl (Nat.le_of_ble_eq_true rfl) d_w_law_691 (by omega) (by omega) (fun r ms H locs hq9 hW hS => ?_)
  obtain ⟨hrb, hth, hM⟩ := hq9
  refine lv_istore (lv' := [(6, .int r), (5, .int (nI k)), (4, .int (nI (4 * j))), (3, .ref qo), (2, .ref (om_h B)), (1, .ref (ol_h G)), (0, .ref b)]) hx hb d_w_law_694 hl (by decide) rfl (fun ls hl => ?_)
  refine lv_aload_n hx hb d_w_law_696 rfl (lv_at hl 4 rfl) ?_
  refine lw_cm (n := 0) (As := []) (rest := []) F (pr_thrown l B hB (Zk.of' hO) hM) ml_w_49 im_m_thrown se_m_thrown k_m_thrown in_m (by decide +kernel) (by decide) hW hS hl.1 rfl rfl (Nat.le_of_ble_eq_true rfl) d_w_law_697 (by omega) (by omega) (fun r2 ms2 H locs hq8 hW hS => ?_)
  obtain ⟨hr2, hms⟩ := hq8
  rw [hms] at hW
  rw [hr2, hth]
  refine lv_iload hx hb d_w_law_700 (lv_at hl 1 rfl) ?_
  refine nb_eq (tgt := 707) hx hb (by omega) (by omega) d_w_law_702 (by decide) (fun q1 => ?_) (fun q1 => ?_)
  · refine lv_iload hx hb d_w_law_707 (lv_at hl 1 rfl) ?_
    refine nz_ne (tgt := 724) hx hb (by omega) d_w_law_709 (by decide) (fun q2 => ?_) (fun q2 => ?_)
    · refine lv_goto (tgt := 763) hx hb d_w_law_724 (by decide) ?_
      exact hN _ _ _ _ _ _ _ hO hM hW hS (lv_sub hl [2, 3, 4, 5, 6] rfl)
    · refine lv_aload_n hx hb d_w_law_712 rfl (lv_at hl 3 rfl) ?_
      refine lv_iconst (v := (nI 0)) hx hb d_w_law_713 (by decide) ?_
      refine va_lald (D := ol_D G) (cl := ol_cl) hx hb hK hW.1 0 2 rfl rfl (vp_in_nI (by decide) (by decide)) d_w_law_714 ?_
      refine tp_l b9.toInt64 (by rw [nI_clamp (by decide)]; exact hb9 q2) ?_
      refine lv_iload hx hb d_w_law_715 (lv_at hl 0 rfl) ?_
      refine lv_i2l (v := b9.toInt64) hx hb d_w_law_717 (by rw [hrb q2]) ?_
      refine lw_leq (tgt := 724) hx hb d_w_law_718 d_w_law_719 (by decide) ?_
      refine lv_goto (tgt := 763) hx hb d_w_law_724 (by decide) ?_
      exact hN _ _ _ _ _ _ _ hO hM hW hS (lv_sub hl [2, 3, 4, 5, 6] rfl)
  · exact absurd rfl q1
set_option maxHeartbeats 4000000 in
set_option maxRecDepth 100000 in
/-- the law's operation next -/
theorem op_next {p : Program} {l : Launch} {e : Env} {s : State} {m : MethodId} {below : List Frame} {meth : Method} {c : Code} {Q : State → Prop} {b L : Nat} {xs : Nat → Int32} {G : OG} {B : MG} {co : ClassId} {qo j cells slots : Nat} (hfl : l.flags = flags0) (F : lw_F p s m #[Value.ref b] c G B co qo) (hX : va_X b L xs s s.heap) (hbl : b < s.heap.size) (hj : 4 * j + 4 ≤ L) (hL : L ≤ 2048) (hc : cells + 1 ≤ 814184) (hs : slots + 6 ≤ 6653552) (hN : lw_N p l e s m b below meth c G B co qo j cells slots Q) {u : OS} {g : Nat → Int64} {ms : MS} {Z : List Nat} {H : Heap} {locs : List Loc} {ls : Array Slot} (hO : Ov u Z) (hM : Mi ms.2.1 ms.2.2.1 Z) (hW : lw_W G B co qo u g ms H) (hS : va_S (fun q : Nat => s.heap.size ≤ q) s.heap H locs) (hl : lv_has ls 7 [(4, .int (nI (4 * j))), (3, .ref qo), (2, .ref (om_h B)), (1, .ref (ol_h G)), (0, .ref b)]) : W p l e room_1 s m #[Value.ref b] below meth c H locs cells slots Q (F0 m 469 ls []) := by
  obtain ⟨⟨hx, hb, hml, hown, hts⟩, hK, hKm, hNs, hTW, hG, hB, ho, hm, hq, hdis⟩ := id F
  refine lv_aload_n hx hb d_w_law_469 rfl (lv_at hl 3 rfl) ?_
  refine lv_aload_n hx hb d_w_law_470 rfl (lv_at hl 4 rfl) ?_
  refine lv_iload hx hb d_w_law_471 (lv_at hl 0 rfl) ?_
  refine lv_iconst (v := (nI 1)) hx hb d_w_law_473 (by decide) ?_
  refine lv_iadd hx hb d_w_law_474 ?_
  refine tp_i (nI ((4 * j) + 1)) (nI_add _ _) ?_
  refine lw_sl hx hb hX hbl hS (i := 4 * j + 1) (by omega) hL d_w_law_475 ?_
  refine lv_aload_n hx hb d_w_law_476 rfl (lv_at hl 4 rfl) ?_
  refine lv_iload hx hb d_w_law_477 (lv_at hl 0 rfl) ?_
  refine lv_iconst (v := (nI 2)) hx hb d_w_law_479 (by decide) ?_
  refine lv_iadd hx hb d_w_law_480 ?_
  refine tp_i (nI ((4 * j) + 2)) (nI_add _ _) ?_
  refine lw_sl hx hb hX hbl hS (i := 4 * j + 2) (by omega) hL d_w_law_481 ?_
  refine lv_if_eq (tgt := 489) hx hb d_w_law_482 (by decide) (fun q6 => ?_) (fun q6 => ?_)
  · refine lv_iconst (v := (nI 0)) hx hb d_w_law_489 (by decide) ?_
    obtain ⟨k, hp, hk2, hOH, hOM⟩ := pr_next l hfl G hG B hB (co := co) (qo := qo) (g := g) hq hO hM (xs (4 * j + 1)) (nI 0)
    refine lv_aload_n hx hb d_w_law_490 rfl (lv_at hl 1 rfl) ?_
    refine lw_ch (n := 4) (As := [.ref (ol_h G), .int (xs (4 * j + 1)), .int (nI 0), .ref qo]) (rest := []) F hOH ml_w_72 sm_w_next k_w_next in_w (by decide +kernel) (by decide) hW hS hl.1 rfl rfl (Nat.le_of_ble_eq_true rfl) d_w_law_491 hc hs (fun u g H locs b9 Z9 hp9 hb9 hO hW hS => ?_)
    refine lv_istore (lv' := [(5, .int (nI k)), (4, .int (nI (4 * j))), (3, .ref qo), (2, .ref (om_h B)), (1, .ref (ol_h G)), (0, .ref b)]) hx hb d_w_law_494 hl (by decide) rfl (fun ls hl => ?_)
    refine lv_aload_n hx hb d_w_law_496 rfl (lv_at hl 3 rfl) ?_
    refine lv_aload_n hx hb d_w_law_497 rfl (lv_at hl 5 rfl) ?_
    refine lv_iload hx hb d_w_law_498 (lv_at hl 1 rfl) ?_
    refine lv_iconst (v := (nI 1)) hx hb d_w_law_500 (by decide) ?_
    refine lv_iadd hx hb d_w_law_501 ?_
    refine tp_i (nI ((4 * j) + 1)) (nI_add _ _) ?_
    refine lw_sl hx hb hX hbl hS (i := 4 * j + 1) (by omega) hL d_w_law_502 ?_
    refine lv_aload_n hx hb d_w_law_503 rfl (lv_at hl 5 rfl) ?_
    refine lv_iload hx hb d_w_law_504 (lv_at hl 1 rfl) ?_
    refine lv_iconst (v := (nI 2)) hx hb d_w_law_506 (by decide) ?_
    refine lv_iadd hx hb d_w_law_507 ?_
    refine tp_i (nI ((4 * j) + 2)) (nI_add _ _) ?_
    refine lw_sl hx hb hX hbl hS (i := 4 * j + 2) (by omega) hL d_w_law_508 ?_
    refine lv_if_eq (tgt := 516) hx hb d_w_law_509 (by decide) (fun q7 => ?_) (fun q7 => ?_)
    · refine lv_iconst (v := (nI 0)) hx hb d_w_law_516 (by decide) ?_
      refine lw_cm (n := 2) (As := [.int (xs (4 * j + 1)), .int (nI 0)]) (rest := []) F (hOM b9 Z9 hp9 (Zk.of' hO)) ml_w_75 im_m_next se_m_next k_m_next in_m (by decide +kernel) (by decide) hW hS hl.1 rfl rfl (Nat.le_of_ble_eq_true rfl) d_w_law_517 (by omega) (by omega) (fun r ms H locs hq9 hW hS => ?_)
      obtain ⟨hrb, hth, hM⟩ := hq9
      refine lv_istore (lv' := [(6, .int r), (5, .int (nI k)), (4, .int (nI (4 * j))), (3, .ref qo), (2, .ref (om_h B)), (1, .ref (ol_h G)), (0, .ref b)]) hx hb d_w_law_520 hl (by decide) rfl (fun ls hl => ?_)
      refine lv_aload_n hx hb d_w_law_522 rfl (lv_at hl 4 rfl) ?_
      refine lw_cm (n := 0) (As := []) (rest := []) F (pr_thrown l B hB (Zk.of' hO) hM) ml_w_49 im_m_thrown se_m_thrown k_m_thrown in_m (by decide +kernel) (by decide) hW hS hl.1 rfl rfl (Nat.le_of_ble_eq_true rfl) d_w_law_523 (by omega) (by omega) (fun r2 ms2 H locs hq8 hW hS => ?_)
      obtain ⟨hr2, hms⟩ := hq8
      rw [hms] at hW
      rw [hr2, hth]
      refine lv_iload hx hb d_w_law_526 (lv_at hl 1 rfl) ?_
      refine nb_eq (tgt := 533) hx hb (by omega) (by omega) d_w_law_528 (by decide) (fun q1 => ?_) (fun q1 => ?_)
      · refine lv_iload hx hb d_w_law_533 (lv_at hl 1 rfl) ?_
        refine nz_ne (tgt := 550) hx hb (by omega) d_w_law_535 (by decide) (fun q2 => ?_) (fun q2 => ?_)
        · refine lv_goto (tgt := 763) hx hb d_w_law_550 (by decide) ?_
          exact hN _ _ _ _ _ _ _ hO hM hW hS (lv_sub hl [2, 3, 4, 5, 6] rfl)
        · refine lv_aload_n hx hb d_w_law_538 rfl (lv_at hl 3 rfl) ?_
          refine lv_iconst (v := (nI 0)) hx hb d_w_law_539 (by decide) ?_
          refine va_lald (D := ol_D G) (cl := ol_cl) hx hb hK hW.1 0 2 rfl rfl (vp_in_nI (by decide) (by decide)) d_w_law_540 ?_
          refine tp_l b9.toInt64 (by rw [nI_clamp (by decide)]; exact hb9 q2) ?_
          refine lv_iload hx hb d_w_law_541 (lv_at hl 0 rfl) ?_
          refine lv_i2l (v := b9.toInt64) hx hb d_w_law_543 (by rw [hrb q2]) ?_
          refine lw_leq (tgt := 550) hx hb d_w_law_544 d_w_law_545 (by decide) ?_
          refine lv_goto (tgt := 763) hx hb d_w_law_550 (by decide) ?_
          exact hN _ _ _ _ _ _ _ hO hM hW hS (lv_sub hl [2, 3, 4, 5, 6] rfl)
      · exact absurd rfl q1
    · exact absurd q6 q7
  · refine lv_iconst (v := (nI 1)) hx hb d_w_law_485 (by decide) ?_
    refine lv_goto (tgt := 490) hx hb d_w_law_486 (by decide) ?_
    obtain ⟨k, hp, hk2, hOH, hOM⟩ := pr_next l hfl G hG B hB (co := co) (qo := qo) (g := g) hq hO hM (xs (4 * j + 1)) (nI 1)
    refine lv_aload_n hx hb d_w_law_490 rfl (lv_at hl 1 rfl) ?_
    refine lw_ch (n := 4) (As := [.ref (ol_h G), .int (xs (4 * j + 1)), .int (nI 1), .ref qo]) (rest := []) F hOH ml_w_72 sm_w_next k_w_next in_w (by decide +kernel) (by decide) hW hS hl.1 rfl rfl (Nat.le_of_ble_eq_true rfl) d_w_law_491 hc hs (fun u g H locs b9 Z9 hp9 hb9 hO hW hS => ?_)
    refine lv_istore (lv' := [(5, .int (nI k)), (4, .int (nI (4 * j))), (3, .ref qo), (2, .ref (om_h B)), (1, .ref (ol_h G)), (0, .ref b)]) hx hb d_w_law_494 hl (by decide) rfl (fun ls hl => ?_)
    refine lv_aload_n hx hb d_w_law_496 rfl (lv_at hl 3 rfl) ?_
    refine lv_aload_n hx hb d_w_law_497 rfl (lv_at hl 5 rfl) ?_
    refine lv_iload hx hb d_w_law_498 (lv_at hl 1 rfl) ?_
    refine lv_iconst (v := (nI 1)) hx hb d_w_law_500 (by decide) ?_
    refine lv_iadd hx hb d_w_law_501 ?_
    refine tp_i (nI ((4 * j) + 1)) (nI_add _ _) ?_
    refine lw_sl hx hb hX hbl hS (i := 4 * j + 1) (by omega) hL d_w_law_502 ?_
    refine lv_aload_n hx hb d_w_law_503 rfl (lv_at hl 5 rfl) ?_
    refine lv_iload hx hb d_w_law_504 (lv_at hl 1 rfl) ?_
    refine lv_iconst (v := (nI 2)) hx hb d_w_law_506 (by decide) ?_
    refine lv_iadd hx hb d_w_law_507 ?_
    refine tp_i (nI ((4 * j) + 2)) (nI_add _ _) ?_
    refine lw_sl hx hb hX hbl hS (i := 4 * j + 2) (by omega) hL d_w_law_508 ?_
    refine lv_if_eq (tgt := 516) hx hb d_w_law_509 (by decide) (fun q7 => ?_) (fun q7 => ?_)
    · exact absurd q7 q6
    · refine lv_iconst (v := (nI 1)) hx hb d_w_law_512 (by decide) ?_
      refine lv_goto (tgt := 517) hx hb d_w_law_513 (by decide) ?_
      refine lw_cm (n := 2) (As := [.int (xs (4 * j + 1)), .int (nI 1)]) (rest := []) F (hOM b9 Z9 hp9 (Zk.of' hO)) ml_w_75 im_m_next se_m_next k_m_next in_m (by decide +kernel) (by decide) hW hS hl.1 rfl rfl (Nat.le_of_ble_eq_true rfl) d_w_law_517 (by omega) (by omega) (fun r ms H locs hq9 hW hS => ?_)
      obtain ⟨hrb, hth, hM⟩ := hq9
      refine lv_istore (lv' := [(6, .int r), (5, .int (nI k)), (4, .int (nI (4 * j))), (3, .ref qo), (2, .ref (om_h B)), (1, .ref (ol_h G)), (0, .ref b)]) hx hb d_w_law_520 hl (by decide) rfl (fun ls hl => ?_)
      refine lv_aload_n hx hb d_w_law_522 rfl (lv_at hl 4 rfl) ?_
      refine lw_cm (n := 0) (As := []) (rest := []) F (pr_thrown l B hB (Zk.of' hO) hM) ml_w_49 im_m_thrown se_m_thrown k_m_thrown in_m (by decide +kernel) (by decide) hW hS hl.1 rfl rfl (Nat.le_of_ble_eq_true rfl) d_w_law_523 (by omega) (by omega) (fun r2 ms2 H locs hq8 hW hS => ?_)
      obtain ⟨hr2, hms⟩ := hq8
      rw [hms] at hW
      rw [hr2, hth]
      refine lv_iload hx hb d_w_law_526 (lv_at hl 1 rfl) ?_
      refine nb_eq (tgt := 533) hx hb (by omega) (by omega) d_w_law_528 (by decide) (fun q1 => ?_) (fun q1 => ?_)
      · refine lv_iload hx hb d_w_law_533 (lv_at hl 1 rfl) ?_
        refine nz_ne (tgt := 550) hx hb (by omega) d_w_law_535 (by decide) (fun q2 => ?_) (fun q2 => ?_)
        · refine lv_goto (tgt := 763) hx hb d_w_law_550 (by decide) ?_
          exact hN _ _ _ _ _ _ _ hO hM hW hS (lv_sub hl [2, 3, 4, 5, 6] rfl)
        · refine lv_aload_n hx hb d_w_law_538 rfl (lv_at hl 3 rfl) ?_
          refine lv_iconst (v := (nI 0)) hx hb d_w_law_539 (by decide) ?_
          refine va_lald (D := ol_D G) (cl := ol_cl) hx hb hK hW.1 0 2 rfl rfl (vp_in_nI (by decide) (by decide)) d_w_law_540 ?_
          refine tp_l b9.toInt64 (by rw [nI_clamp (by decide)]; exact hb9 q2) ?_
          refine lv_iload hx hb d_w_law_541 (lv_at hl 0 rfl) ?_
          refine lv_i2l (v := b9.toInt64) hx hb d_w_law_543 (by rw [hrb q2]) ?_
          refine lw_leq (tgt := 550) hx hb d_w_law_544 d_w_law_545 (by decide) ?_
          refine lv_goto (tgt := 763) hx hb d_w_law_550 (by decide) ?_
          exact hN _ _ _ _ _ _ _ hO hM hW hS (lv_sub hl [2, 3, 4, 5, 6] rfl)
      · exact absurd rfl q1
set_option maxHeartbeats 4000000 in
set_option maxRecDepth 100000 in
/-- the law's operation remove -/
theorem op_remove {p : Program} {l : Launch} {e : Env} {s : State} {m : MethodId} {below : List Frame} {meth : Method} {c : Code} {Q : State → Prop} {b L : Nat} {xs : Nat → Int32} {G : OG} {B : MG} {co : ClassId} {qo j cells slots : Nat} (hfl : l.flags = flags0) (F : lw_F p s m #[Value.ref b] c G B co qo) (hX : va_X b L xs s s.heap) (hbl : b < s.heap.size) (hj : 4 * j + 4 ≤ L) (hL : L ≤ 2048) (hc : cells + 1 ≤ 814184) (hs : slots + 6 ≤ 6653552) (hN : lw_N p l e s m b below meth c G B co qo j cells slots Q) {u : OS} {g : Nat → Int64} {ms : MS} {Z : List Nat} {H : Heap} {locs : List Loc} {ls : Array Slot} (hO : Ov u Z) (hM : Mi ms.2.1 ms.2.2.1 Z) (hW : lw_W G B co qo u g ms H) (hS : va_S (fun q : Nat => s.heap.size ≤ q) s.heap H locs) (hl : lv_has ls 7 [(4, .int (nI (4 * j))), (3, .ref qo), (2, .ref (om_h B)), (1, .ref (ol_h G)), (0, .ref b)]) : W p l e room_1 s m #[Value.ref b] below meth c H locs cells slots Q (F0 m 228 ls []) := by
  obtain ⟨⟨hx, hb, hml, hown, hts⟩, hK, hKm, hNs, hTW, hG, hB, ho, hm, hq, hdis⟩ := id F
  obtain ⟨b9, Z9, hOO, hOM⟩ := pr_remove l G hG B hB hO hM (xs (4 * j + 1))
  refine lv_aload_n hx hb d_w_law_228 rfl (lv_at hl 3 rfl) ?_
  refine lv_aload_n hx hb d_w_law_229 rfl (lv_at hl 4 rfl) ?_
  refine lv_iload hx hb d_w_law_230 (lv_at hl 0 rfl) ?_
  refine lv_iconst (v := (nI 1)) hx hb d_w_law_232 (by decide) ?_
  refine lv_iadd hx hb d_w_law_233 ?_
  refine tp_i (nI ((4 * j) + 1)) (nI_add _ _) ?_
  refine lw_sl hx hb hX hbl hS (i := 4 * j + 1) (by omega) hL d_w_law_234 ?_
  refine lw_co (n := 1) (As := [.int (xs (4 * j + 1))]) (rest := []) F (hOO) ml_w_57 im_o_remove se_o_remove k_o_remove in_o (by decide +kernel) (by decide) hW hS hl.1 rfl rfl (Nat.le_of_ble_eq_true rfl) d_w_law_235 (by omega) (by omega) (fun r u H locs hq9 hW hS => ?_)
  obtain ⟨hr9, hO⟩ := hq9
  rw [hr9]
  refine lv_aload_n hx hb d_w_law_238 rfl (lv_at hl 2 rfl) ?_
  refine lv_aload_n hx hb d_w_law_239 rfl (lv_at hl 4 rfl) ?_
  refine lv_iload hx hb d_w_law_240 (lv_at hl 0 rfl) ?_
  refine lv_iconst (v := (nI 1)) hx hb d_w_law_242 (by decide) ?_
  refine lv_iadd hx hb d_w_law_243 ?_
  refine tp_i (nI ((4 * j) + 1)) (nI_add _ _) ?_
  refine lw_sl hx hb hX hbl hS (i := 4 * j + 1) (by omega) hL d_w_law_244 ?_
  refine lw_cm (n := 1) (As := [.int (xs (4 * j + 1))]) (rest := [.int b9]) F (hOM) ml_w_61 im_m_remove se_m_remove k_m_remove in_m (by decide +kernel) (by decide) hW hS hl.1 rfl rfl (Nat.le_of_ble_eq_true rfl) d_w_law_245 (by omega) (by omega) (fun r2 ms H locs hq8 hW hS => ?_)
  obtain ⟨hr8, hM⟩ := hq8
  rw [hr8]
  refine lv_icmp_eq (tgt := 763) hx hb d_w_law_248 (by decide) (fun q1 => ?_) (fun q1 => ?_)
  · refine W.widen (k := cells + 1) (n := slots + 6) (by omega) (by omega) ?_
    exact hN _ _ _ _ _ _ _ hO hM hW hS (lv_sub hl [0, 1, 2, 3, 4] rfl)
  · exact absurd rfl q1
set_option maxHeartbeats 4000000 in
set_option maxRecDepth 100000 in
/-- the law's operation has -/
theorem op_has {p : Program} {l : Launch} {e : Env} {s : State} {m : MethodId} {below : List Frame} {meth : Method} {c : Code} {Q : State → Prop} {b L : Nat} {xs : Nat → Int32} {G : OG} {B : MG} {co : ClassId} {qo j cells slots : Nat} (hfl : l.flags = flags0) (F : lw_F p s m #[Value.ref b] c G B co qo) (hX : va_X b L xs s s.heap) (hbl : b < s.heap.size) (hj : 4 * j + 4 ≤ L) (hL : L ≤ 2048) (hc : cells + 1 ≤ 814184) (hs : slots + 6 ≤ 6653552) (hN : lw_N p l e s m b below meth c G B co qo j cells slots Q) {u : OS} {g : Nat → Int64} {ms : MS} {Z : List Nat} {H : Heap} {locs : List Loc} {ls : Array Slot} (hO : Ov u Z) (hM : Mi ms.2.1 ms.2.2.1 Z) (hW : lw_W G B co qo u g ms H) (hS : va_S (fun q : Nat => s.heap.size ≤ q) s.heap H locs) (hl : lv_has ls 7 [(4, .int (nI (4 * j))), (3, .ref qo), (2, .ref (om_h B)), (1, .ref (ol_h G)), (0, .ref b)]) : W p l e room_1 s m #[Value.ref b] below meth c H locs cells slots Q (F0 m 553 ls []) := by
  obtain ⟨⟨hx, hb, hml, hown, hts⟩, hK, hKm, hNs, hTW, hG, hB, ho, hm, hq, hdis⟩ := id F
  obtain ⟨b9, Z9, hOO, hOM⟩ := pr_has l G hG B hB hO hM (xs (4 * j + 1))
  refine lv_aload_n hx hb d_w_law_553 rfl (lv_at hl 3 rfl) ?_
  refine lv_aload_n hx hb d_w_law_554 rfl (lv_at hl 4 rfl) ?_
  refine lv_iload hx hb d_w_law_555 (lv_at hl 0 rfl) ?_
  refine lv_iconst (v := (nI 1)) hx hb d_w_law_557 (by decide) ?_
  refine lv_iadd hx hb d_w_law_558 ?_
  refine tp_i (nI ((4 * j) + 1)) (nI_add _ _) ?_
  refine lw_sl hx hb hX hbl hS (i := 4 * j + 1) (by omega) hL d_w_law_559 ?_
  refine lw_co (n := 1) (As := [.int (xs (4 * j + 1))]) (rest := []) F (hOO) ml_w_76 im_o_has se_o_has k_o_has in_o (by decide +kernel) (by decide) hW hS hl.1 rfl rfl (Nat.le_of_ble_eq_true rfl) d_w_law_560 (by omega) (by omega) (fun r u H locs hq9 hW hS => ?_)
  obtain ⟨hr9, hO⟩ := hq9
  rw [hr9]
  refine lv_aload_n hx hb d_w_law_563 rfl (lv_at hl 2 rfl) ?_
  refine lv_aload_n hx hb d_w_law_564 rfl (lv_at hl 4 rfl) ?_
  refine lv_iload hx hb d_w_law_565 (lv_at hl 0 rfl) ?_
  refine lv_iconst (v := (nI 1)) hx hb d_w_law_567 (by decide) ?_
  refine lv_iadd hx hb d_w_law_568 ?_
  refine tp_i (nI ((4 * j) + 1)) (nI_add _ _) ?_
  refine lw_sl hx hb hX hbl hS (i := 4 * j + 1) (by omega) hL d_w_law_569 ?_
  refine lw_cm (n := 1) (As := [.int (xs (4 * j + 1))]) (rest := [.int b9]) F (hOM) ml_w_79 im_m_has se_m_has k_m_has in_m (by decide +kernel) (by decide) hW hS hl.1 rfl rfl (Nat.le_of_ble_eq_true rfl) d_w_law_570 (by omega) (by omega) (fun r2 ms H locs hq8 hW hS => ?_)
  obtain ⟨hr8, hM⟩ := hq8
  rw [hr8]
  refine lv_icmp_eq (tgt := 763) hx hb d_w_law_573 (by decide) (fun q1 => ?_) (fun q1 => ?_)
  · refine W.widen (k := cells + 1) (n := slots + 6) (by omega) (by omega) ?_
    exact hN _ _ _ _ _ _ _ hO hM hW hS (lv_sub hl [0, 1, 2, 3, 4] rfl)
  · exact absurd rfl q1
set_option maxHeartbeats 4000000 in
set_option maxRecDepth 100000 in
/-- the law's operation at -/
theorem op_at {p : Program} {l : Launch} {e : Env} {s : State} {m : MethodId} {below : List Frame} {meth : Method} {c : Code} {Q : State → Prop} {b L : Nat} {xs : Nat → Int32} {G : OG} {B : MG} {co : ClassId} {qo j cells slots : Nat} (hfl : l.flags = flags0) (F : lw_F p s m #[Value.ref b] c G B co qo) (hX : va_X b L xs s s.heap) (hbl : b < s.heap.size) (hj : 4 * j + 4 ≤ L) (hL : L ≤ 2048) (hc : cells + 1 ≤ 814184) (hs : slots + 6 ≤ 6653552) (hN : lw_N p l e s m b below meth c G B co qo j cells slots Q) {u : OS} {g : Nat → Int64} {ms : MS} {Z : List Nat} {H : Heap} {locs : List Loc} {ls : Array Slot} (hO : Ov u Z) (hM : Mi ms.2.1 ms.2.2.1 Z) (hW : lw_W G B co qo u g ms H) (hS : va_S (fun q : Nat => s.heap.size ≤ q) s.heap H locs) (hl : lv_has ls 7 [(4, .int (nI (4 * j))), (3, .ref qo), (2, .ref (om_h B)), (1, .ref (ol_h G)), (0, .ref b)]) : W p l e room_1 s m #[Value.ref b] below meth c H locs cells slots Q (F0 m 634 ls []) := by
  obtain ⟨⟨hx, hb, hml, hown, hts⟩, hK, hKm, hNs, hTW, hG, hB, ho, hm, hq, hdis⟩ := id F
  obtain ⟨b9, Z9, hOO, hOM⟩ := pr_at l G hG B hB hO hM (xs (4 * j + 1))
  refine lv_aload_n hx hb d_w_law_634 rfl (lv_at hl 3 rfl) ?_
  refine lv_aload_n hx hb d_w_law_635 rfl (lv_at hl 4 rfl) ?_
  refine lv_iload hx hb d_w_law_636 (lv_at hl 0 rfl) ?_
  refine lv_iconst (v := (nI 1)) hx hb d_w_law_638 (by decide) ?_
  refine lv_iadd hx hb d_w_law_639 ?_
  refine tp_i (nI ((4 * j) + 1)) (nI_add _ _) ?_
  refine lw_sl hx hb hX hbl hS (i := 4 * j + 1) (by omega) hL d_w_law_640 ?_
  refine lw_co (n := 1) (As := [.int (xs (4 * j + 1))]) (rest := []) F (hOO) ml_w_83 im_o_at se_o_at k_o_at in_o (by decide +kernel) (by decide) hW hS hl.1 rfl rfl (Nat.le_of_ble_eq_true rfl) d_w_law_641 (by omega) (by omega) (fun r u H locs hq9 hW hS => ?_)
  obtain ⟨hr9, hO⟩ := hq9
  rw [hr9]
  refine lv_aload_n hx hb d_w_law_644 rfl (lv_at hl 2 rfl) ?_
  refine lv_aload_n hx hb d_w_law_645 rfl (lv_at hl 4 rfl) ?_
  refine lv_iload hx hb d_w_law_646 (lv_at hl 0 rfl) ?_
  refine lv_iconst (v := (nI 1)) hx hb d_w_law_648 (by decide) ?_
  refine lv_iadd hx hb d_w_law_649 ?_
  refine tp_i (nI ((4 * j) + 1)) (nI_add _ _) ?_
  refine lw_sl hx hb hX hbl hS (i := 4 * j + 1) (by omega) hL d_w_law_650 ?_
  refine lw_cm (n := 1) (As := [.int (xs (4 * j + 1))]) (rest := [.int b9]) F (hOM) ml_w_86 im_m_at se_m_at k_m_at in_m (by decide +kernel) (by decide) hW hS hl.1 rfl rfl (Nat.le_of_ble_eq_true rfl) d_w_law_651 (by omega) (by omega) (fun r2 ms H locs hq8 hW hS => ?_)
  obtain ⟨hr8, hM⟩ := hq8
  rw [hr8]
  refine lv_icmp_eq (tgt := 763) hx hb d_w_law_654 (by decide) (fun q1 => ?_) (fun q1 => ?_)
  · refine W.widen (k := cells + 1) (n := slots + 6) (by omega) (by omega) ?_
    exact hN _ _ _ _ _ _ _ hO hM hW hS (lv_sub hl [0, 1, 2, 3, 4] rfl)
  · exact absurd rfl q1
set_option maxHeartbeats 4000000 in
set_option maxRecDepth 100000 in
/-- the law's operation look -/
theorem op_look {p : Program} {l : Launch} {e : Env} {s : State} {m : MethodId} {below : List Frame} {meth : Method} {c : Code} {Q : State → Prop} {b L : Nat} {xs : Nat → Int32} {G : OG} {B : MG} {co : ClassId} {qo j cells slots : Nat} (hfl : l.flags = flags0) (F : lw_F p s m #[Value.ref b] c G B co qo) (hX : va_X b L xs s s.heap) (hbl : b < s.heap.size) (hj : 4 * j + 4 ≤ L) (hL : L ≤ 2048) (hc : cells + 1 ≤ 814184) (hs : slots + 6 ≤ 6653552) (hN : lw_N p l e s m b below meth c G B co qo j cells slots Q) {u : OS} {g : Nat → Int64} {ms : MS} {Z : List Nat} {H : Heap} {locs : List Loc} {ls : Array Slot} (hO : Ov u Z) (hM : Mi ms.2.1 ms.2.2.1 Z) (hW : lw_W G B co qo u g ms H) (hS : va_S (fun q : Nat => s.heap.size ≤ q) s.heap H locs) (hl : lv_has ls 7 [(4, .int (nI (4 * j))), (3, .ref qo), (2, .ref (om_h B)), (1, .ref (ol_h G)), (0, .ref b)]) : W p l e room_1 s m #[Value.ref b] below meth c H locs cells slots Q (F0 m 738 ls []) := by
  obtain ⟨⟨hx, hb, hml, hown, hts⟩, hK, hKm, hNs, hTW, hG, hB, ho, hm, hq, hdis⟩ := id F
  obtain ⟨b9, Z9, hOO, hOM⟩ := pr_look l G hG B hB hO hM (xs (4 * j + 1))
  refine lv_aload_n hx hb d_w_law_738 rfl (lv_at hl 3 rfl) ?_
  refine lv_aload_n hx hb d_w_law_739 rfl (lv_at hl 4 rfl) ?_
  refine lv_iload hx hb d_w_law_740 (lv_at hl 0 rfl) ?_
  refine lv_iconst (v := (nI 1)) hx hb d_w_law_742 (by decide) ?_
  refine lv_iadd hx hb d_w_law_743 ?_
  refine tp_i (nI ((4 * j) + 1)) (nI_add _ _) ?_
  refine lw_sl hx hb hX hbl hS (i := 4 * j + 1) (by omega) hL d_w_law_744 ?_
  refine lw_co (n := 1) (As := [.int (xs (4 * j + 1))]) (rest := []) F (hOO) ml_w_94 im_o_look se_o_look k_o_look in_o (by decide +kernel) (by decide) hW hS hl.1 rfl rfl (Nat.le_of_ble_eq_true rfl) d_w_law_745 (by omega) (by omega) (fun r u H locs hq9 hW hS => ?_)
  obtain ⟨hr9, hO⟩ := hq9
  rw [hr9]
  refine lv_aload_n hx hb d_w_law_748 rfl (lv_at hl 2 rfl) ?_
  refine lv_aload_n hx hb d_w_law_749 rfl (lv_at hl 4 rfl) ?_
  refine lv_iload hx hb d_w_law_750 (lv_at hl 0 rfl) ?_
  refine lv_iconst (v := (nI 1)) hx hb d_w_law_752 (by decide) ?_
  refine lv_iadd hx hb d_w_law_753 ?_
  refine tp_i (nI ((4 * j) + 1)) (nI_add _ _) ?_
  refine lw_sl hx hb hX hbl hS (i := 4 * j + 1) (by omega) hL d_w_law_754 ?_
  refine lw_cm (n := 1) (As := [.int (xs (4 * j + 1))]) (rest := [.int b9]) F (hOM) ml_w_97 im_m_look se_m_look k_m_look in_m (by decide +kernel) (by decide) hW hS hl.1 rfl rfl (Nat.le_of_ble_eq_true rfl) d_w_law_755 (by omega) (by omega) (fun r2 ms H locs hq8 hW hS => ?_)
  obtain ⟨hr8, hM⟩ := hq8
  rw [hr8]
  refine lv_icmp_eq (tgt := 763) hx hb d_w_law_758 (by decide) (fun q1 => ?_) (fun q1 => ?_)
  · refine W.widen (k := cells + 1) (n := slots + 6) (by omega) (by omega) ?_
    exact hN _ _ _ _ _ _ _ hO hM hW hS (lv_sub hl [0, 1, 2, 3, 4] rfl)
  · exact absurd rfl q1
set_option maxHeartbeats 4000000 in
set_option maxRecDepth 100000 in
/-- the law's operation wipe -/
theorem op_wipe {p : Program} {l : Launch} {e : Env} {s : State} {m : MethodId} {below : List Frame} {meth : Method} {c : Code} {Q : State → Prop} {b L : Nat} {xs : Nat → Int32} {G : OG} {B : MG} {co : ClassId} {qo j cells slots : Nat} (hfl : l.flags = flags0) (F : lw_F p s m #[Value.ref b] c G B co qo) (hX : va_X b L xs s s.heap) (hbl : b < s.heap.size) (hj : 4 * j + 4 ≤ L) (hL : L ≤ 2048) (hc : cells + 1 ≤ 814184) (hs : slots + 6 ≤ 6653552) (hN : lw_N p l e s m b below meth c G B co qo j cells slots Q) {u : OS} {g : Nat → Int64} {ms : MS} {Z : List Nat} {H : Heap} {locs : List Loc} {ls : Array Slot} (hO : Ov u Z) (hM : Mi ms.2.1 ms.2.2.1 Z) (hW : lw_W G B co qo u g ms H) (hS : va_S (fun q : Nat => s.heap.size ≤ q) s.heap H locs) (hl : lv_has ls 7 [(4, .int (nI (4 * j))), (3, .ref qo), (2, .ref (om_h B)), (1, .ref (ol_h G)), (0, .ref b)]) : W p l e room_1 s m #[Value.ref b] below meth c H locs cells slots Q (F0 m 727 ls []) := by
  obtain ⟨⟨hx, hb, hml, hown, hts⟩, hK, hKm, hNs, hTW, hG, hB, ho, hm, hq, hdis⟩ := id F
  obtain ⟨L0, b0, n0, t0, F0, nf, la, mn⟩ := u
  obtain ⟨th, f, mm, g0⟩ := ms
  refine lv_aload_n hx hb d_w_law_727 rfl (lv_at hl 3 rfl) ?_
  refine lw_vo (n := 0) (As := []) (rest := []) F (c_o_wipe l G hG hO) (by decide) ml_w_90 im_o_wipe se_o_wipe k_o_wipe in_o (by decide +kernel) (by decide) hW hS hl.1 rfl rfl (Nat.le_of_ble_eq_true rfl) d_w_law_728 (by omega) (by omega) (fun u H locs hO9 hW hS => ?_)
  refine lv_aload_n hx hb d_w_law_731 rfl (lv_at hl 2 rfl) ?_
  refine lw_vm (n := 0) (As := []) (rest := []) F (c_m_wipe l B hB (Zk.of' hO) hM) (by decide) ml_w_93 im_m_wipe se_m_wipe k_m_wipe in_m (by decide +kernel) (by decide) hW hS hl.1 rfl rfl (Nat.le_of_ble_eq_true rfl) d_w_law_732 (by omega) (by omega) (fun ms H locs hM9 hW hS => ?_)
  obtain ⟨f', rfl, hM⟩ := hM9
  have hO := hO9
  refine lv_goto (tgt := 763) hx hb d_w_law_735 (by decide) ?_
  refine W.widen (k := cells + 1) (n := slots + 6) (by omega) (by omega) ?_
  exact hN _ _ _ _ _ _ _ hO hM hW hS (lv_sub hl [0, 1, 2, 3, 4] rfl)
end
section
/-! 35: the law's loop -/
theorem lw_gt {a L : Nat} (ha : a ≤ 4096) (hL : L ≤ 2048) : (Int32.ofNat L - nI 4 < nI a) ↔ L < a + 4 := by
  have h1 : (Int32.ofNat L - nI 4).toInt = (L : Int) - 4 := by
    rw [show Int32.ofNat L = nI L from rfl, Int32.toInt_sub, nI_toInt (by omega), nI_toInt (by omega)]
    rw [Int.bmod_eq_of_le (by omega) (by omega)]
    rfl
  rw [Int32.lt_iff_toInt_lt, h1, nI_toInt (by omega)]
  omega
set_option maxHeartbeats 4000000 in
set_option maxRecDepth 100000 in
/-- THE LAW'S LOOP: at its head, with j operations done, both hold the same line -/
theorem law_loop {p : Program} {l : Launch} {e : Env} {s : State} {m : MethodId} {below : List Frame} {meth : Method} {c : Code} {b L : Nat} {xs : Nat → Int32} {G : OG} {B : MG} {co : ClassId} {qo : Nat} (hfl : l.flags = flags0) (hr : meth.sig.returnType = ret) (hlocks : meth.locks = false) (F : lw_F p s m #[Value.ref b] c G B co qo) (hX : va_X b L xs s s.heap) (hbl : b < s.heap.size) (hL : L ≤ 2048) :
    ∀ (n j : Nat), L + 4 ≤ 4 * j + n → 4 * j ≤ 2048 → ∀ (u : OS) (g : Nat → Int64) (ms : MS) (Z : List Nat) (H : Heap) (locs : List Loc) (ls : Array Slot), Ov u Z → Mi ms.2.1 ms.2.2.1 Z → lw_W G B co qo u g ms H → va_S (fun q : Nat => s.heap.size ≤ q) s.heap H locs → lv_has ls 7 [(4, .int (nI (4 * j))), (3, .ref qo), (2, .ref (om_h B)), (1, .ref (ol_h G)), (0, .ref b)] → W p l e room_1 s m #[Value.ref b] below meth c H locs (1007 + j) (9010 + 6 * j) (lw_Z below #[Value.ref b] s) (F0 m 23 ls []) := by
  obtain ⟨⟨hx, hb, hml, hown, hts⟩, hK, hKm, hNs, hTW, hG, hB, ho, hm, hq, hdis⟩ := id F
  have hbA : ¬ (fun q : Nat => s.heap.size ≤ q) b := Nat.not_le.mpr hbl
  intro n
  induction n with
  | zero =>
    intro j hj hj2 u g ms Z H locs ls hO hM hW hS hl
    refine lv_iload hx hb d_w_law_23 (lv_at hl 0 rfl) ?_
    refine lv_aload_n hx hb d_w_law_25 rfl (lv_at hl 4 rfl) ?_
    refine va_slen hx hb hX hbl hbA hS d_w_law_26 ?_
    refine lv_iconst (v := nI 4) hx hb d_w_law_27 (by decide) ?_
    refine lv_isub hx hb d_w_law_28 ?_
    refine lv_icmp_gt (tgt := 769) hx hb d_w_law_29 (by decide) (fun q1 => ?_) (fun q1 => ?_)
    · refine lv_iconst (v := (nI 1)) hx hb d_w_law_769 (by decide) ?_
      refine va_forget (fun q hq => hS.2.2 q hq) ?_
      refine W.widen (k := 814184) (n := 6653552) (by omega) (by omega) ?_
      exact lw_ret hx hb hr hlocks d_w_law_770
    · exact absurd ((lw_gt (by omega) hL).mpr (by omega)) q1
  | succ n ih =>
    intro j hj hj2 u g ms Z H locs ls hO hM hW hS hl
    refine lv_iload hx hb d_w_law_23 (lv_at hl 0 rfl) ?_
    refine lv_aload_n hx hb d_w_law_25 rfl (lv_at hl 4 rfl) ?_
    refine va_slen hx hb hX hbl hbA hS d_w_law_26 ?_
    refine lv_iconst (v := nI 4) hx hb d_w_law_27 (by decide) ?_
    refine lv_isub hx hb d_w_law_28 ?_
    refine lv_icmp_gt (tgt := 769) hx hb d_w_law_29 (by decide) (fun q1 => ?_) (fun q1 => ?_)
    · refine lv_iconst (v := (nI 1)) hx hb d_w_law_769 (by decide) ?_
      refine va_forget (fun q hq => hS.2.2 q hq) ?_
      refine W.widen (k := 814184) (n := 6653552) (by omega) (by omega) ?_
      exact lw_ret hx hb hr hlocks d_w_law_770
    · have hjL : 4 * j + 4 ≤ L := Nat.not_lt.mp (fun z => q1 ((lw_gt (by omega) hL).mpr z))
      have hN : lw_N p l e s m b below meth c G B co qo j (1007 + j) (9010 + 6 * j) (lw_Z below #[Value.ref b] s) := by
        intro u g ms Z H locs ls hO hM hW hS hl
        refine lv_iinc (v := nI (4 * (j + 1))) (lv' := [(4, .int (nI (4 * (j + 1)))), (3, .ref qo), (2, .ref (om_h B)), (1, .ref (ol_h G)), (0, .ref b)]) hx hb d_w_law_763 hl (k := 0) rfl (lw_i4 j) (by decide) rfl (fun ls hl => ?_)
        refine lv_goto (tgt := 23) hx hb d_w_law_766 (by decide) ?_
        refine W.widen (k := 1007 + (j + 1)) (n := 9010 + 6 * (j + 1)) (by omega) (by omega) ?_
        exact ih (j + 1) (by omega) (by omega) u g ms Z H locs ls hO hM hW hS hl
      refine lv_aload_n hx hb d_w_law_32 rfl (lv_at hl 4 rfl) ?_
      refine lv_iload hx hb d_w_law_33 (lv_at hl 0 rfl) ?_
      refine lw_sl hx hb hX hbl hS (i := 4 * j) (by omega) hL d_w_law_35 ?_
      refine lv_bipush (v := (nI 15)) hx hb d_w_law_36 (by decide) ?_
      refine lv_iand hx hb d_w_law_38 ?_
      refine lv_topi (fun y hy => ?_)
      by_cases hy0 : y.toInt < 0 ∨ 12 < y.toInt
      · refine lv_tableOut (tgt := 763) hx hb d_w_law_39 hy0 (by decide) ?_
        refine W.widen (k := 1007 + j + 1) (n := 9010 + 6 * j + 6) (by omega) (by omega) ?_
        exact hN _ _ _ _ _ _ _ hO hM hW hS hl
      have hy1 : ¬ y.toInt < 0 := fun z => hy0 (Or.inl z)
      have hy2 : ¬ 12 < y.toInt := fun z => hy0 (Or.inr z)
      have hyc : y.toInt = 0 ∨ y.toInt = 1 ∨ y.toInt = 2 ∨ y.toInt = 3 ∨ y.toInt = 4 ∨ y.toInt = 5 ∨ y.toInt = 6 ∨ y.toInt = 7 ∨ y.toInt = 8 ∨ y.toInt = 9 ∨ y.toInt = 10 ∨ y.toInt = 11 ∨ y.toInt = 12 := by omega
      rcases hyc with hy3 | hy3 | hy3 | hy3 | hy3 | hy3 | hy3 | hy3 | hy3 | hy3 | hy3 | hy3 | hy3
      · refine lv_tableIn (off := 65) (tgt := 104) hx hb d_w_law_39 hy1 hy2 (by rw [hy3]; rfl) (by decide) ?_
        exact op_behind hfl F hX hbl hjL hL (by omega) (by omega) hN hO hM hW hS hl
      · refine lv_tableIn (off := 121) (tgt := 160) hx hb d_w_law_39 hy1 hy2 (by rw [hy3]; rfl) (by decide) ?_
        exact op_several hfl F hX hbl hjL hL (by omega) (by omega) hN hO hM hW hS hl
      · refine lv_tableIn (off := 189) (tgt := 228) hx hb d_w_law_39 hy1 hy2 (by rw [hy3]; rfl) (by decide) ?_
        exact op_remove hfl F hX hbl hjL hL (by omega) (by omega) hN hO hM hW hS hl
      · refine lv_tableIn (off := 214) (tgt := 253) hx hb d_w_law_39 hy1 hy2 (by rw [hy3]; rfl) (by decide) ?_
        exact op_clear hfl F hX hbl hjL hL (by omega) (by omega) hN hO hM hW hS hl
      · refine lv_tableIn (off := 282) (tgt := 321) hx hb d_w_law_39 hy1 hy2 (by rw [hy3]; rfl) (by decide) ?_
        exact op_carry hfl F hX hbl hjL hL (by omega) (by omega) hN hO hM hW hS hl
      · refine lv_tableIn (off := 362) (tgt := 401) hx hb d_w_law_39 hy1 hy2 (by rw [hy3]; rfl) (by decide) ?_
        exact op_compare hfl F hX hbl hjL hL (by omega) (by omega) hN hO hM hW hS hl
      · refine lv_tableIn (off := 430) (tgt := 469) hx hb d_w_law_39 hy1 hy2 (by rw [hy3]; rfl) (by decide) ?_
        exact op_next hfl F hX hbl hjL hL (by omega) (by omega) hN hO hM hW hS hl
      · refine lv_tableIn (off := 514) (tgt := 553) hx hb d_w_law_39 hy1 hy2 (by rw [hy3]; rfl) (by decide) ?_
        exact op_has hfl F hX hbl hjL hL (by omega) (by omega) hN hO hM hW hS hl
      · refine lv_tableIn (off := 539) (tgt := 578) hx hb d_w_law_39 hy1 hy2 (by rw [hy3]; rfl) (by decide) ?_
        exact op_place hfl F hX hbl hjL hL (by omega) (by omega) hN hO hM hW hS hl
      · refine lv_tableIn (off := 595) (tgt := 634) hx hb d_w_law_39 hy1 hy2 (by rw [hy3]; rfl) (by decide) ?_
        exact op_at hfl F hX hbl hjL hL (by omega) (by omega) hN hO hM hW hS hl
      · refine lv_tableIn (off := 620) (tgt := 659) hx hb d_w_law_39 hy1 hy2 (by rw [hy3]; rfl) (by decide) ?_
        exact op_greatest hfl F hX hbl hjL hL (by omega) (by omega) hN hO hM hW hS hl
      · refine lv_tableIn (off := 688) (tgt := 727) hx hb d_w_law_39 hy1 hy2 (by rw [hy3]; rfl) (by decide) ?_
        exact op_wipe hfl F hX hbl hjL hL (by omega) (by omega) hN hO hM hW hS hl
      · refine lv_tableIn (off := 699) (tgt := 738) hx hb d_w_law_39 hy1 hy2 (by rw [hy3]; rfl) (by decide) ?_
        exact op_look hfl F hX hbl hjL hL (by omega) (by omega) hN hO hM hW hS hl
end
section
/-! 36: the law's start, and the claim -/
theorem ol_nest_in : ∀ w ∈ ol_nest, w ∈ lw_tbl := by decide +kernel
theorem ol_nest_on : ∀ w ∈ ol_nest, w.onTables = true := by decide +kernel
theorem va_none {D : va_G} {cl : List vw_C} {H : Heap} : va_P D cl [] H := fun k q h => by simp at h
theorem va_noneD {A : Nat → Prop} : va_D A [] := ⟨fun i j p q h => by simp at h, fun k q h => by simp at h⟩
set_option maxHeartbeats 4000000 in
set_option maxRecDepth 100000 in
/-- THE LAW, from its entry -/
theorem whole_start {p : Program} {e : Env} {s : State} {m : MethodId} {below : List Frame} {meth : Method} {c : Code} (l : Launch) (hfl : l.flags = flags0) {b L : Nat} {xs : Nat → Int32} (hL : L ≤ 2048) (C0 : lw_At p s m meth c b L xs) : W p l e room_1 s m #[Value.ref b] below meth c s.heap [] 0 0 (lw_Z below #[Value.ref b] s) (entryFrame m ([Value.ref b] : List Value).toArray 7) := by
  obtain ⟨hx, hb, hr, hml, hown, hts0, hX, hbl, hlocks, hgv⟩ := id C0
  have hown : s.vm.findClass "OrderLineLaw" = some m.cls := hown
  have hts : ∀ w ∈ GW, w.before #[Value.ref b] s = true := fun w hw => hts0 w (List.mem_filter.mp hw).1
  obtain ⟨c0, iS0, hKn0⟩ := u_known (C := R_t) (T := F_t) (N := 5) (n := 5) hts i_t (hts _ it_t)
  obtain ⟨c1, iS1, hKn1⟩ := u_known (C := R_o) (T := F_o) (N := 5) (n := 5) hts i_o (hts _ it_o)
  obtain ⟨c2, iS2, hKn2⟩ := u_known (C := R_m) (T := F_m) (N := 4) (n := 4) hts i_m (hts _ it_m)
  obtain ⟨D, hKc⟩ : ∃ D : va_G, ∀ (k : Nat) (q : vw_C), ol_cl[k]? = some q → u_Kn s q.1 q.2.1 q.2.2 (D.1 k) (D.2 k) := by
    refine ⟨(fun k => if k = 0 then c0 else if k = 1 then c1 else c2, fun k => if k = 0 then iS0 else if k = 1 then iS1 else iS2), ?_⟩
    intro k q hq
    match k, hq with
    | 0, hq => cases hq; exact hKn0
    | 1, hq => cases hq; exact hKn1
    | 2, hq => cases hq; exact hKn2
    | k + 3, hq => simp [ol_cl] at hq
  have hK : va_K D ol_cl [] s := ⟨hKc, fun k q h => by simp at h⟩
  have hN : ol_N s := fun w hw => va_Nw.of (ol_nest_on w hw) (hts0 w (ol_nest_in w hw))
  have hAO : va_AO "OrderLine$Stamp" s := va_AO.of (hts0 _ ao_t)
  have hgs := flat_of_before _ hgv
  have hTW : TW s := by
    intro w hw
    have hd : w ∈ th_badT ∨ w = .isRef (.static Bundle.tN "UNASSIGNED_STACK" Bundle.steD) ∨ w = .isRef (.static Bundle.tN "SUPPRESSED_SENTINEL" Bundle.listD) := by
      simp only [th_bad, List.mem_cons, List.not_mem_nil, or_false] at hw
      simp only [th_badT, List.mem_cons, List.not_mem_nil, or_false]
      rcases hw with rfl | rfl | rfl | rfl | rfl | rfl | rfl | rfl
      · exact Or.inl (Or.inl rfl)
      · exact Or.inl (Or.inr (Or.inl rfl))
      · exact Or.inl (Or.inr (Or.inr (Or.inl rfl)))
      · exact Or.inl (Or.inr (Or.inr (Or.inr (Or.inl rfl))))
      · exact Or.inl (Or.inr (Or.inr (Or.inr (Or.inr (Or.inl rfl)))))
      · exact Or.inl (Or.inr (Or.inr (Or.inr (Or.inr (Or.inr rfl)))))
      · exact Or.inr (Or.inl rfl)
      · exact Or.inr (Or.inr rfl)
    rcases hd with h | h | h
    · have hz := hts0 w (th_badT_in w h)
      simp only [th_badT, List.mem_cons, List.not_mem_nil, or_false] at h
      rcases h with rfl | rfl | rfl | rfl | rfl | rfl <;> exact hz
    · have hz : (Cond.isRef (.static "java/lang/Throwable" "UNASSIGNED_STACK" "[Ljava/lang/StackTraceElement;")).before #[Value.ref b] s = true := hgs _ (by decide +kernel)
      rw [h]; exact hz
    · have hz : (Cond.isRef (.static "java/lang/Throwable" "SUPPRESSED_SENTINEL" "Ljava/util/List;")).before #[Value.ref b] s = true := hgs _ (by decide +kernel)
      rw [h]; exact hz
  have hl := lv_entry ([.ref b]) (n := 7) (Nat.le_of_ble_eq_true rfl)
  rw [lg_entry_eq]
  generalize (lg_sl ([.ref b]) ++ List.replicate (7 - (lg_sl ([.ref b])).length) Slot.unset).toArray = ls at hl ⊢
  have hl : lv_has ls 7 [(0, .ref b)] := hl
  have hA0 : ∀ q : Nat, s.heap.size ≤ q → (fun q : Nat => s.heap.size ≤ q) q := fun _ h => h
  refine va_new (A := fun q : Nat => s.heap.size ≤ q) (H0 := s.heap) (D := D) (ws := []) (ci := 1) (fs := [.null, .null, .int (nI 0), .null, .int (nI 0)]) (C := R_o) (T := F_o) (N := 5) hx hb hts i_o t_o t_o_ok hown (hts _ cl_w_8) (hts _ it_o) (hts _ in_o) hK va_none va_noneD va_S.rf hA0 rfl (fun j hj => by rcases (show j = 0 ∨ j = 1 ∨ j = 2 ∨ j = 3 ∨ j = 4 by omega) with rfl | rfl | rfl | rfl | rfl <;> rfl) (by show _ ≤ 814184; omega) (by show _ ≤ 6653552; omega) d_w_law_0 (fun q1 H1 hP1 hD1 hS1 => ?_)
  have hP1 : va_P D ol_cl [(q1, .inr (1, [.null, .null, .int (nI 0), .null, .int (nI 0)]))] H1 := hP1
  have hq1 : s.heap.size ≤ q1 := hD1.2 0 _ rfl
  have hz1 := hS1.1
  have hk1 : ∀ z : Nat, z < s.heap.size → H1[z]? = s.heap[z]? := fun z hz => hS1.2.1 z hz (Nat.not_le.mpr hz)
  have hlt1 : q1 < H1.size := (hP1 0 _ rfl).lt
  refine lv_dup hx hb d_w_law_3 rfl ?_
  refine va_callv (A0 := fun z : Nat => z = q1 ∨ H1.size ≤ z) (H0 := H1) (va_runI (As := []) (rest := [.ref q1]) ⟨hx, hb, hml, hown, hts⟩ (c_o_init l D q1 H1.size hlt1) ⟨gw_B (n := 0) hts ml_w_39 k_o_init in_o (by decide +kernel) rfl rfl ⟨Nat.le_of_ble_eq_true rfl, Nat.le_of_ble_eq_true rfl⟩, rfl, hts _ im_o_init⟩ ⟨fun a U g mk q => ⟨q.1, q.2.1, va_K.moved (u := U) (U := U.calling g mk a) (Vm.Alike.refl U.vm) q.2.2.1, ol_N.same (u := U) (U := U.calling g mk a) rfl q.2.2.2.1, va_AO.moved (u := U) (U := U.calling g mk a) (Vm.Alike.refl U.vm) q.2.2.2.2.1, q.2.2.2.2.2⟩, fun U hU hW => ⟨rfl, by rw [hU], va_K.moved hW.alike hK, hN.warm hW, hAO.moved hW.alike, by rw [hU]; exact hP1⟩⟩ rfl rfl hl.1 rfl (lv_room (Nat.le_of_ble_eq_true rfl)) d_w_law_4 ⟨by show _ ≤ 814184; omega, by show _ ≤ 6653552; omega⟩) va_S.rf (fun q _ h => h) (fun q h => h) (fun q t H2 locs2 ht hvm hw hB hz2 hk2 hS2 => ?_)
  obtain ⟨G, u⟩ := q
  obtain ⟨eh, eD, hG, hO, hAG⟩ := hw
  obtain ⟨hKG, hPG⟩ := hB
  dsimp only at eh eD hG hO hAG hKG hPG
  rw [ht] at hPG
  have hKG := va_K.moved hvm.symm hKG
  refine va_forget (fun q hq => by rcases hS2.2.2 q hq with h | h <;> omega) ?_
  refine lv_astore_n (lv' := [(1, .ref q1), (0, .ref b)]) hx hb d_w_law_7 rfl hl (by decide) rfl (fun ls hl => ?_)
  refine va_new (A := fun q : Nat => H2.size ≤ q) (H0 := H2) (D := D) (ws := []) (ci := 2) (fs := [.int (nI 0), .null, .int (nI 0), .null]) (C := R_m) (T := F_m) (N := 4) hx hb hts i_m t_m t_m_ok hown (hts _ cl_w_40) (hts _ it_m) (hts _ in_m) hK va_none va_noneD va_S.rf (fun _ h => h) rfl (fun j hj => by rcases (show j = 0 ∨ j = 1 ∨ j = 2 ∨ j = 3 by omega) with rfl | rfl | rfl | rfl <;> rfl) (by show _ ≤ 814184; omega) (by show _ ≤ 6653552; omega) d_w_law_8 (fun q2 H3 hP3 hD3 hS3 => ?_)
  have hP3 : va_P D ol_cl [(q2, .inr (2, [.int (nI 0), .null, .int (nI 0), .null]))] H3 := hP3
  have hq2 : H2.size ≤ q2 := hD3.2 0 _ rfl
  have hz3 := hS3.1
  have hk3 : ∀ z : Nat, z < H2.size → H3[z]? = H2[z]? := fun z hz => hS3.2.1 z hz (Nat.not_le.mpr hz)
  have hlt3 : q2 < H3.size := (hP3 0 _ rfl).lt
  refine lv_dup hx hb d_w_law_11 rfl ?_
  refine va_callv (A0 := fun z : Nat => z = q2 ∨ H3.size ≤ z) (H0 := H3) (va_runI (As := []) (rest := [.ref q2]) ⟨hx, hb, hml, hown, hts⟩ (c_m_init l D q2 H3.size hlt3) ⟨gw_B (n := 0) hts ml_w_42 k_m_init in_m (by decide +kernel) rfl rfl ⟨Nat.le_of_ble_eq_true rfl, Nat.le_of_ble_eq_true rfl⟩, rfl, hts _ im_m_init⟩ ⟨fun a U g mk q => ⟨q.1, q.2.1, va_K.moved (u := U) (U := U.calling g mk a) (Vm.Alike.refl U.vm) q.2.2.1, q.2.2.2⟩, fun U hU hW => ⟨rfl, by rw [hU], va_K.moved hW.alike hK, by rw [hU]; exact hP3⟩⟩ rfl rfl hl.1 rfl (lv_room (Nat.le_of_ble_eq_true rfl)) d_w_law_12 ⟨by show _ ≤ 814184; omega, by show _ ≤ 6653552; omega⟩) va_S.rf (fun q _ h => h) (fun q h => h) (fun q t H4 locs4 ht hvm hw hB hz4 hk4 hS4 => ?_)
  obtain ⟨B, ms⟩ := q
  obtain ⟨ehm, eDm, hBk, hms, hAB⟩ := hw
  obtain ⟨hKB, hPB⟩ := hB
  dsimp only at ehm eDm hBk hms hAB hKB hPB
  rw [ht] at hPB
  have hKB := va_K.moved hvm.symm hKB
  refine va_forget (fun q hq => by rcases hS4.2.2 q hq with h | h <;> omega) ?_
  refine lv_astore_n (lv' := [(2, .ref q2), (1, .ref q1), (0, .ref b)]) hx hb d_w_law_15 rfl hl (by decide) rfl (fun ls hl => ?_)
  refine lv_iconst (v := (nI 1)) hx hb d_w_law_16 (by decide) ?_
  refine va_newa (A := fun q : Nat => H4.size ≤ q) (H0 := H4) (D := D) (ws := []) (atype := .long) (ty := .long) (a0 := (1, .inr (.inl (fun _ => 0)))) (N' := 1) hx hb (hts _ ac_long) rfl hKG va_none va_noneD va_S.rf (fun _ h => h) (fun cA => rfl) (by decide) (by decide) (by decide) (by show _ ≤ 814184; omega) (by show _ ≤ 6653552; omega) d_w_law_17 (fun q3 co H5 hKL hP5 hD5 hS5 => ?_)
  have hP5 : va_P D ol_cl [(q3, .inl (co, 1, .inr (.inl (fun _ => 0))))] H5 := hP5
  have hq3 : H4.size ≤ q3 := hD5.2 0 _ rfl
  have hz5 := hS5.1
  have hk5 : ∀ z : Nat, z < H4.size → H5[z]? = H4[z]? := fun z hz => hS5.2.1 z hz (Nat.not_le.mpr hz)
  have hoa : ∀ z, ol_A G z → z < H2.size ∧ s.heap.size ≤ z := fun z hz => ⟨hPG.lt hG hz, by rcases hAG z hz with h | h <;> omega⟩
  have hma : ∀ z, om_A B z → z < H4.size ∧ H2.size ≤ z := fun z hz => ⟨hPB.lt hz, by rcases hAB z hz with h | h <;> omega⟩
  have hPG5 : ol_P G u H5 := hPG.kept hG (fun z hz => by
    have := hoa z hz
    rw [hk5 z (by omega), hk4 z (by omega) (by omega), hk3 z (by omega)])
  have hPB5 : om_P B ms H5 := hPB.kept (fun z hz => hk5 z (hma z hz).1)
  have hW : lw_W G B co q3 u (fun _ => 0) ms H5 := by
    refine ⟨fun k q hk => ?_, hPB5⟩
    match k, hk with
    | 0, hk => cases hk; exact hP5 0 _ rfl
    | k + 1, hk => exact hPG5 k q hk
  have hS : va_S (fun q : Nat => s.heap.size ≤ q) s.heap H5 [] := ⟨by omega, fun z hz _ => by
    rw [hk5 z (by omega), hk4 z (by omega) (by omega), hk3 z (by omega), hk2 z (by omega) (by omega), hk1 z hz], fun q hq => by simp at hq⟩
  have F : lw_F p s m #[Value.ref b] c G B co q3 := by
    refine ⟨⟨hx, hb, hml, hown, hts⟩, by rw [eD]; exact hKL, by rw [eDm]; exact hKB, hN, hTW, hG, hBk, fun z hz => ?_, fun z hz => ?_, fun hz => ?_, fun z hz h => ?_⟩
    · rcases hz with h | h
      · exact (hoa z h).2
      · omega
    · have := hma z hz; omega
    · have := hoa q3 hz; omega
    · have h1 := hma z hz
      rcases h with h | h
      · have := hoa z h; omega
      · omega
  have hM : Mi ms.2.1 ms.2.2.1 [0] := by
    rw [hms]
    refine ⟨rfl, fun i x hx => ?_⟩
    have h1 := (List.getElem?_eq_some_iff.mp hx).1
    rw [show i = 0 by simp at h1; omega] at hx
    cases hx; rfl
  refine lv_astore_n (lv' := [(3, .ref q3), (2, .ref q2), (1, .ref q1), (0, .ref b)]) hx hb d_w_law_19 rfl hl (by decide) rfl (fun ls hl => ?_)
  refine lv_iconst (v := (nI 0)) hx hb d_w_law_20 (by decide) ?_
  refine lv_istore (lv' := [(4, .int (nI 0)), (3, .ref q3), (2, .ref q2), (1, .ref q1), (0, .ref b)]) hx hb d_w_law_21 hl (by decide) rfl (fun ls hl => ?_)
  refine W.widen (k := 1007 + 0) (n := 9010 + 6 * 0) (by omega) (by omega) ?_
  subst eh
  subst ehm
  exact law_loop hfl hr hlocks F hX hbl hL (L + 4) 0 (by omega) (by omega) u _ ms [0] H5 [] ls hO hM hW hS (lv_sub hl [0, 1, 2, 3, 4] rfl)
set_option maxHeartbeats 4000000 in
theorem lw_walk (l : Launch) (hfl : l.flags = flags0) (b : Addr) (xs : List Int32) : MetFree l x (headSpec (Jvm.Cond.code x code maxLocals ret :: tables_1) room_1) (lw_P b xs) (fun _ _ _ _ _ => True) lw_Q := by
  refine MetFree.of_bodyS (code := code) (maxLocals := maxLocals) (ret := ret) (by decide) ?_ ?_
  · intro args s m h hn
    obtain ⟨meth, c, h1, h2, h3, h4, h5, h6, -, -⟩ := Cond.code_spec hn (atoms_spec (ws := Jvm.Cond.code x code maxLocals ret :: tables_1) h _ List.mem_cons_self)
    exact ⟨meth, c, h1, h2, h3, h4, h5, h6⟩
  · intro p e s m args below meth c s₁ B hml0 hP _
    obtain ⟨rfl, hx, hbd, hgv⟩ := hP
    obtain ⟨scr, harrAt, hlist, hof, hsmall⟩ := hx
    obtain ⟨hcb, hkn, -, -⟩ := State.arrayAt?_spec harrAt
    have hown : s.vm.findClass R_law = some m.cls := findClass_of_methodNamed B.named
    have hts0 : ∀ c ∈ (Jvm.Cond.code x code maxLocals ret :: tables_1), c.before #[Value.ref b] s = true := atoms_spec (ws := Jvm.Cond.code x code maxLocals ret :: tables_1) B.pre
    have hts : ∀ w ∈ lw_tbl, w.before #[Value.ref b] s = true := k2_hts_sels lw_privs (fun w hw => hts0 w (List.mem_cons_of_mem _ hw)) lw_privs_ok
    have hml : c.maxLocals = 7 := B.maxLocals_eq (hts0 _ List.mem_cons_self)
    have X₀ : Stand p l e room_1 s m #[Value.ref b] below meth c s₁ [] 0 0 := Stand.of_body B
    have hh0 : s₁.heap = s.heap := by rw [B.state]; rfl
    have hsz : scr.slots.size = xs.length := by rw [← Array.length_toList, hlist, List.length_map]
    have hval : ∀ j : Nat, j < xs.length → scr.slots[j]? = some (.int (xs.getD j 0)) := fun j hj => by
      rw [← Array.getElem?_toList, hlist]
      simp [hj]
    have hbl : b < s.heap.size := (Array.getElem?_eq_some_iff.mp hcb).1
    have hX : va_X b xs.length (fun j => xs.getD j 0) s s.heap := ⟨scr, hcb, hof, hkn, hsz, hval⟩
    have K : W p l e room_1 s m #[Value.ref b] below meth c s₁.heap [] 0 0 (lw_Z below #[Value.ref b] s) (entryFrame m ([Value.ref b] : List Value).toArray 7) := by
      rw [hh0]
      exact whole_start l hfl hbd ⟨B.exec, B.bytes, B.returns, hml, hown, hts, hX, hbl, B.notSynchronized, hgv⟩
    obtain ⟨t, a1, o, b1, b2, b3⟩ := K s₁ rfl X₀
    exact ⟨t, o, a1, b1, b2, b3⟩
theorem lw_pre_spec {args : Array Value} {s : State} (h : (Jvm.Cond.and given_1 narrow_1).before args s = true) (hr : rest_1_c.before args s = true) : ∃ (b : Addr) (xs : List Int32), lw_P b xs args s := by
  have hs := flat_of_before _ h
  have hq := flat_of_before _ hr
  have hc : (Cond.count 1).before args s = true := hs _ (by decide +kernel)
  have harr : (Cond.arrayOf (.arg 0) .int).before args s = true := hs _ (by decide +kernel)
  have hle : (Cond.le (.length (.arg 0)) (.int 2048)).before args s = true := hs _ (by decide +kernel)
  have hlen : (Cond.isInt (.length (.arg 0))).before args s = true := hq _ (by decide +kernel)
  have hall : (Cond.all (.arg 0) (.isInt (.elem (.arg 0) (.index 0)))).before args s = true := hq _ (by decide +kernel)
  obtain ⟨b, xs, hb, hx⟩ := State.ints_of_pre rfl harr hlen hall
  have hsm : xs.length < 2 ^ 31 := hx.choose_spec.2.2.2
  have hev : (Term.length (.arg 0)).eval args s none [] s = some (.int xs.length.toInt32) := hx.length_eval hb
  have hv := Cond.le_ints hev (show (Term.int 2048).eval args s none [] s = some (.int 2048) from rfl)
  have hd : xs.length.toInt32 ≤ 2048 := by
    simpa [Cond.before, Cond.holds, hv] using hle
  have hN : xs.length ≤ 2048 := (Int32.ofNat_le_ofNat hsm (by decide)).mp (show Int32.ofNat xs.length ≤ Int32.ofNat 2048 from hd)
  exact ⟨b, xs, Cond.one_arg hc (show args[0]? = some (.ref b) from hb), hx, hN, h⟩
theorem lw_comes (l : Launch) (hfl : l.flags = flags0) : Comes l x (Jvm.Cond.code x code maxLocals ret :: tables_1) room_1 (fun tb e args s => Calls_1 tb e args s ∧ rest_1 tb e args s ∧ Pre_1 tb e args s)
    (fun _ _ args s o t => lw_Q args s o t) := by
  intro p e ha hc hk s m args below hf hfit hheap happ hpre
  obtain ⟨b, xs, hP⟩ := lw_pre_spec hpre.2.2 hpre.2.1
  obtain ⟨k, o, h1, h2, h3, hQ⟩ := lw_walk l hfl b xs p e ha hc hk s m args below hf ((Spec.applies_iff_loose hf).mp happ).1 hP trivial
  exact ⟨k, o, h1, h2, h3, hQ⟩
theorem lw_frame {s t : State} {o : Outcome} {args : Array Value} (h : Framed s o t [] 814184 6653552) :
    Framed s o t (fieldLocs frame_1_writes args s ++ arrayLocs frame_1_arrays args s ++ staticLocs frame_1_statics s) 814184 6653552 := h
theorem lw_limb (L : Cond) (hL : ∀ (args : Array Value) (s t : State), L.after args s (.returned (some (.int 1))) t = true) :
    ArmFor flags0 classFile x code maxLocals ret World_1 tables_1 room_1 Calls_1 rest_1 Pre_1
      (fun tb e a s o t => postC L tb e a s o t ∧ Framed s o t (fieldLocs frame_1_writes a s ++ arrayLocs frame_1_arrays a s ++ staticLocs frame_1_statics s) 814184 6653552) := by
  intro l hfl _ _ p e ha hc hk s m args below hf hfit hheap happ hpre
  obtain ⟨k, o, h1, h2, h3, rfl, hF⟩ := lw_comes l hfl p e ha hc hk s m args below hf hfit hheap happ hpre
  exact ⟨k, _, h1, h2, h3, hL args s _, lw_frame hF⟩
theorem i_vc : Claimed_1_1 ∧ Claimed_1_2 := ⟨lw_limb limb_1_1 (fun args s t => by simp [limb_1_1, Cond.after, Cond.holds, Cond.value]), lw_limb limb_1_2 (fun args s t => Cond.after_iff.mpr (by
  first | (rw [show limb_1_2 = Cond.eq .result (.int 1) from rfl, Cond.eq_ints (x := 1) (y := 1) rfl rfl]; simp; done) | (simp [limb_1_2, Cond.value, Term.eval]; done)))⟩
end
