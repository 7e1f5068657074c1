/-! NAMES, printed by gen/names.py: the classes with their tracked fields, the methods, what a row of an instruction table says -/
def F_0 : u_T := fun k => match k with
  | 0 => ("GoodsTree", "reader", "LGoodsTree$Reader;", true)
  | 1 => ("GoodsTree", "editions", "[LGoodsTree$Edition;", true)
  | 2 => ("GoodsTree", "notes", "Ljava/util/ArrayList;", true)
  | 3 => ("GoodsTree", "links", "Ljava/util/ArrayList;", true)
  | 4 => ("GoodsTree", "present", "I", false)
  | 5 => ("GoodsTree", "why", "I", false)
  | 6 => ("GoodsTree", "where", "I", false)
  | 7 => ("GoodsTree", "foundCodes", "[J", true)
  | 8 => ("GoodsTree", "foundPoints", "[I", true)
  | _ => ("GoodsTree", "found", "I", false)
def F_1 : u_T := fun k => match k with
  | 0 => ("GoodsTree$Reader", "text", "[C", true)
  | 1 => ("GoodsTree$Reader", "size", "I", false)
  | _ => ("GoodsTree$Reader", "at", "I", false)
def F_2 : u_T := fun k => match k with
  | 0 => ("GoodsTree$Edition", "number", "I", true)
  | _ => ("GoodsTree$Edition", "rows", "Ljava/util/ArrayList;", false)
def F_3 : u_T := fun k => match k with
  | 0 => ("GoodsTree$Row", "code", "J", true)
  | 1 => ("GoodsTree$Row", "dashes", "I", true)
  | 2 => ("GoodsTree$Row", "place", "I", true)
  | 3 => ("GoodsTree$Row", "above", "LGoodsTree$Row;", true)
  | 4 => ("GoodsTree$Row", "below", "Ljava/util/ArrayList;", true)
  | 5 => ("GoodsTree$Row", "words", "[J", true)
  | _ => ("GoodsTree$Row", "size", "I", false)
def F_4 : u_T := fun k => match k with
  | 0 => ("GoodsTree$Note", "in", "LGoodsTree$Edition;", true)
  | 1 => ("GoodsTree$Note", "of", "LGoodsTree$Row;", true)
  | 2 => ("GoodsTree$Note", "kind", "I", true)
  | _ => ("GoodsTree$Note", "other", "LGoodsTree$Row;", true)
def F_5 : u_T := fun k => match k with
  | 0 => ("GoodsTree$Link", "from", "LGoodsTree$Edition;", true)
  | 1 => ("GoodsTree$Link", "code", "LGoodsTree$Row;", true)
  | 2 => ("GoodsTree$Link", "to", "LGoodsTree$Edition;", true)
  | _ => ("GoodsTree$Link", "other", "LGoodsTree$Row;", true)
def F_6 : u_T := fun k => match k with
  | 0 => ("java/util/AbstractList", "modCount", "I", false)
  | 1 => ("java/util/ArrayList", "elementData", "[Ljava/lang/Object;", false)
  | _ => ("java/util/ArrayList", "size", "I", false)
def F_7 : u_T := fun k => match k with
  | 0 => ("GoodsTreeModel", "thrown", "I", false)
  | 1 => ("GoodsTreeModel", "text", "[I", true)
  | 2 => ("GoodsTreeModel", "signs", "I", false)
  | 3 => ("GoodsTreeModel", "present", "I", false)
  | 4 => ("GoodsTreeModel", "failed", "I", false)
  | 5 => ("GoodsTreeModel", "failedAt", "I", false)
  | 6 => ("GoodsTreeModel", "rows", "[I", true)
  | 7 => ("GoodsTreeModel", "code", "[J", true)
  | 8 => ("GoodsTreeModel", "dashes", "[I", true)
  | 9 => ("GoodsTreeModel", "words", "[I", true)
  | 10 => ("GoodsTreeModel", "word", "[J", true)
  | 11 => ("GoodsTreeModel", "notes", "I", false)
  | 12 => ("GoodsTreeModel", "noteEdition", "[I", true)
  | 13 => ("GoodsTreeModel", "noteCode", "[J", true)
  | 14 => ("GoodsTreeModel", "noteKind", "[I", true)
  | 15 => ("GoodsTreeModel", "noteOther", "[J", true)
  | 16 => ("GoodsTreeModel", "links", "I", false)
  | 17 => ("GoodsTreeModel", "linkFrom", "[I", true)
  | 18 => ("GoodsTreeModel", "linkCode", "[J", true)
  | 19 => ("GoodsTreeModel", "linkTo", "[I", true)
  | 20 => ("GoodsTreeModel", "linkOther", "[J", true)
  | 21 => ("GoodsTreeModel", "found", "I", false)
  | 22 => ("GoodsTreeModel", "foundCode", "[J", true)
  | 23 => ("GoodsTreeModel", "foundPoints", "[I", true)
  | 24 => ("GoodsTreeModel", "asked", "[J", true)
  | 25 => ("GoodsTreeModel", "askedCount", "I", false)
  | _ => ("GoodsTreeModel", "points", "[I", true)
def F_8 : u_T := fun k => match k with
  | 0 => ("GoodsTree$Failure", "why", "I", true)
  | _ => ("GoodsTree$Failure", "place", "I", true)
def F_9 : u_T := fun k => match k with
  | _ => ("java/lang/IllegalArgumentException", "none", "I", false)
def F_10 : u_T := fun k => match k with
  | _ => ("java/lang/IllegalStateException", "none", "I", false)
def F_11 : u_T := fun k => match k with
  | _ => ("java/lang/IndexOutOfBoundsException", "none", "I", false)
abbrev cl_ : List vw_C := [("GoodsTree", F_0, 10), ("GoodsTree$Reader", F_1, 3), ("GoodsTree$Edition", F_2, 2), ("GoodsTree$Row", F_3, 7), ("GoodsTree$Note", F_4, 4), ("GoodsTree$Link", F_5, 4), ("java/util/ArrayList", F_6, 3), ("GoodsTreeModel", F_7, 27), ("GoodsTree$Failure", F_8, 2), ("java/lang/IllegalArgumentException", F_9, 0), ("java/lang/IllegalStateException", F_10, 0), ("java/lang/IndexOutOfBoundsException", F_11, 0)]
def ft : Nat → Nat → FieldType := fun ci k => match ci with
  | 0 => (match k with | 0 => (.object "GoodsTree$Reader") | 1 => (.array (.object "GoodsTree$Edition")) | 2 => (.object "java/util/ArrayList") | 3 => (.object "java/util/ArrayList") | 4 => .int | 5 => .int | 6 => .int | 7 => (.array .long) | 8 => (.array .int) | _ => .int)
  | 1 => (match k with | 0 => (.array .char) | 1 => .int | _ => .int)
  | 2 => (match k with | 0 => .int | _ => (.object "java/util/ArrayList"))
  | 3 => (match k with | 0 => .long | 1 => .int | 2 => .int | 3 => (.object "GoodsTree$Row") | 4 => (.object "java/util/ArrayList") | 5 => (.array .long) | _ => .int)
  | 4 => (match k with | 0 => (.object "GoodsTree$Edition") | 1 => (.object "GoodsTree$Row") | 2 => .int | _ => (.object "GoodsTree$Row"))
  | 5 => (match k with | 0 => (.object "GoodsTree$Edition") | 1 => (.object "GoodsTree$Row") | 2 => (.object "GoodsTree$Edition") | _ => (.object "GoodsTree$Row"))
  | 6 => (match k with | 0 => .int | 1 => (.array (.object "java/lang/Object")) | _ => .int)
  | 7 => (match k with | 0 => .int | 1 => (.array .int) | 2 => .int | 3 => .int | 4 => .int | 5 => .int | 6 => (.array .int) | 7 => (.array .long) | 8 => (.array .int) | 9 => (.array .int) | 10 => (.array .long) | 11 => .int | 12 => (.array .int) | 13 => (.array .long) | 14 => (.array .int) | 15 => (.array .long) | 16 => .int | 17 => (.array .int) | 18 => (.array .long) | 19 => (.array .int) | 20 => (.array .long) | 21 => .int | 22 => (.array .long) | 23 => (.array .int) | 24 => (.array .long) | 25 => .int | _ => (.array .int))
  | 8 => (match k with | 0 => .int | _ => .int)
  | _ => .int
/-- a method: its name, bytes, locals, what it returns, its handlers -/
abbrev mt_T : Type := MethodName × ByteArray × Nat × Option FieldType × List (Nat × Nat × Nat × Nat)
def M_g_init : mt_T := (⟨"GoodsTree", "<init>", "()V"⟩, prog_1_method_3_code, 2, none, [])
def M_r_init : mt_T := (⟨"GoodsTree$Reader", "<init>", "()V"⟩, prog_6_method_1_code, 1, none, [])
def M_al_init : mt_T := (⟨"java/util/ArrayList", "<init>", "()V"⟩, prog_23_method_2_code, 1, none, [])
def M_abl_init : mt_T := (⟨"java/util/AbstractList", "<init>", "()V"⟩, prog_22_method_1_code, 1, none, [])
def M_abc_init : mt_T := (⟨"java/util/AbstractCollection", "<init>", "()V"⟩, prog_21_method_1_code, 1, none, [])
def M_e_init : mt_T := (⟨"GoodsTree$Edition", "<init>", "(I)V"⟩, prog_2_method_1_code, 2, none, [])
def M_g_sign : mt_T := (⟨"GoodsTree", "sign", "(I)Z"⟩, prog_1_method_8_code, 4, some .boolean, [])
def M_g_in : mt_T := (⟨"GoodsTree", "in", "(III)Z"⟩, prog_1_method_1_code, 3, some .boolean, [])
def M_g_failure : mt_T := (⟨"GoodsTree", "failure", "(I)I"⟩, prog_1_method_12_code, 2, some .int, [])
def M_g_edition : mt_T := (⟨"GoodsTree", "edition", "(I)Z"⟩, prog_1_method_13_code, 2, some .boolean, [])
def M_g_isEdition : mt_T := (⟨"GoodsTree", "isEdition", "(I)Z"⟩, prog_1_method_6_code, 1, some .boolean, [])
def M_g_find : mt_T := (⟨"GoodsTree", "find", "(J)I"⟩, prog_1_method_15_code, 4, some .int, [])
def M_g_now : mt_T := (⟨"GoodsTree", "now", "()LGoodsTree$Edition;"⟩, prog_1_method_7_code, 1, some (.object "GoodsTree$Edition"), [])
def M_e_find : mt_T := (⟨"GoodsTree$Edition", "find", "(J)LGoodsTree$Row;"⟩, prog_2_method_2_code, 4, some (.object "GoodsTree$Row"), [])
def M_al_size : mt_T := (⟨"java/util/ArrayList", "size", "()I"⟩, prog_23_method_8_code, 1, some .int, [])
def M_al_get : mt_T := (⟨"java/util/ArrayList", "get", "(I)Ljava/lang/Object;"⟩, prog_23_method_20_code, 2, some (.object "java/lang/Object"), [])
def M_ob_checkIndex : mt_T := (⟨"java/util/Objects", "checkIndex", "(II)I"⟩, prog_27_method_17_code, 2, some .int, [])
def M_pr_checkIndex : mt_T := (⟨"jdk/internal/util/Preconditions", "checkIndex", "(IILjava/util/function/BiFunction;)I"⟩, prog_31_method_11_code, 3, some .int, [])
def M_al_elementData : mt_T := (⟨"java/util/ArrayList", "elementData", "(I)Ljava/lang/Object;"⟩, prog_23_method_18_code, 2, some (.object "java/lang/Object"), [])
def M_g_link : mt_T := (⟨"GoodsTree", "link", "(IJIJ)Z"⟩, prog_1_method_19_code, 11, some .boolean, [])
def M_k_init : mt_T := (⟨"GoodsTree$Link", "<init>", "(LGoodsTree$Edition;LGoodsTree$Row;LGoodsTree$Edition;LGoodsTree$Row;)V"⟩, prog_4_method_1_code, 5, none, [])
def M_al_add : mt_T := (⟨"java/util/ArrayList", "add", "(Ljava/lang/Object;)Z"⟩, prog_23_method_25_code, 2, some .boolean, [])
def M_al_add2 : mt_T := (⟨"java/util/ArrayList", "add", "(Ljava/lang/Object;[Ljava/lang/Object;I)V"⟩, prog_23_method_24_code, 4, none, [])
def M_al_grow : mt_T := (⟨"java/util/ArrayList", "grow", "()[Ljava/lang/Object;"⟩, prog_23_method_7_code, 1, some (.array (.object "java/lang/Object")), [])
def M_al_grow2 : mt_T := (⟨"java/util/ArrayList", "grow", "(I)[Ljava/lang/Object;"⟩, prog_23_method_6_code, 4, some (.array (.object "java/lang/Object")), [])
def M_as_newLength : mt_T := (⟨"jdk/internal/util/ArraysSupport", "newLength", "(III)I"⟩, prog_30_method_27_code, 4, some .int, [])
def M_ma_max : mt_T := (⟨"java/lang/Math", "max", "(II)I"⟩, prog_17_method_65_code, 2, some .int, [])
def M_as_hugeLength : mt_T := (⟨"jdk/internal/util/ArraysSupport", "hugeLength", "(II)I"⟩, prog_30_method_28_code, 3, some .int, [])
def M_ar_copyOf : mt_T := (⟨"java/util/Arrays", "copyOf", "([Ljava/lang/Object;I)[Ljava/lang/Object;"⟩, prog_24_method_119_code, 2, some (.array (.object "java/lang/Object")), [])
def M_ar_copyOf2 : mt_T := (⟨"java/util/Arrays", "copyOf", "([Ljava/lang/Object;ILjava/lang/Class;)[Ljava/lang/Object;"⟩, prog_24_method_120_code, 4, some (.array (.object "java/lang/Object")), [])
def M_ma_min : mt_T := (⟨"java/lang/Math", "min", "(II)I"⟩, prog_17_method_69_code, 2, some .int, [])
def M_g_count : mt_T := (⟨"GoodsTree", "count", "(I)I"⟩, prog_1_method_31_code, 2, some .int, [])
def M_e_chapters : mt_T := (⟨"GoodsTree$Edition", "chapters", "()I"⟩, prog_2_method_3_code, 3, some .int, [])
def M_l_read : mt_T := (⟨"GoodsTreeLaw", "read", "(LGoodsTree;[J)I"⟩, method_3_code, 3, some .int, [(0, 8, 11, 13)])
def M_g_read : mt_T := (⟨"GoodsTree", "read", "()I"⟩, prog_1_method_11_code, 3, some .int, [(2, 26, 29, 1)])
def M_r_rows : mt_T := (⟨"GoodsTree$Reader", "rows", "()Ljava/util/ArrayList;"⟩, prog_6_method_17_code, 2, some (.object "java/util/ArrayList"), [])
def M_r_oneRow : mt_T := (⟨"GoodsTree$Reader", "oneRow", "(Ljava/util/ArrayList;)V"⟩, prog_6_method_14_code, 8, none, [])
def M_r_dashes : mt_T := (⟨"GoodsTree$Reader", "dashes", "()I"⟩, prog_6_method_6_code, 2, some .int, [])
def M_r_look : mt_T := (⟨"GoodsTree$Reader", "look", "()I"⟩, prog_6_method_2_code, 1, some .int, [])
def M_r_isDigit : mt_T := (⟨"GoodsTree$Reader", "isDigit", "()Z"⟩, prog_6_method_3_code, 1, some .boolean, [])
def M_g_need : mt_T := (⟨"GoodsTree", "need", "(ZII)V"⟩, prog_1_method_2_code, 3, none, [])
def M_f_init : mt_T := (⟨"GoodsTree$Failure", "<init>", "(II)V"⟩, prog_3_method_1_code, 3, none, [])
def M_rte_init : mt_T := (⟨"java/lang/RuntimeException", "<init>", "()V"⟩, prog_18_method_1_code, 1, none, [])
def M_exc_init : mt_T := (⟨"java/lang/Exception", "<init>", "()V"⟩, prog_12_method_1_code, 1, none, [])
def M_al_isEmpty : mt_T := (⟨"java/util/ArrayList", "isEmpty", "()Z"⟩, prog_23_method_9_code, 1, some .boolean, [])
def M_r_above : mt_T := (⟨"GoodsTree$Reader", "above", "(Ljava/util/ArrayList;I)LGoodsTree$Row;"⟩, prog_6_method_10_code, 3, some (.object "GoodsTree$Row"), [])
def M_r_codeAt : mt_T := (⟨"GoodsTree$Reader", "codeAt", "(Ljava/util/ArrayList;LGoodsTree$Row;)J"⟩, prog_6_method_15_code, 6, some .long, [])
def M_r_peek : mt_T := (⟨"GoodsTree$Reader", "peek", "()J"⟩, prog_6_method_16_code, 4, some .long, [])
def M_r_length : mt_T := (⟨"GoodsTree$Reader", "length", "(J)I"⟩, prog_6_method_13_code, 5, some .int, [])
def M_r_begins : mt_T := (⟨"GoodsTree$Reader", "begins", "(JJ)Z"⟩, prog_6_method_11_code, 6, some .boolean, [])
def M_r_comesBehind : mt_T := (⟨"GoodsTree$Reader", "comesBehind", "(JJ)Z"⟩, prog_6_method_12_code, 9, some .boolean, [])
def M_r_code : mt_T := (⟨"GoodsTree$Reader", "code", "()J"⟩, prog_6_method_7_code, 4, some .long, [])
def M_w_init : mt_T := (⟨"GoodsTree$Row", "<init>", "(JIILGoodsTree$Row;)V"⟩, prog_7_method_1_code, 6, none, [])
def M_r_words : mt_T := (⟨"GoodsTree$Reader", "words", "([J)I"⟩, prog_6_method_9_code, 3, some .int, [])
def M_r_word : mt_T := (⟨"GoodsTree$Reader", "word", "()J"⟩, prog_6_method_8_code, 4, some .long, [])
def M_r_isLetter : mt_T := (⟨"GoodsTree$Reader", "isLetter", "()Z"⟩, prog_6_method_4_code, 1, some .boolean, [])
def M_r_take : mt_T := (⟨"GoodsTree$Reader", "take", "(I)V"⟩, prog_6_method_5_code, 2, none, [])
def M_g_forget : mt_T := (⟨"GoodsTree", "forget", "(LGoodsTree$Edition;)V"⟩, prog_1_method_9_code, 3, none, [])
def M_al_remove : mt_T := (⟨"java/util/ArrayList", "remove", "(I)Ljava/lang/Object;"⟩, prog_23_method_29_code, 4, some (.object "java/lang/Object"), [])
def M_al_fastRemove : mt_T := (⟨"java/util/ArrayList", "fastRemove", "([Ljava/lang/Object;I)V"⟩, prog_23_method_39_code, 4, none, [])
def M_g_fail : mt_T := (⟨"GoodsTree", "fail", "(LGoodsTree$Failure;)V"⟩, prog_1_method_10_code, 2, none, [])
def M_g_may : mt_T := (⟨"GoodsTree", "may", "(Z)V"⟩, prog_1_method_5_code, 1, none, [])
def M_ise_init : mt_T := (⟨"java/lang/IllegalStateException", "<init>", "()V"⟩, prog_14_method_1_code, 1, none, [])
def M_l_row : mt_T := (⟨"GoodsTreeLaw", "row", "(LGoodsTree;II[J)I"⟩, method_4_code, 5, some .int, [(0, 9, 12, 19)])
def M_g_row : mt_T := (⟨"GoodsTree", "row", "(II)J"⟩, prog_1_method_14_code, 4, some .long, [])
def M_ioe_init : mt_T := (⟨"java/lang/IndexOutOfBoundsException", "<init>", "()V"⟩, prog_15_method_1_code, 1, none, [])
def M_l_note : mt_T := (⟨"GoodsTreeLaw", "note", "(LGoodsTree;JIJ[J)I"⟩, method_5_code, 8, some .int, [(0, 13, 16, 25), (0, 13, 20, 13)])
def M_g_note : mt_T := (⟨"GoodsTree", "note", "(JIJ)I"⟩, prog_1_method_17_code, 10, some .int, [])
def M_g_allow : mt_T := (⟨"GoodsTree", "allow", "(Z)V"⟩, prog_1_method_4_code, 1, none, [])
def M_iae_init : mt_T := (⟨"java/lang/IllegalArgumentException", "<init>", "()V"⟩, prog_13_method_1_code, 1, none, [])
def M_n_init : mt_T := (⟨"GoodsTree$Note", "<init>", "(LGoodsTree$Edition;LGoodsTree$Row;ILGoodsTree$Row;)V"⟩, prog_5_method_1_code, 5, none, [])
def M_g_notesOf : mt_T := (⟨"GoodsTree", "notesOf", "(LGoodsTree$Edition;)I"⟩, prog_1_method_16_code, 4, some .int, [])
def M_l_noted : mt_T := (⟨"GoodsTreeLaw", "noted", "(LGoodsTree;JI[J)I"⟩, method_6_code, 6, some .int, [(0, 11, 14, 25)])
def M_g_noted : mt_T := (⟨"GoodsTree", "noted", "(JI)I"⟩, prog_1_method_18_code, 7, some .int, [])
def M_l_became : mt_T := (⟨"GoodsTreeLaw", "became", "(LGoodsTree;IJI[J)I"⟩, method_7_code, 7, some .int, [(0, 13, 16, 25)])
def M_g_became : mt_T := (⟨"GoodsTree", "became", "(IJI)I"⟩, prog_1_method_23_code, 8, some .int, [])
def M_g_rowOf : mt_T := (⟨"GoodsTree", "rowOf", "(IJI)LGoodsTree$Row;"⟩, prog_1_method_20_code, 6, some (.object "GoodsTree$Row"), [])
def M_g_linksOf : mt_T := (⟨"GoodsTree", "linksOf", "(LGoodsTree$Row;LGoodsTree$Edition;)I"⟩, prog_1_method_21_code, 5, some .int, [])
def M_g_isJoined : mt_T := (⟨"GoodsTree", "isJoined", "(LGoodsTree$Row;LGoodsTree$Edition;LGoodsTree$Edition;)Z"⟩, prog_1_method_22_code, 8, some .boolean, [])
def M_l_linked : mt_T := (⟨"GoodsTreeLaw", "linked", "(LGoodsTree;IJII[J)I"⟩, method_8_code, 8, some .int, [(0, 14, 17, 25)])
def M_g_linked : mt_T := (⟨"GoodsTree", "linked", "(IJII)J"⟩, prog_1_method_24_code, 9, some .long, [])
def M_l_lost : mt_T := (⟨"GoodsTreeLaw", "lost", "(LGoodsTree;II[J)I"⟩, method_9_code, 5, some .int, [(0, 10, 13, 25)])
def M_g_lost : mt_T := (⟨"GoodsTree", "lost", "(II)I"⟩, prog_1_method_25_code, 6, some .int, [])
def M_l_search : mt_T := (⟨"GoodsTreeLaw", "search", "(LGoodsTree;[J)I"⟩, method_10_code, 3, some .int, [(0, 8, 11, 13)])
def M_g_search : mt_T := (⟨"GoodsTree", "search", "()I"⟩, prog_1_method_29_code, 4, some .int, [(2, 63, 66, 1)])
def M_g_searchFor : mt_T := (⟨"GoodsTree", "searchFor", "([JI)V"⟩, prog_1_method_28_code, 7, none, [])
def M_w_points : mt_T := (⟨"GoodsTree$Row", "points", "(J)I"⟩, prog_7_method_3_code, 4, some .int, [])
def M_w_has : mt_T := (⟨"GoodsTree$Row", "has", "(J)Z"⟩, prog_7_method_2_code, 5, some .boolean, [])
def M_g_isLeftOut : mt_T := (⟨"GoodsTree", "isLeftOut", "(LGoodsTree$Row;)Z"⟩, prog_1_method_26_code, 4, some .boolean, [])
def M_w_isBelow : mt_T := (⟨"GoodsTree$Row", "isBelow", "(LGoodsTree$Row;)Z"⟩, prog_7_method_4_code, 3, some .boolean, [])
def M_g_put : mt_T := (⟨"GoodsTree", "put", "(LGoodsTree$Row;I)V"⟩, prog_1_method_27_code, 4, none, [])
def M_l_found : mt_T := (⟨"GoodsTreeLaw", "found", "(LGoodsTree;II[J)I"⟩, method_11_code, 5, some .int, [(0, 9, 12, 19)])
def M_g_found : mt_T := (⟨"GoodsTree", "found", "(II)J"⟩, prog_1_method_30_code, 3, some .long, [])
def M_m_init : mt_T := (⟨"GoodsTreeModel", "<init>", "()V"⟩, prog_9_method_1_code, 1, none, [])
def M_m_thrown : mt_T := (⟨"GoodsTreeModel", "thrown", "()I"⟩, prog_9_method_2_code, 1, some .int, [])
def M_m_sign : mt_T := (⟨"GoodsTreeModel", "sign", "(I)Z"⟩, prog_9_method_8_code, 3, some .boolean, [])
def M_m_in : mt_T := (⟨"GoodsTreeModel", "in", "(III)Z"⟩, prog_9_method_4_code, 3, some .boolean, [])
def M_m_isLetter : mt_T := (⟨"GoodsTreeModel", "isLetter", "(I)Z"⟩, prog_9_method_6_code, 1, some .boolean, [])
def M_m_isDigit : mt_T := (⟨"GoodsTreeModel", "isDigit", "(I)Z"⟩, prog_9_method_7_code, 1, some .boolean, [])
def M_m_read : mt_T := (⟨"GoodsTreeModel", "read", "()I"⟩, prog_9_method_22_code, 5, some .int, [])
def M_m_reads : mt_T := (⟨"GoodsTreeModel", "reads", "()Z"⟩, prog_9_method_20_code, 5, some .boolean, [])
def M_m_readsCode : mt_T := (⟨"GoodsTreeModel", "readsCode", "(I)Z"⟩, prog_9_method_18_code, 8, some .boolean, [])
def M_m_run : mt_T := (⟨"GoodsTreeModel", "run", "(II)I"⟩, prog_9_method_10_code, 4, some .int, [])
def M_m_fails : mt_T := (⟨"GoodsTreeModel", "fails", "(II)Z"⟩, prog_9_method_9_code, 3, some .boolean, [])
def M_m_codeAt : mt_T := (⟨"GoodsTreeModel", "codeAt", "(II)J"⟩, prog_9_method_12_code, 6, some .long, [])
def M_m_above : mt_T := (⟨"GoodsTreeModel", "above", "(II)I"⟩, prog_9_method_17_code, 4, some .int, [])
def M_m_begins : mt_T := (⟨"GoodsTreeModel", "begins", "(JJ)Z"⟩, prog_9_method_15_code, 4, some .boolean, [])
def M_m_digitsOf : mt_T := (⟨"GoodsTreeModel", "digitsOf", "(J)I"⟩, prog_9_method_13_code, 5, some .int, [])
def M_m_cut : mt_T := (⟨"GoodsTreeModel", "cut", "(JI)J"⟩, prog_9_method_14_code, 6, some .long, [])
def M_m_isBehind : mt_T := (⟨"GoodsTreeModel", "isBehind", "(JJ)Z"⟩, prog_9_method_16_code, 5, some .boolean, [])
def M_m_readsWords : mt_T := (⟨"GoodsTreeModel", "readsWords", "(III)I"⟩, prog_9_method_19_code, 7, some .int, [])
def M_m_wordAt : mt_T := (⟨"GoodsTreeModel", "wordAt", "(II)J"⟩, prog_9_method_11_code, 6, some .long, [])
def M_m_refuse : mt_T := (⟨"GoodsTreeModel", "refuse", "(I)I"⟩, prog_9_method_3_code, 2, some .int, [])
def M_m_forget : mt_T := (⟨"GoodsTreeModel", "forget", "(I)V"⟩, prog_9_method_21_code, 4, none, [])
def M_m_failure : mt_T := (⟨"GoodsTreeModel", "failure", "(I)I"⟩, prog_9_method_23_code, 2, some .int, [])
def M_m_edition : mt_T := (⟨"GoodsTreeModel", "edition", "(I)Z"⟩, prog_9_method_24_code, 2, some .boolean, [])
def M_m_isEdition : mt_T := (⟨"GoodsTreeModel", "isEdition", "(I)Z"⟩, prog_9_method_5_code, 1, some .boolean, [])
def M_m_row : mt_T := (⟨"GoodsTreeModel", "row", "(II)J"⟩, prog_9_method_26_code, 5, some .long, [])
def M_m_below : mt_T := (⟨"GoodsTreeModel", "below", "(II)I"⟩, prog_9_method_25_code, 5, some .int, [])
def M_m_find : mt_T := (⟨"GoodsTreeModel", "find", "(J)I"⟩, prog_9_method_28_code, 3, some .int, [])
def M_m_rowOf : mt_T := (⟨"GoodsTreeModel", "rowOf", "(IJ)I"⟩, prog_9_method_27_code, 6, some .int, [])
def M_m_note : mt_T := (⟨"GoodsTreeModel", "note", "(JIJ)I"⟩, prog_9_method_32_code, 6, some .int, [])
def M_m_hasNote : mt_T := (⟨"GoodsTreeModel", "hasNote", "(JIJ)Z"⟩, prog_9_method_31_code, 8, some .boolean, [])
def M_m_isNote : mt_T := (⟨"GoodsTreeModel", "isNote", "(IJIJ)Z"⟩, prog_9_method_30_code, 7, some .boolean, [])
def M_m_notesOf : mt_T := (⟨"GoodsTreeModel", "notesOf", "(I)I"⟩, prog_9_method_29_code, 4, some .int, [])
def M_m_noted : mt_T := (⟨"GoodsTreeModel", "noted", "(JI)I"⟩, prog_9_method_33_code, 7, some .int, [])
def M_m_link : mt_T := (⟨"GoodsTreeModel", "link", "(IJIJ)Z"⟩, prog_9_method_35_code, 8, some .boolean, [])
def M_m_isLink : mt_T := (⟨"GoodsTreeModel", "isLink", "(IIJI)Z"⟩, prog_9_method_34_code, 6, some .boolean, [])
def M_m_became : mt_T := (⟨"GoodsTreeModel", "became", "(IJI)I"⟩, prog_9_method_39_code, 8, some .int, [])
def M_m_isOf : mt_T := (⟨"GoodsTreeModel", "isOf", "(IJI)Z"⟩, prog_9_method_36_code, 5, some .boolean, [])
def M_m_linksOf : mt_T := (⟨"GoodsTreeModel", "linksOf", "(IJI)I"⟩, prog_9_method_37_code, 7, some .int, [])
def M_m_linksTo : mt_T := (⟨"GoodsTreeModel", "linksTo", "(IIJ)I"⟩, prog_9_method_38_code, 7, some .int, [])
def M_m_linked : mt_T := (⟨"GoodsTreeModel", "linked", "(IJII)J"⟩, prog_9_method_40_code, 8, some .long, [])
def M_m_lost : mt_T := (⟨"GoodsTreeModel", "lost", "(II)I"⟩, prog_9_method_41_code, 5, some .int, [])
def M_m_search : mt_T := (⟨"GoodsTreeModel", "search", "()I"⟩, prog_9_method_44_code, 4, some .int, [])
def M_m_pointsOf : mt_T := (⟨"GoodsTreeModel", "pointsOf", "(I)I"⟩, prog_9_method_43_code, 7, some .int, [])
def M_m_has : mt_T := (⟨"GoodsTreeModel", "has", "(IJ)Z"⟩, prog_9_method_42_code, 6, some .boolean, [])
def M_m_found : mt_T := (⟨"GoodsTreeModel", "found", "(II)J"⟩, prog_9_method_45_code, 3, some .long, [])
def M_m_count : mt_T := (⟨"GoodsTreeModel", "count", "(I)I"⟩, prog_9_method_46_code, 4, some .int, [])
def M_l_law : mt_T := (⟨"GoodsTreeLaw", "law", "([I)Z"⟩, code, 8, some .boolean, [])
def MT : List mt_T := [M_g_init, M_r_init, M_al_init, M_abl_init, M_abc_init, M_e_init, M_g_sign, M_g_in, M_g_failure, M_g_edition, M_g_isEdition, M_g_find, M_g_now, M_e_find, M_al_size, M_al_get, M_ob_checkIndex, M_pr_checkIndex, M_al_elementData, M_g_link, M_k_init, M_al_add, M_al_add2, M_al_grow, M_al_grow2, M_as_newLength, M_ma_max, M_as_hugeLength, M_ar_copyOf, M_ar_copyOf2, M_ma_min, M_g_count, M_e_chapters, M_l_read, M_g_read, M_r_rows, M_r_oneRow, M_r_dashes, M_r_look, M_r_isDigit, M_g_need, M_f_init, M_rte_init, M_exc_init, M_al_isEmpty, M_r_above, M_r_codeAt, M_r_peek, M_r_length, M_r_begins, M_r_comesBehind, M_r_code, M_w_init, M_r_words, M_r_word, M_r_isLetter, M_r_take, M_g_forget, M_al_remove, M_al_fastRemove, M_g_fail, M_g_may, M_ise_init, M_l_row, M_g_row, M_ioe_init, M_l_note, M_g_note, M_g_allow, M_iae_init, M_n_init, M_g_notesOf, M_l_noted, M_g_noted, M_l_became, M_g_became, M_g_rowOf, M_g_linksOf, M_g_isJoined, M_l_linked, M_g_linked, M_l_lost, M_g_lost, M_l_search, M_g_search, M_g_searchFor, M_w_points, M_w_has, M_g_isLeftOut, M_w_isBelow, M_g_put, M_l_found, M_g_found, M_m_init, M_m_thrown, M_m_sign, M_m_in, M_m_isLetter, M_m_isDigit, M_m_read, M_m_reads, M_m_readsCode, M_m_run, M_m_fails, M_m_codeAt, M_m_above, M_m_begins, M_m_digitsOf, M_m_cut, M_m_isBehind, M_m_readsWords, M_m_wordAt, M_m_refuse, M_m_forget, M_m_failure, M_m_edition, M_m_isEdition, M_m_row, M_m_below, M_m_find, M_m_rowOf, M_m_note, M_m_hasNote, M_m_isNote, M_m_notesOf, M_m_noted, M_m_link, M_m_isLink, M_m_became, M_m_isOf, M_m_linksOf, M_m_linksTo, M_m_linked, M_m_lost, M_m_search, M_m_pointsOf, M_m_has, M_m_found, M_m_count, M_l_law]
/-- an instruction's row: pc, length, kind, two numbers, the place of its link's word, a number -/
abbrev ri_T : Type := Nat × Nat × Nat × Nat × Nat × Nat × Int
def tw (j : Nat) (w : Cond) : Bool := decide (lw_tbl[j]? = some w)
def ri_if (i : Instr) (pc a : Nat) (cc : ClassFile.Cond) : Bool := match i with
  | .ifCond c off => decide (c = cc) && decide ((pc : Int) + off = (a : Int))
  | _ => false
def ri_ic (i : Instr) (pc a : Nat) (cc : ClassFile.Cond) : Bool := match i with
  | .if_icmp c off => decide (c = cc) && decide ((pc : Int) + off = (a : Int))
  | _ => false
def ri_ac (i : Instr) (pc a : Nat) (cc : ACond) : Bool := match i with
  | .if_acmp c off => decide (c = cc) && decide ((pc : Int) + off = (a : Int))
  | _ => false
/-- the field's link: plain, of a nest mate, or under an heir's name -/
def ri_fl (own : String) (k ci b j : Nat) : Bool := match cl_[ci]? with
  | some (C, T, N) => decide (b < N) && (tw j (.fieldLink own k (T b).1 (T b).2.1 (T b).2.2.1) || tw j (.fieldLinkNest own k (T b).1 (T b).2.1 (T b).2.2.1 "GoodsTree") || (tw j (.fieldLink own k "java/util/ArrayList" (T b).2.1 (T b).2.2.1) && decide ((T b).1 = "java/util/AbstractList") && decide ((T b).2.1 = "modCount") && decide ((T b).2.2.1 = "I")))
  | none => false
def ri_fp (own : String) (k ci b j : Nat) : Bool := match cl_[ci]? with
  | some (C, T, N) => decide (b < N) && tw j (.fieldLink own k (T b).1 (T b).2.1 (T b).2.2.1) && decide ((T b).1 = own)
  | none => false
def ri_fin (ci b : Nat) : Bool := match cl_[ci]? with
  | some (C, T, N) => (T b).2.2.2
  | none => true
def ri_cn (ci : Nat) : String := match cl_[ci]? with
  | some (C, T, N) => C
  | none => ""
def ri_ml (own : String) (k a j : Nat) : Bool := match MT[a]? with
  | some M => tw j (.methodLink own k M.1) || tw j (.methodLinkNest own k M.1 "GoodsTree")
  | none => false
def ak : Nat → FieldType := fun a => match a with
  | 0 => .int
  | 1 => .long
  | _ => .char
def an : Nat → String := fun a => match a with
  | 0 => "java/lang/Object"
  | _ => "GoodsTree$Edition"
def ri_ck (M : mt_T) (pc op a b j : Nat) (z : Int) (i : Instr) : Bool := match op with
  | 0 => decide (i = .iconst z) && decide (-2147483648 ≤ z) && decide (z < 2147483648)
  | 82 => decide (i = .bipush z) && decide ((Int8.ofInt z).toInt32 = Int32.ofInt z) && decide (-2147483648 ≤ z) && decide (z < 2147483648)
  | 83 => decide (i = .sipush z) && decide ((Int16.ofInt z).toInt32 = Int32.ofInt z) && decide (-2147483648 ≤ z) && decide (z < 2147483648)
  | 84 => (match i with
    | .ldc k => tw j (.constant M.1.cls k (Int32.ofInt z)) && decide (-2147483648 ≤ z) && decide (z < 2147483648)
    | _ => false)
  | 1 => (match i with
    | .lconst n => decide (((n : Nat) : Int) = z)
    | _ => false)
  | 91 => (match i with
    | .ldc2_w k => tw j (.constantLong M.1.cls k (Int64.ofInt z)) && decide (-9223372036854775808 ≤ z) && decide (z < 9223372036854775808)
    | _ => false)
  | 2 => (match i with
    | .iload_n k => decide ((k : Nat) = a)
    | _ => false)
  | 85 => decide (i = .iload a)
  | 3 => (match i with
    | .lload_n k => decide ((k : Nat) = a)
    | _ => false)
  | 86 => decide (i = .lload a)
  | 4 => (match i with
    | .aload_n k => decide ((k : Nat) = a)
    | _ => false)
  | 87 => decide (i = .aload a)
  | 5 => (match i with
    | .istore_n k => decide ((k : Nat) = a)
    | _ => false)
  | 88 => decide (i = .istore a)
  | 6 => (match i with
    | .lstore_n k => decide ((k : Nat) = a)
    | _ => false)
  | 89 => decide (i = .lstore a)
  | 7 => (match i with
    | .astore_n k => decide ((k : Nat) = a)
    | _ => false)
  | 90 => decide (i = .astore a)
  | 8 => decide (i = .iinc a z)
  | 9 => decide (i = .iadd)
  | 10 => decide (i = .isub)
  | 11 => decide (i = .imul)
  | 12 => decide (i = .idiv)
  | 13 => decide (i = .irem)
  | 14 => decide (i = .iand)
  | 15 => decide (i = .ior)
  | 16 => decide (i = .ishr)
  | 17 => decide (i = .ladd)
  | 18 => decide (i = .lsub)
  | 19 => decide (i = .lmul)
  | 20 => decide (i = .ldiv)
  | 21 => decide (i = .land)
  | 22 => decide (i = .lor)
  | 23 => decide (i = .lshl)
  | 24 => decide (i = .i2l)
  | 25 => decide (i = .i2c)
  | 26 => decide (i = .lcmp)
  | 27 => decide (i = .dup)
  | 28 => decide (i = .pop)
  | 29 => decide (i = .dup2)
  | 30 => decide (i = .dup_x1)
  | 31 => ri_if i pc a .eq
  | 32 => ri_if i pc a .ne
  | 33 => ri_if i pc a .lt
  | 34 => ri_if i pc a .ge
  | 35 => ri_if i pc a .gt
  | 36 => ri_if i pc a .le
  | 37 => ri_ic i pc a .eq
  | 38 => ri_ic i pc a .ne
  | 39 => ri_ic i pc a .lt
  | 40 => ri_ic i pc a .ge
  | 41 => ri_ic i pc a .gt
  | 42 => ri_ic i pc a .le
  | 43 => ri_ac i pc a .eq
  | 44 => ri_ac i pc a .ne
  | 45 => (match i with
    | .ifnull off => decide ((pc : Int) + off = (a : Int))
    | _ => false)
  | 46 => (match i with
    | .ifnonnull off => decide ((pc : Int) + off = (a : Int))
    | _ => false)
  | 47 => (match i with
    | .goto off => decide ((pc : Int) + off = (a : Int))
    | _ => false)
  | 49 => (match i with
    | .getfield k => ri_fl M.1.cls k a b j
    | _ => false)
  | 50 => (match i with
    | .putfield k => ri_fl M.1.cls k a b j && !ri_fin a b
    | _ => false)
  | 51 => (match i with
    | .putfield k => ri_fp M.1.cls k a b j && ri_fin a b && decide (M.1.name = "<init>")
    | _ => false)
  | 52 => (match i with
    | .getstatic k => tw j (.fieldLink M.1.cls k "java/util/ArrayList" "DEFAULTCAPACITY_EMPTY_ELEMENTDATA" "[Ljava/lang/Object;")
    | _ => false)
  | 53 => (match i with
    | .newarray t => decide (newarray.typeOf t = ak a) && tw j (.arrayClass (newarray.typeOf t))
    | _ => false)
  | 54 => (match i with
    | .anewarray k => tw j (.classLink M.1.cls k (an a))
    | _ => false)
  | 55 => decide (i = .arraylength)
  | 56 => decide (i = .iaload)
  | 57 => decide (i = .laload)
  | 58 => decide (i = .caload)
  | 59 => decide (i = .aaload)
  | 60 => decide (i = .iastore)
  | 61 => decide (i = .lastore)
  | 62 => decide (i = .castore)
  | 63 => decide (i = .aastore)
  | 64 => (match i with
    | .new k => tw j (.classLink M.1.cls k (ri_cn a))
    | _ => false)
  | 65 => (match i with
    | .checkcast k => tw j (.classLink M.1.cls k (ri_cn a))
    | _ => false)
  | 66 => decide (i = .athrow)
  | 67 => (match i with
    | .invokevirtual k => ri_ml M.1.cls k a j
    | _ => false)
  | 68 => (match i with
    | .invokespecial k => ri_ml M.1.cls k a j
    | _ => false)
  | 69 => (match i with
    | .invokestatic k => ri_ml M.1.cls k a j
    | _ => false)
  | 70 => decide (i = .ireturn)
  | 71 => decide (i = .lreturn)
  | 72 => decide (i = .areturn)
  | 73 => decide (i = .return_)
  | 74 => decide (i = .aconst_null)
  | 75 => (match i with
    | .invokespecial k => tw j (.methodLink M.1.cls k objectInit)
    | _ => false)
  | 77 => (match i with
    | .invokestatic k => tw j (.methodLink M.1.cls k arraycopyName)
    | _ => false)
  | 78 => (match i with
    | .invokevirtual k => tw j (.methodLink M.1.cls k ⟨"java/lang/Object", "getClass", "()Ljava/lang/Class;"⟩)
    | _ => false)
  | 79 => (match i with
    | .ldc k => tw j (.classLink M.1.cls k "[Ljava/lang/Object;")
    | _ => false)
  | 80 => (match i with
    | .invokestatic k => tw j (.methodLink M.1.cls k Lib.Math.max.name)
    | _ => false)
  | 81 => (match i with
    | .invokestatic k => tw j (.methodLink M.1.cls k Lib.Math.min.name)
    | _ => false)
  | _ => false
def ri_ok (M : mt_T) (x : ri_T) : Bool := match decode M.2.1 x.1 with
  | .ok (i, len) => decide (len = x.2.1) && ri_ck M x.1 x.2.2.1 x.2.2.2.1 x.2.2.2.2.1 x.2.2.2.2.2.1 x.2.2.2.2.2.2 i
  | .error _ => false
/-- the instruction's row is true of the method's bytes, its links' words stand in the tables -/
def ri_at (M : mt_T) (x : ri_T) : Prop := ri_ok M x = true
theorem ri_all {M : mt_T} {I : List ri_T} (h : I.all (ri_ok M) = true) (i : Nat) {x : ri_T} (hx : I[i]? = some x) : ri_at M x := List.all_eq_true.mp h x (List.mem_of_getElem? hx)
/-- of a method: its code's word, its class's 'initialized', that it is plain; an instance method is selected for its class -/
def mt_ok (M : mt_T) (j1 j2 j3 j4 : Nat) : Bool :=
  (if M.2.2.2.2 = [] then tw j1 (.code M.1 M.2.1 M.2.2.1 M.2.2.2.1) else tw j1 (.codeWith M.1 M.2.1 M.2.2.1 M.2.2.2.1 M.2.2.2.2)) && tw j2 (.initialized M.1.cls) && plainName M.1.cls && decide (M.1.cls ≠ "java/lang/invoke/MethodHandle") && decide (M.1.cls ≠ "java/lang/invoke/VarHandle") &&
  (tw j3 (.static M.1) || (tw j3 (.instanceMethod M.1) && (tw j4 (.selects M.1.cls M.1 M.1) || decide (M.1.name = "<init>"))))
