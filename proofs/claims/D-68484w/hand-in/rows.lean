section
-- ===== PART A: goes FIRST, ahead of the names: the tables' words, and 'selects' of the private methods out of them =====
/-- a private method of a class that the tables say can be made, by its rows of tables_1 -/
def lw_okq (q : MethodName × Nat) : Prop := (q.1.cls ≠ "java/lang/invoke/MethodHandle" ∧ q.1.cls ≠ "java/lang/invoke/VarHandle") ∧ Cond.instantiable q.1.cls q.2 ∈ tables_1 ∧ Cond.privateMethod q.1 ∈ tables_1 ∧ Cond.instanceMethod q.1 ∈ tables_1
theorem lw_p0 : lw_okq (⟨"java/lang/Throwable", "fillInStackTrace", "(I)Ljava/lang/Throwable;"⟩, 6) := ⟨⟨by decide +kernel, by decide +kernel⟩, List.mem_of_getElem? (i := 142) (by decide +kernel), List.mem_of_getElem? (i := 140) (by decide +kernel), List.mem_of_getElem? (i := 141) (by decide +kernel)⟩
theorem lw_p1 : lw_okq (⟨"LineChunks$LineText", "seek", "(IZ)V"⟩, 13) := ⟨⟨by decide +kernel, by decide +kernel⟩, List.mem_of_getElem? (i := 19) (by decide +kernel), List.mem_of_getElem? (i := 186) (by decide +kernel), List.mem_of_getElem? (i := 187) (by decide +kernel)⟩
theorem lw_p2 : lw_okq (⟨"LineChunks$LineText", "split", "(I)V"⟩, 13) := ⟨⟨by decide +kernel, by decide +kernel⟩, List.mem_of_getElem? (i := 19) (by decide +kernel), List.mem_of_getElem? (i := 190) (by decide +kernel), List.mem_of_getElem? (i := 191) (by decide +kernel)⟩
theorem lw_p3 : lw_okq (⟨"LineChunks$LineText", "isLittle", "(I)Z"⟩, 13) := ⟨⟨by decide +kernel, by decide +kernel⟩, List.mem_of_getElem? (i := 19) (by decide +kernel), List.mem_of_getElem? (i := 205) (by decide +kernel), List.mem_of_getElem? (i := 206) (by decide +kernel)⟩
theorem lw_p4 : lw_okq (⟨"LineChunks$LineText", "join", "(I)V"⟩, 13) := ⟨⟨by decide +kernel, by decide +kernel⟩, List.mem_of_getElem? (i := 19) (by decide +kernel), List.mem_of_getElem? (i := 209) (by decide +kernel), List.mem_of_getElem? (i := 210) (by decide +kernel)⟩
theorem lw_p5 : lw_okq (⟨"LineChunks", "begin", "(I)I"⟩, 2) := ⟨⟨by decide +kernel, by decide +kernel⟩, List.mem_of_getElem? (i := 11) (by decide +kernel), List.mem_of_getElem? (i := 250) (by decide +kernel), List.mem_of_getElem? (i := 251) (by decide +kernel)⟩
theorem lw_p6 : lw_okq (⟨"LineChunksModel", "insert0", "(IIII)I"⟩, 3) := ⟨⟨by decide +kernel, by decide +kernel⟩, List.mem_of_getElem? (i := 265) (by decide +kernel), List.mem_of_getElem? (i := 291) (by decide +kernel), List.mem_of_getElem? (i := 292) (by decide +kernel)⟩
theorem lw_p7 : lw_okq (⟨"LineChunksModel", "delete0", "(II)I"⟩, 3) := ⟨⟨by decide +kernel, by decide +kernel⟩, List.mem_of_getElem? (i := 265) (by decide +kernel), List.mem_of_getElem? (i := 304) (by decide +kernel), List.mem_of_getElem? (i := 305) (by decide +kernel)⟩
theorem lw_p8 : lw_okq (⟨"LineChunksModel", "get0", "(I)I"⟩, 3) := ⟨⟨by decide +kernel, by decide +kernel⟩, List.mem_of_getElem? (i := 265) (by decide +kernel), List.mem_of_getElem? (i := 313) (by decide +kernel), List.mem_of_getElem? (i := 314) (by decide +kernel)⟩
theorem lw_p9 : lw_okq (⟨"LineChunksModel", "length0", "()I"⟩, 3) := ⟨⟨by decide +kernel, by decide +kernel⟩, List.mem_of_getElem? (i := 265) (by decide +kernel), List.mem_of_getElem? (i := 322) (by decide +kernel), List.mem_of_getElem? (i := 323) (by decide +kernel)⟩
theorem lw_p10 : lw_okq (⟨"LineChunksModel", "lines0", "()I"⟩, 3) := ⟨⟨by decide +kernel, by decide +kernel⟩, List.mem_of_getElem? (i := 265) (by decide +kernel), List.mem_of_getElem? (i := 330) (by decide +kernel), List.mem_of_getElem? (i := 331) (by decide +kernel)⟩
theorem lw_p11 : lw_okq (⟨"LineChunksModel", "endsBefore", "(I)I"⟩, 3) := ⟨⟨by decide +kernel, by decide +kernel⟩, List.mem_of_getElem? (i := 265) (by decide +kernel), List.mem_of_getElem? (i := 334) (by decide +kernel), List.mem_of_getElem? (i := 335) (by decide +kernel)⟩
theorem lw_p12 : lw_okq (⟨"LineChunksModel", "line0", "(I)I"⟩, 3) := ⟨⟨by decide +kernel, by decide +kernel⟩, List.mem_of_getElem? (i := 265) (by decide +kernel), List.mem_of_getElem? (i := 342) (by decide +kernel), List.mem_of_getElem? (i := 343) (by decide +kernel)⟩
theorem lw_p13 : lw_okq (⟨"LineChunksModel", "lineOf0", "(I)I"⟩, 3) := ⟨⟨by decide +kernel, by decide +kernel⟩, List.mem_of_getElem? (i := 265) (by decide +kernel), List.mem_of_getElem? (i := 350) (by decide +kernel), List.mem_of_getElem? (i := 351) (by decide +kernel)⟩
theorem lw_p14 : lw_okq (⟨"LineChunksModel", "digest0", "()I"⟩, 3) := ⟨⟨by decide +kernel, by decide +kernel⟩, List.mem_of_getElem? (i := 265) (by decide +kernel), List.mem_of_getElem? (i := 358) (by decide +kernel), List.mem_of_getElem? (i := 359) (by decide +kernel)⟩
def lw_privs_1 : List (MethodName × Nat) := [(⟨"java/lang/Throwable", "fillInStackTrace", "(I)Ljava/lang/Throwable;"⟩, 6), (⟨"LineChunks$LineText", "seek", "(IZ)V"⟩, 13), (⟨"LineChunks$LineText", "split", "(I)V"⟩, 13), (⟨"LineChunks$LineText", "isLittle", "(I)Z"⟩, 13), (⟨"LineChunks$LineText", "join", "(I)V"⟩, 13), (⟨"LineChunks", "begin", "(I)I"⟩, 2), (⟨"LineChunksModel", "insert0", "(IIII)I"⟩, 3), (⟨"LineChunksModel", "delete0", "(II)I"⟩, 3), (⟨"LineChunksModel", "get0", "(I)I"⟩, 3), (⟨"LineChunksModel", "length0", "()I"⟩, 3), (⟨"LineChunksModel", "lines0", "()I"⟩, 3), (⟨"LineChunksModel", "endsBefore", "(I)I"⟩, 3), (⟨"LineChunksModel", "line0", "(I)I"⟩, 3), (⟨"LineChunksModel", "lineOf0", "(I)I"⟩, 3), (⟨"LineChunksModel", "digest0", "()I"⟩, 3)]
theorem lw_r1 : ∀ q ∈ lw_privs_1, lw_okq q := List.forall_mem_cons.mpr ⟨lw_p0, List.forall_mem_cons.mpr ⟨lw_p1, List.forall_mem_cons.mpr ⟨lw_p2, List.forall_mem_cons.mpr ⟨lw_p3, List.forall_mem_cons.mpr ⟨lw_p4, List.forall_mem_cons.mpr ⟨lw_p5, List.forall_mem_cons.mpr ⟨lw_p6, List.forall_mem_cons.mpr ⟨lw_p7, List.forall_mem_cons.mpr ⟨lw_p8, List.forall_mem_cons.mpr ⟨lw_p9, List.forall_mem_cons.mpr ⟨lw_p10, List.forall_mem_cons.mpr ⟨lw_p11, List.forall_mem_cons.mpr ⟨lw_p12, List.forall_mem_cons.mpr ⟨lw_p13, List.forall_mem_cons.mpr ⟨lw_p14, fun _ h => absurd h List.not_mem_nil⟩⟩⟩⟩⟩⟩⟩⟩⟩⟩⟩⟩⟩⟩⟩
def lw_privs : List (MethodName × Nat) := lw_privs_1
def lw_tbl : List Cond := k2_sels lw_privs ++ tables_1
theorem lw_privs_ok : ∀ q ∈ lw_privs, lw_okq q := lw_r1
-- ===== names =====
abbrev R_law : String := "LineChunksLaw"
abbrev R_LC : String := "LineChunks"
abbrev R_LT : String := "LineChunks$LineText"
abbrev R_MO : String := "LineChunksModel"
def y_LC_init : MethodName := ⟨R_LC, "<init>", "()V"⟩
abbrev b_LC_init : ByteArray := prog_1_method_1_code
def y_LC_need : MethodName := ⟨R_LC, "need", "(Z)V"⟩
abbrev b_LC_need : ByteArray := prog_1_method_2_code
def y_LC_there : MethodName := ⟨R_LC, "there", "(Z)V"⟩
abbrev b_LC_there : ByteArray := prog_1_method_3_code
def y_LC_insert : MethodName := ⟨R_LC, "insert", "(IIII)I"⟩
abbrev b_LC_insert : ByteArray := prog_1_method_4_code
def y_LC_delete : MethodName := ⟨R_LC, "delete", "(II)I"⟩
abbrev b_LC_delete : ByteArray := prog_1_method_5_code
def y_LC_get : MethodName := ⟨R_LC, "get", "(I)I"⟩
abbrev b_LC_get : ByteArray := prog_1_method_6_code
def y_LC_length : MethodName := ⟨R_LC, "length", "()I"⟩
abbrev b_LC_length : ByteArray := prog_1_method_7_code
def y_LC_lines : MethodName := ⟨R_LC, "lines", "()I"⟩
abbrev b_LC_lines : ByteArray := prog_1_method_8_code
def y_LC_begin : MethodName := ⟨R_LC, "begin", "(I)I"⟩
abbrev b_LC_begin : ByteArray := prog_1_method_9_code
def y_LC_line : MethodName := ⟨R_LC, "line", "(I)I"⟩
abbrev b_LC_line : ByteArray := prog_1_method_10_code
def y_LC_lineOf : MethodName := ⟨R_LC, "lineOf", "(I)I"⟩
abbrev b_LC_lineOf : ByteArray := prog_1_method_11_code
def y_LC_digest : MethodName := ⟨R_LC, "digest", "()I"⟩
abbrev b_LC_digest : ByteArray := prog_1_method_12_code
def y_MO_init : MethodName := ⟨R_MO, "<init>", "()V"⟩
abbrev b_MO_init : ByteArray := prog_4_method_1_code
def y_MO_check : MethodName := ⟨R_MO, "check", "(Z)V"⟩
abbrev b_MO_check : ByteArray := prog_4_method_2_code
def y_MO_insert0 : MethodName := ⟨R_MO, "insert0", "(IIII)I"⟩
abbrev b_MO_insert0 : ByteArray := prog_4_method_3_code
def y_MO_delete0 : MethodName := ⟨R_MO, "delete0", "(II)I"⟩
abbrev b_MO_delete0 : ByteArray := prog_4_method_4_code
def y_MO_get0 : MethodName := ⟨R_MO, "get0", "(I)I"⟩
abbrev b_MO_get0 : ByteArray := prog_4_method_5_code
def y_MO_length0 : MethodName := ⟨R_MO, "length0", "()I"⟩
abbrev b_MO_length0 : ByteArray := prog_4_method_6_code
def y_MO_endsBefore : MethodName := ⟨R_MO, "endsBefore", "(I)I"⟩
abbrev b_MO_endsBefore : ByteArray := prog_4_method_7_code
def y_MO_lines0 : MethodName := ⟨R_MO, "lines0", "()I"⟩
abbrev b_MO_lines0 : ByteArray := prog_4_method_8_code
def y_MO_line0 : MethodName := ⟨R_MO, "line0", "(I)I"⟩
abbrev b_MO_line0 : ByteArray := prog_4_method_9_code
def y_MO_lineOf0 : MethodName := ⟨R_MO, "lineOf0", "(I)I"⟩
abbrev b_MO_lineOf0 : ByteArray := prog_4_method_10_code
def y_MO_digest0 : MethodName := ⟨R_MO, "digest0", "()I"⟩
abbrev b_MO_digest0 : ByteArray := prog_4_method_11_code
def y_MO_thrown : MethodName := ⟨R_MO, "thrown", "()I"⟩
abbrev b_MO_thrown : ByteArray := prog_4_method_12_code
def y_MO_insert : MethodName := ⟨R_MO, "insert", "(IIII)I"⟩
abbrev b_MO_insert : ByteArray := prog_4_method_13_code
def y_MO_delete : MethodName := ⟨R_MO, "delete", "(II)I"⟩
abbrev b_MO_delete : ByteArray := prog_4_method_14_code
def y_MO_get : MethodName := ⟨R_MO, "get", "(I)I"⟩
abbrev b_MO_get : ByteArray := prog_4_method_15_code
def y_MO_length : MethodName := ⟨R_MO, "length", "()I"⟩
abbrev b_MO_length : ByteArray := prog_4_method_16_code
def y_MO_lines : MethodName := ⟨R_MO, "lines", "()I"⟩
abbrev b_MO_lines : ByteArray := prog_4_method_17_code
def y_MO_line : MethodName := ⟨R_MO, "line", "(I)I"⟩
abbrev b_MO_line : ByteArray := prog_4_method_18_code
def y_MO_lineOf : MethodName := ⟨R_MO, "lineOf", "(I)I"⟩
abbrev b_MO_lineOf : ByteArray := prog_4_method_19_code
def y_MO_digest : MethodName := ⟨R_MO, "digest", "()I"⟩
abbrev b_MO_digest : ByteArray := prog_4_method_20_code
def y_LT_init : MethodName := ⟨R_LT, "<init>", "(I)V"⟩
abbrev b_LT_init : ByteArray := prog_2_method_1_code
def y_LT_seek : MethodName := ⟨R_LT, "seek", "(IZ)V"⟩
abbrev b_LT_seek : ByteArray := prog_2_method_2_code
def y_LT_split : MethodName := ⟨R_LT, "split", "(I)V"⟩
abbrev b_LT_split : ByteArray := prog_2_method_3_code
def y_LT_insert : MethodName := ⟨R_LT, "insert", "(IIZ)V"⟩
abbrev b_LT_insert : ByteArray := prog_2_method_4_code
def y_LT_delete : MethodName := ⟨R_LT, "delete", "(I)V"⟩
abbrev b_LT_delete : ByteArray := prog_2_method_5_code
def y_LT_isLittle : MethodName := ⟨R_LT, "isLittle", "(I)Z"⟩
abbrev b_LT_isLittle : ByteArray := prog_2_method_6_code
def y_LT_join : MethodName := ⟨R_LT, "join", "(I)V"⟩
abbrev b_LT_join : ByteArray := prog_2_method_7_code
def y_LT_get : MethodName := ⟨R_LT, "get", "(I)I"⟩
abbrev b_LT_get : ByteArray := prog_2_method_8_code
def y_LT_behindEnd : MethodName := ⟨R_LT, "behindEnd", "(I)I"⟩
abbrev b_LT_behindEnd : ByteArray := prog_2_method_9_code
def y_LT_copy : MethodName := ⟨R_LT, "copy", "([I)V"⟩
abbrev b_LT_copy : ByteArray := prog_2_method_10_code
def y_LW_insert : MethodName := ⟨R_law, "insert", "(LLineChunks;IIII[J)I"⟩
abbrev b_LW_insert : ByteArray := method_3_code
def y_LW_delete : MethodName := ⟨R_law, "delete", "(LLineChunks;II[J)I"⟩
abbrev b_LW_delete : ByteArray := method_4_code
def y_LW_get : MethodName := ⟨R_law, "get", "(LLineChunks;I[J)I"⟩
abbrev b_LW_get : ByteArray := method_5_code
def y_LW_line : MethodName := ⟨R_law, "line", "(LLineChunks;I[J)I"⟩
abbrev b_LW_line : ByteArray := method_6_code
def y_LW_lineOf : MethodName := ⟨R_law, "lineOf", "(LLineChunks;I[J)I"⟩
abbrev b_LW_lineOf : ByteArray := method_7_code
abbrev hd_LC_init : Cond := .code y_LC_init b_LC_init 1 none
abbrev hd_LT_init : Cond := .code y_LT_init b_LT_init 3 none
abbrev hd_LC_length : Cond := .code y_LC_length b_LC_length 1 (some FieldType.int)
abbrev hd_LC_lines : Cond := .code y_LC_lines b_LC_lines 1 (some FieldType.int)
abbrev hd_LC_digest : Cond := .code y_LC_digest b_LC_digest 3 (some FieldType.int)
abbrev hd_LT_copy : Cond := .code y_LT_copy b_LT_copy 6 none
abbrev hd_LW_insert : Cond := .codeWith y_LW_insert b_LW_insert 7 (some FieldType.int) [(0, 14, 17, 13), (0, 14, 21, 15)]
abbrev hd_LC_insert : Cond := .code y_LC_insert b_LC_insert 7 (some FieldType.int)
abbrev hd_LC_need : Cond := .code y_LC_need b_LC_need 1 none
abbrev hd_LT_insert : Cond := .code y_LT_insert b_LT_insert 6 none
abbrev hd_LT_seek : Cond := .code y_LT_seek b_LT_seek 3 none
abbrev hd_LT_split : Cond := .code y_LT_split b_LT_split 5 none
abbrev hd_LW_delete : Cond := .codeWith y_LW_delete b_LW_delete 5 (some FieldType.int) [(0, 10, 13, 13)]
abbrev hd_LC_delete : Cond := .code y_LC_delete b_LC_delete 4 (some FieldType.int)
abbrev hd_LT_delete : Cond := .code y_LT_delete b_LT_delete 4 none
abbrev hd_LT_isLittle : Cond := .code y_LT_isLittle b_LT_isLittle 2 (some FieldType.boolean)
abbrev hd_LT_join : Cond := .code y_LT_join b_LT_join 5 none
abbrev hd_LW_get : Cond := .codeWith y_LW_get b_LW_get 4 (some FieldType.int) [(0, 9, 12, 25)]
abbrev hd_LC_get : Cond := .code y_LC_get b_LC_get 2 (some FieldType.int)
abbrev hd_LC_there : Cond := .code y_LC_there b_LC_there 1 none
abbrev hd_LT_get : Cond := .code y_LT_get b_LT_get 2 (some FieldType.int)
abbrev hd_LW_line : Cond := .codeWith y_LW_line b_LW_line 4 (some FieldType.int) [(0, 9, 12, 25)]
abbrev hd_LC_line : Cond := .code y_LC_line b_LC_line 2 (some FieldType.int)
abbrev hd_LC_begin : Cond := .code y_LC_begin b_LC_begin 2 (some FieldType.int)
abbrev hd_LT_behindEnd : Cond := .code y_LT_behindEnd b_LT_behindEnd 6 (some FieldType.int)
abbrev hd_LW_lineOf : Cond := .codeWith y_LW_lineOf b_LW_lineOf 4 (some FieldType.int) [(0, 9, 12, 13)]
abbrev hd_LC_lineOf : Cond := .code y_LC_lineOf b_LC_lineOf 5 (some FieldType.int)
abbrev hd_MO_init : Cond := .code y_MO_init b_MO_init 1 none
abbrev hd_MO_thrown : Cond := .code y_MO_thrown b_MO_thrown 1 (some FieldType.int)
abbrev hd_MO_insert : Cond := .codeWith y_MO_insert b_MO_insert 6 (some FieldType.int) [(5, 14, 15, 13), (5, 14, 25, 24)]
abbrev hd_MO_insert0 : Cond := .code y_MO_insert0 b_MO_insert0 6 (some FieldType.int)
abbrev hd_MO_check : Cond := .code y_MO_check b_MO_check 1 none
abbrev hd_MO_delete : Cond := .codeWith y_MO_delete b_MO_delete 4 (some FieldType.int) [(5, 11, 12, 13)]
abbrev hd_MO_delete0 : Cond := .code y_MO_delete0 b_MO_delete0 4 (some FieldType.int)
abbrev hd_MO_get : Cond := .codeWith y_MO_get b_MO_get 3 (some FieldType.int) [(5, 10, 11, 27)]
abbrev hd_MO_get0 : Cond := .code y_MO_get0 b_MO_get0 2 (some FieldType.int)
abbrev hd_MO_length : Cond := .code y_MO_length b_MO_length 1 (some FieldType.int)
abbrev hd_MO_length0 : Cond := .code y_MO_length0 b_MO_length0 1 (some FieldType.int)
abbrev hd_MO_lines : Cond := .code y_MO_lines b_MO_lines 1 (some FieldType.int)
abbrev hd_MO_lines0 : Cond := .code y_MO_lines0 b_MO_lines0 1 (some FieldType.int)
abbrev hd_MO_endsBefore : Cond := .code y_MO_endsBefore b_MO_endsBefore 4 (some FieldType.int)
abbrev hd_MO_line : Cond := .codeWith y_MO_line b_MO_line 3 (some FieldType.int) [(5, 10, 11, 27)]
abbrev hd_MO_line0 : Cond := .code y_MO_line0 b_MO_line0 3 (some FieldType.int)
abbrev hd_MO_lineOf : Cond := .codeWith y_MO_lineOf b_MO_lineOf 3 (some FieldType.int) [(5, 10, 11, 13)]
abbrev hd_MO_lineOf0 : Cond := .code y_MO_lineOf0 b_MO_lineOf0 2 (some FieldType.int)
abbrev hd_MO_digest : Cond := .code y_MO_digest b_MO_digest 1 (some FieldType.int)
abbrev hd_MO_digest0 : Cond := .code y_MO_digest0 b_MO_digest0 3 (some FieldType.int)
-- fields, in the order of the slots
def F_LT : u_T := fun k => match k with
  | 0 => (R_LT, "values", "[I", true)
  | 1 => (R_LT, "ends", "[Z", true)
  | 2 => (R_LT, "fill", "[I", true)
  | 3 => (R_LT, "breaks", "[I", true)
  | 4 => (R_LT, "order", "[I", true)
  | 5 => (R_LT, "free", "[I", true)
  | 6 => (R_LT, "frees", "I", false)
  | 7 => (R_LT, "used", "I", false)
  | 8 => (R_LT, "chunks", "I", false)
  | 9 => (R_LT, "count", "I", false)
  | 10 => (R_LT, "lines", "I", false)
  | 11 => (R_LT, "at", "I", false)
  | _ => (R_LT, "rest", "I", false)
def t_LT : Nat → FieldType := fun k => match k with
  | 0 => .array .int
  | 1 => .array .boolean
  | 2 => .array .int
  | 3 => .array .int
  | 4 => .array .int
  | 5 => .array .int
  | _ => .int
def F_LC : u_T := fun k => match k with
  | 0 => (R_LC, "text", "LLineChunks$LineText;", true)
  | _ => (R_LC, "all", "[I", false)
def t_LC : Nat → FieldType := fun k => match k with
  | 0 => .object "LineChunks$LineText"
  | _ => .array .int
def F_MO : u_T := fun k => match k with
  | 0 => (R_MO, "row", "[I", true)
  | 1 => (R_MO, "many", "I", false)
  | _ => (R_MO, "thrown", "I", false)
def t_MO : Nat → FieldType := fun k => match k with
  | 0 => .array .int
  | _ => .int
abbrev classes : List vw_C := [(R_LT, F_LT, 13), (R_LC, F_LC, 2), (R_MO, F_MO, 3)]
theorem n_LT : ∀ a, a < 13 → ∀ b, b < 13 → a ≠ b → (F_LT a).2.1 ≠ (F_LT b).2.1 := by decide +kernel
theorem n_LC : ∀ a, a < 2 → ∀ b, b < 2 → a ≠ b → (F_LC a).2.1 ≠ (F_LC b).2.1 := by decide +kernel
theorem n_MO : ∀ a, a < 3 → ∀ b, b < 3 → a ≠ b → (F_MO a).2.1 ≠ (F_MO b).2.1 := by decide +kernel
theorem t_LT_ok : ∀ k, k < 13 → parseFieldDescriptor (F_LT k).2.2.1 = some (t_LT k) := by decide +kernel
theorem t_LC_ok : ∀ k, k < 2 → parseFieldDescriptor (F_LC k).2.2.1 = some (t_LC k) := by decide +kernel
theorem t_MO_ok : ∀ k, k < 3 → parseFieldDescriptor (F_MO k).2.2.1 = some (t_MO k) := by decide +kernel
-- the words that every method of ours is given: those of the tables that stay under warming
def wok (w : Cond) : Bool := (w.onTables && w.keeps) || (match w with | .arrayClass _ => true | _ => false)
def bs : List Cond := lw_tbl.filter wok
theorem bs_ok {w : Cond} (h : wok w = true) : (w.onTables && w.keeps) = true ∨ ∃ ty, w = .arrayClass ty := by
  unfold wok at h
  rcases Bool.or_eq_true_iff.mp h with h | h
  · exact Or.inl h
  · cases w <;> first | (exact Or.inr ⟨_, rfl⟩) | (simp at h)
theorem bs_good : ∀ w ∈ bs, w ∈ bs ∧ ((w.onTables && w.keeps) = true ∨ ∃ ty, w = .arrayClass ty) := fun w h => ⟨h, bs_ok (List.mem_filter.mp h).2⟩
theorem bs_of {w : Cond} (i : Nat) (hi : tables_1[i]? = some w) (h : wok w = true) : w ∈ bs := List.mem_filter.mpr ⟨List.mem_append_right _ (List.mem_of_getElem? hi), h⟩
theorem bs_sel {w : Cond} (i : Nat) (hi : (k2_sels lw_privs)[i]? = some w) (h : wok w = true) : w ∈ bs := List.mem_filter.mpr ⟨List.mem_append_left _ (List.mem_of_getElem? hi), h⟩
theorem bs_tbl {args : Array Value} {s : State} (h : ∀ w ∈ lw_tbl, w.before args s = true) : ∀ w ∈ bs, w.before args s = true := fun w hw => h w (List.mem_filter.mp hw).1
theorem k_0 : Cond.initialized R_law ∈ bs := bs_of 0 rfl rfl
theorem k_1 : Cond.initialized R_LC ∈ bs := bs_of 1 rfl rfl
theorem k_2 : Cond.initialized R_LT ∈ bs := bs_of 2 rfl rfl
theorem k_3 : Cond.initialized R_MO ∈ bs := bs_of 3 rfl rfl
theorem k_4 : Cond.initialized "java/lang/Throwable" ∈ bs := bs_of 4 rfl rfl
theorem k_5 : Cond.initialized "java/lang/Exception" ∈ bs := bs_of 5 rfl rfl
theorem k_6 : Cond.initialized "java/lang/RuntimeException" ∈ bs := bs_of 6 rfl rfl
theorem k_7 : Cond.initialized "java/lang/IllegalArgumentException" ∈ bs := bs_of 7 rfl rfl
theorem k_8 : Cond.initialized "java/lang/IllegalStateException" ∈ bs := bs_of 8 rfl rfl
theorem k_9 : Cond.initialized "java/util/NoSuchElementException" ∈ bs := bs_of 9 rfl rfl
theorem k_10 : Cond.classLink R_law 8 R_LC ∈ bs := bs_of 10 rfl rfl
theorem k_11 : Cond.instantiable R_LC 2 ∈ bs := bs_of 11 rfl rfl
theorem k_12 : Cond.methodLink R_law 33 y_LC_init ∈ bs := bs_of 12 rfl rfl
theorem k_13 : Cond.instanceMethod y_LC_init ∈ bs := bs_of 13 rfl rfl
theorem k_14 : Cond.code y_LC_init b_LC_init 1 none ∈ bs := bs_of 14 rfl rfl
theorem k_15 : Cond.methodLink R_LC 1 objectInit ∈ bs := bs_of 15 rfl rfl
theorem k_16 : Cond.instanceMethod objectInit ∈ bs := bs_of 16 rfl rfl
theorem k_17 : Cond.code objectInit object_method_1_code 1 none ∈ bs := bs_of 17 rfl rfl
theorem k_18 : Cond.classLink R_LC 7 R_LT ∈ bs := bs_of 18 rfl rfl
theorem k_19 : Cond.instantiable R_LT 13 ∈ bs := bs_of 19 rfl rfl
theorem k_20 : Cond.methodLink R_LC 11 y_LT_init ∈ bs := bs_of 20 rfl rfl
theorem k_21 : Cond.instanceMethod y_LT_init ∈ bs := bs_of 21 rfl rfl
theorem k_22 : Cond.code y_LT_init b_LT_init 3 none ∈ bs := bs_of 22 rfl rfl
theorem k_23 : Cond.methodLink R_LT 1 objectInit ∈ bs := bs_of 23 rfl rfl
theorem k_24 : Cond.fieldLink R_LT 16 R_LT "values" "[I" ∈ bs := bs_of 24 rfl rfl
theorem k_25 : Cond.fieldLink R_LT 20 R_LT "ends" "[Z" ∈ bs := bs_of 25 rfl rfl
theorem k_26 : Cond.fieldLink R_LT 24 R_LT "fill" "[I" ∈ bs := bs_of 26 rfl rfl
theorem k_27 : Cond.fieldLink R_LT 27 R_LT "breaks" "[I" ∈ bs := bs_of 27 rfl rfl
theorem k_28 : Cond.fieldLink R_LT 30 R_LT "order" "[I" ∈ bs := bs_of 28 rfl rfl
theorem k_29 : Cond.fieldLink R_LT 33 R_LT "free" "[I" ∈ bs := bs_of 29 rfl rfl
theorem k_30 : Cond.fieldLink R_LT 42 R_LT "frees" "I" ∈ bs := bs_of 30 rfl rfl
theorem k_31 : Cond.fieldLink R_LT 7 R_LT "used" "I" ∈ bs := bs_of 31 rfl rfl
theorem k_32 : Cond.fieldLink R_LT 13 R_LT "chunks" "I" ∈ bs := bs_of 32 rfl rfl
theorem k_34 : Cond.fieldLink R_LT 53 R_LT "count" "I" ∈ bs := bs_of 34 rfl rfl
theorem k_35 : Cond.fieldLink R_LT 56 R_LT "lines" "I" ∈ bs := bs_of 35 rfl rfl
theorem k_37 : Cond.fieldLink R_LT 36 R_LT "at" "I" ∈ bs := bs_of 37 rfl rfl
theorem k_38 : Cond.fieldLink R_LT 39 R_LT "rest" "I" ∈ bs := bs_of 38 rfl rfl
theorem k_39 : Cond.laysFinal R_LT R_LT "values" "[I" ∈ bs := bs_of 39 rfl rfl
theorem k_41 : Cond.laysFinal R_LT R_LT "ends" "[Z" ∈ bs := bs_of 41 rfl rfl
theorem k_43 : Cond.laysFinal R_LT R_LT "fill" "[I" ∈ bs := bs_of 43 rfl rfl
theorem k_45 : Cond.laysFinal R_LT R_LT "breaks" "[I" ∈ bs := bs_of 45 rfl rfl
theorem k_47 : Cond.laysFinal R_LT R_LT "order" "[I" ∈ bs := bs_of 47 rfl rfl
theorem k_49 : Cond.laysFinal R_LT R_LT "free" "[I" ∈ bs := bs_of 49 rfl rfl
theorem k_51 : Cond.lays R_LT R_LT "frees" "I" ∈ bs := bs_of 51 rfl rfl
theorem k_53 : Cond.lays R_LT R_LT "used" "I" ∈ bs := bs_of 53 rfl rfl
theorem k_55 : Cond.lays R_LT R_LT "chunks" "I" ∈ bs := bs_of 55 rfl rfl
theorem k_57 : Cond.lays R_LT R_LT "count" "I" ∈ bs := bs_of 57 rfl rfl
theorem k_59 : Cond.lays R_LT R_LT "lines" "I" ∈ bs := bs_of 59 rfl rfl
theorem k_61 : Cond.lays R_LT R_LT "at" "I" ∈ bs := bs_of 61 rfl rfl
theorem k_63 : Cond.lays R_LT R_LT "rest" "I" ∈ bs := bs_of 63 rfl rfl
theorem k_66 : Cond.arrayClass FieldType.int ∈ bs := bs_of 66 rfl rfl
theorem k_67 : Cond.arrayClass FieldType.boolean ∈ bs := bs_of 67 rfl rfl
theorem k_68 : Cond.fieldLink R_LC 14 R_LC "text" "LLineChunks$LineText;" ∈ bs := bs_of 68 rfl rfl
theorem k_69 : Cond.fieldLink R_LC 18 R_LC "all" "[I" ∈ bs := bs_of 69 rfl rfl
theorem k_70 : Cond.laysFinal R_LC R_LC "text" "LLineChunks$LineText;" ∈ bs := bs_of 70 rfl rfl
theorem k_72 : Cond.lays R_LC R_LC "all" "[I" ∈ bs := bs_of 72 rfl rfl
theorem k_75 : Cond.methodLink R_law 55 y_LC_length ∈ bs := bs_of 75 rfl rfl
theorem k_76 : Cond.instanceMethod y_LC_length ∈ bs := bs_of 76 rfl rfl
theorem k_77 : Cond.selects R_LC y_LC_length y_LC_length ∈ bs := bs_of 77 rfl rfl
theorem k_78 : Cond.code y_LC_length b_LC_length 1 (some FieldType.int) ∈ bs := bs_of 78 rfl rfl
theorem k_79 : Cond.methodLink R_law 59 y_LC_lines ∈ bs := bs_of 79 rfl rfl
theorem k_80 : Cond.instanceMethod y_LC_lines ∈ bs := bs_of 80 rfl rfl
theorem k_81 : Cond.selects R_LC y_LC_lines y_LC_lines ∈ bs := bs_of 81 rfl rfl
theorem k_82 : Cond.code y_LC_lines b_LC_lines 1 (some FieldType.int) ∈ bs := bs_of 82 rfl rfl
theorem k_83 : Cond.methodLink R_law 69 y_LC_digest ∈ bs := bs_of 83 rfl rfl
theorem k_84 : Cond.instanceMethod y_LC_digest ∈ bs := bs_of 84 rfl rfl
theorem k_85 : Cond.selects R_LC y_LC_digest y_LC_digest ∈ bs := bs_of 85 rfl rfl
theorem k_86 : Cond.code y_LC_digest b_LC_digest 3 (some FieldType.int) ∈ bs := bs_of 86 rfl rfl
theorem k_87 : Cond.methodLink R_LC 62 y_LT_copy ∈ bs := bs_of 87 rfl rfl
theorem k_88 : Cond.instanceMethod y_LT_copy ∈ bs := bs_of 88 rfl rfl
theorem k_89 : Cond.selects R_LT y_LT_copy y_LT_copy ∈ bs := bs_of 89 rfl rfl
theorem k_90 : Cond.code y_LT_copy b_LT_copy 6 none ∈ bs := bs_of 90 rfl rfl
theorem k_91 : Cond.methodLink R_law 37 y_LW_insert ∈ bs := bs_of 91 rfl rfl
theorem k_92 : Cond.static y_LW_insert ∈ bs := bs_of 92 rfl rfl
theorem k_93 : Cond.codeWith y_LW_insert b_LW_insert 7 (some FieldType.int) [(0, 14, 17, 13), (0, 14, 21, 15)] ∈ bs := bs_of 93 rfl rfl
theorem k_94 : Cond.classLink R_law 13 "java/lang/IllegalArgumentException" ∈ bs := bs_of 94 rfl rfl
theorem k_95 : Cond.classLink R_law 15 "java/lang/IllegalStateException" ∈ bs := bs_of 95 rfl rfl
theorem k_96 : Cond.methodLink R_law 7 y_LC_insert ∈ bs := bs_of 96 rfl rfl
theorem k_97 : Cond.instanceMethod y_LC_insert ∈ bs := bs_of 97 rfl rfl
theorem k_98 : Cond.selects R_LC y_LC_insert y_LC_insert ∈ bs := bs_of 98 rfl rfl
theorem k_99 : Cond.code y_LC_insert b_LC_insert 7 (some FieldType.int) ∈ bs := bs_of 99 rfl rfl
theorem k_100 : Cond.methodLink R_LC 32 y_LC_need ∈ bs := bs_of 100 rfl rfl
theorem k_101 : Cond.static y_LC_need ∈ bs := bs_of 101 rfl rfl
theorem k_102 : Cond.code y_LC_need b_LC_need 1 none ∈ bs := bs_of 102 rfl rfl
theorem k_103 : Cond.classLink R_LC 22 "java/lang/IllegalArgumentException" ∈ bs := bs_of 103 rfl rfl
theorem k_104 : Cond.instantiable "java/lang/IllegalArgumentException" 6 ∈ bs := bs_of 104 rfl rfl
theorem k_126 : Cond.instanceMethod ⟨"java/lang/Throwable", "<init>", "()V"⟩ ∈ bs := bs_of 126 rfl rfl
theorem k_127 : Cond.code ⟨"java/lang/Throwable", "<init>", "()V"⟩ prog_9_method_1_code 1 none ∈ bs := bs_of 127 rfl rfl
theorem k_128 : Cond.methodLink "java/lang/Throwable" 1 objectInit ∈ bs := bs_of 128 rfl rfl
theorem k_133 : Cond.methodLink "java/lang/Throwable" 27 ⟨"java/lang/Throwable", "fillInStackTrace", "()Ljava/lang/Throwable;"⟩ ∈ bs := bs_of 133 rfl rfl
theorem k_134 : Cond.instanceMethod ⟨"java/lang/Throwable", "fillInStackTrace", "()Ljava/lang/Throwable;"⟩ ∈ bs := bs_of 134 rfl rfl
theorem k_139 : Cond.methodLink "java/lang/Throwable" 202 ⟨"java/lang/Throwable", "fillInStackTrace", "(I)Ljava/lang/Throwable;"⟩ ∈ bs := bs_of 139 rfl rfl
theorem k_141 : Cond.instanceMethod ⟨"java/lang/Throwable", "fillInStackTrace", "(I)Ljava/lang/Throwable;"⟩ ∈ bs := bs_of 141 rfl rfl
theorem k_142 : Cond.instantiable "java/lang/Throwable" 6 ∈ bs := bs_of 142 rfl rfl
theorem k_144 : Cond.methodLink R_LC 24 ⟨"java/lang/IllegalArgumentException", "<init>", "()V"⟩ ∈ bs := bs_of 144 rfl rfl
theorem k_145 : Cond.instanceMethod ⟨"java/lang/IllegalArgumentException", "<init>", "()V"⟩ ∈ bs := bs_of 145 rfl rfl
theorem k_146 : Cond.code ⟨"java/lang/IllegalArgumentException", "<init>", "()V"⟩ prog_6_method_1_code 1 none ∈ bs := bs_of 146 rfl rfl
theorem k_147 : Cond.methodLink "java/lang/IllegalArgumentException" 1 ⟨"java/lang/RuntimeException", "<init>", "()V"⟩ ∈ bs := bs_of 147 rfl rfl
theorem k_148 : Cond.instanceMethod ⟨"java/lang/RuntimeException", "<init>", "()V"⟩ ∈ bs := bs_of 148 rfl rfl
theorem k_149 : Cond.code ⟨"java/lang/RuntimeException", "<init>", "()V"⟩ prog_8_method_1_code 1 none ∈ bs := bs_of 149 rfl rfl
theorem k_150 : Cond.methodLink "java/lang/RuntimeException" 1 ⟨"java/lang/Exception", "<init>", "()V"⟩ ∈ bs := bs_of 150 rfl rfl
theorem k_151 : Cond.instanceMethod ⟨"java/lang/Exception", "<init>", "()V"⟩ ∈ bs := bs_of 151 rfl rfl
theorem k_152 : Cond.code ⟨"java/lang/Exception", "<init>", "()V"⟩ prog_5_method_1_code 1 none ∈ bs := bs_of 152 rfl rfl
theorem k_153 : Cond.methodLink "java/lang/Exception" 1 ⟨"java/lang/Throwable", "<init>", "()V"⟩ ∈ bs := bs_of 153 rfl rfl
theorem k_166 : Cond.classLink R_LC 36 "java/lang/IllegalStateException" ∈ bs := bs_of 166 rfl rfl
theorem k_167 : Cond.instantiable "java/lang/IllegalStateException" 6 ∈ bs := bs_of 167 rfl rfl
theorem k_175 : Cond.methodLink R_LC 38 ⟨"java/lang/IllegalStateException", "<init>", "()V"⟩ ∈ bs := bs_of 175 rfl rfl
theorem k_176 : Cond.instanceMethod ⟨"java/lang/IllegalStateException", "<init>", "()V"⟩ ∈ bs := bs_of 176 rfl rfl
theorem k_177 : Cond.code ⟨"java/lang/IllegalStateException", "<init>", "()V"⟩ prog_7_method_1_code 1 none ∈ bs := bs_of 177 rfl rfl
theorem k_178 : Cond.methodLink "java/lang/IllegalStateException" 1 ⟨"java/lang/RuntimeException", "<init>", "()V"⟩ ∈ bs := bs_of 178 rfl rfl
theorem k_181 : Cond.methodLink R_LC 39 y_LT_insert ∈ bs := bs_of 181 rfl rfl
theorem k_182 : Cond.instanceMethod y_LT_insert ∈ bs := bs_of 182 rfl rfl
theorem k_183 : Cond.selects R_LT y_LT_insert y_LT_insert ∈ bs := bs_of 183 rfl rfl
theorem k_184 : Cond.code y_LT_insert b_LT_insert 6 none ∈ bs := bs_of 184 rfl rfl
theorem k_185 : Cond.methodLink R_LT 45 y_LT_seek ∈ bs := bs_of 185 rfl rfl
theorem k_187 : Cond.instanceMethod y_LT_seek ∈ bs := bs_of 187 rfl rfl
theorem k_188 : Cond.code y_LT_seek b_LT_seek 3 none ∈ bs := bs_of 188 rfl rfl
theorem k_189 : Cond.methodLink R_LT 49 y_LT_split ∈ bs := bs_of 189 rfl rfl
theorem k_191 : Cond.instanceMethod y_LT_split ∈ bs := bs_of 191 rfl rfl
theorem k_192 : Cond.code y_LT_split b_LT_split 5 none ∈ bs := bs_of 192 rfl rfl
theorem k_193 : Cond.methodLink R_law 47 y_LW_delete ∈ bs := bs_of 193 rfl rfl
theorem k_194 : Cond.static y_LW_delete ∈ bs := bs_of 194 rfl rfl
theorem k_195 : Cond.codeWith y_LW_delete b_LW_delete 5 (some FieldType.int) [(0, 10, 13, 13)] ∈ bs := bs_of 195 rfl rfl
theorem k_196 : Cond.methodLink R_law 17 y_LC_delete ∈ bs := bs_of 196 rfl rfl
theorem k_197 : Cond.instanceMethod y_LC_delete ∈ bs := bs_of 197 rfl rfl
theorem k_198 : Cond.selects R_LC y_LC_delete y_LC_delete ∈ bs := bs_of 198 rfl rfl
theorem k_199 : Cond.code y_LC_delete b_LC_delete 4 (some FieldType.int) ∈ bs := bs_of 199 rfl rfl
theorem k_200 : Cond.methodLink R_LC 43 y_LT_delete ∈ bs := bs_of 200 rfl rfl
theorem k_201 : Cond.instanceMethod y_LT_delete ∈ bs := bs_of 201 rfl rfl
theorem k_202 : Cond.selects R_LT y_LT_delete y_LT_delete ∈ bs := bs_of 202 rfl rfl
theorem k_203 : Cond.code y_LT_delete b_LT_delete 4 none ∈ bs := bs_of 203 rfl rfl
theorem k_204 : Cond.methodLink R_LT 59 y_LT_isLittle ∈ bs := bs_of 204 rfl rfl
theorem k_206 : Cond.instanceMethod y_LT_isLittle ∈ bs := bs_of 206 rfl rfl
theorem k_207 : Cond.code y_LT_isLittle b_LT_isLittle 2 (some FieldType.boolean) ∈ bs := bs_of 207 rfl rfl
theorem k_208 : Cond.methodLink R_LT 63 y_LT_join ∈ bs := bs_of 208 rfl rfl
theorem k_210 : Cond.instanceMethod y_LT_join ∈ bs := bs_of 210 rfl rfl
theorem k_211 : Cond.code y_LT_join b_LT_join 5 none ∈ bs := bs_of 211 rfl rfl
theorem k_212 : Cond.methodLink R_law 51 y_LW_get ∈ bs := bs_of 212 rfl rfl
theorem k_213 : Cond.static y_LW_get ∈ bs := bs_of 213 rfl rfl
theorem k_214 : Cond.codeWith y_LW_get b_LW_get 4 (some FieldType.int) [(0, 9, 12, 25)] ∈ bs := bs_of 214 rfl rfl
theorem k_215 : Cond.classLink R_law 25 "java/util/NoSuchElementException" ∈ bs := bs_of 215 rfl rfl
theorem k_216 : Cond.methodLink R_law 21 y_LC_get ∈ bs := bs_of 216 rfl rfl
theorem k_217 : Cond.instanceMethod y_LC_get ∈ bs := bs_of 217 rfl rfl
theorem k_218 : Cond.selects R_LC y_LC_get y_LC_get ∈ bs := bs_of 218 rfl rfl
theorem k_219 : Cond.code y_LC_get b_LC_get 2 (some FieldType.int) ∈ bs := bs_of 219 rfl rfl
theorem k_220 : Cond.methodLink R_LC 46 y_LC_there ∈ bs := bs_of 220 rfl rfl
theorem k_221 : Cond.static y_LC_there ∈ bs := bs_of 221 rfl rfl
theorem k_222 : Cond.code y_LC_there b_LC_there 1 none ∈ bs := bs_of 222 rfl rfl
theorem k_223 : Cond.classLink R_LC 25 "java/util/NoSuchElementException" ∈ bs := bs_of 223 rfl rfl
theorem k_224 : Cond.instantiable "java/util/NoSuchElementException" 6 ∈ bs := bs_of 224 rfl rfl
theorem k_232 : Cond.methodLink R_LC 27 ⟨"java/util/NoSuchElementException", "<init>", "()V"⟩ ∈ bs := bs_of 232 rfl rfl
theorem k_233 : Cond.instanceMethod ⟨"java/util/NoSuchElementException", "<init>", "()V"⟩ ∈ bs := bs_of 233 rfl rfl
theorem k_234 : Cond.code ⟨"java/util/NoSuchElementException", "<init>", "()V"⟩ prog_10_method_1_code 1 none ∈ bs := bs_of 234 rfl rfl
theorem k_235 : Cond.methodLink "java/util/NoSuchElementException" 1 ⟨"java/lang/RuntimeException", "<init>", "()V"⟩ ∈ bs := bs_of 235 rfl rfl
theorem k_238 : Cond.methodLink R_LC 49 y_LT_get ∈ bs := bs_of 238 rfl rfl
theorem k_239 : Cond.instanceMethod y_LT_get ∈ bs := bs_of 239 rfl rfl
theorem k_240 : Cond.selects R_LT y_LT_get y_LT_get ∈ bs := bs_of 240 rfl rfl
theorem k_241 : Cond.code y_LT_get b_LT_get 2 (some FieldType.int) ∈ bs := bs_of 241 rfl rfl
theorem k_242 : Cond.methodLink R_law 63 y_LW_line ∈ bs := bs_of 242 rfl rfl
theorem k_243 : Cond.static y_LW_line ∈ bs := bs_of 243 rfl rfl
theorem k_244 : Cond.codeWith y_LW_line b_LW_line 4 (some FieldType.int) [(0, 9, 12, 25)] ∈ bs := bs_of 244 rfl rfl
theorem k_245 : Cond.methodLink R_law 27 y_LC_line ∈ bs := bs_of 245 rfl rfl
theorem k_246 : Cond.instanceMethod y_LC_line ∈ bs := bs_of 246 rfl rfl
theorem k_247 : Cond.selects R_LC y_LC_line y_LC_line ∈ bs := bs_of 247 rfl rfl
theorem k_248 : Cond.code y_LC_line b_LC_line 2 (some FieldType.int) ∈ bs := bs_of 248 rfl rfl
theorem k_249 : Cond.methodLink R_LC 59 y_LC_begin ∈ bs := bs_of 249 rfl rfl
theorem k_251 : Cond.instanceMethod y_LC_begin ∈ bs := bs_of 251 rfl rfl
theorem k_252 : Cond.code y_LC_begin b_LC_begin 2 (some FieldType.int) ∈ bs := bs_of 252 rfl rfl
theorem k_253 : Cond.methodLink R_LC 56 y_LT_behindEnd ∈ bs := bs_of 253 rfl rfl
theorem k_254 : Cond.instanceMethod y_LT_behindEnd ∈ bs := bs_of 254 rfl rfl
theorem k_255 : Cond.selects R_LT y_LT_behindEnd y_LT_behindEnd ∈ bs := bs_of 255 rfl rfl
theorem k_256 : Cond.code y_LT_behindEnd b_LT_behindEnd 6 (some FieldType.int) ∈ bs := bs_of 256 rfl rfl
theorem k_257 : Cond.methodLink R_law 66 y_LW_lineOf ∈ bs := bs_of 257 rfl rfl
theorem k_258 : Cond.static y_LW_lineOf ∈ bs := bs_of 258 rfl rfl
theorem k_259 : Cond.codeWith y_LW_lineOf b_LW_lineOf 4 (some FieldType.int) [(0, 9, 12, 13)] ∈ bs := bs_of 259 rfl rfl
theorem k_260 : Cond.methodLink R_law 30 y_LC_lineOf ∈ bs := bs_of 260 rfl rfl
theorem k_261 : Cond.instanceMethod y_LC_lineOf ∈ bs := bs_of 261 rfl rfl
theorem k_262 : Cond.selects R_LC y_LC_lineOf y_LC_lineOf ∈ bs := bs_of 262 rfl rfl
theorem k_263 : Cond.code y_LC_lineOf b_LC_lineOf 5 (some FieldType.int) ∈ bs := bs_of 263 rfl rfl
theorem k_264 : Cond.classLink R_law 34 R_MO ∈ bs := bs_of 264 rfl rfl
theorem k_265 : Cond.instantiable R_MO 3 ∈ bs := bs_of 265 rfl rfl
theorem k_266 : Cond.methodLink R_law 36 y_MO_init ∈ bs := bs_of 266 rfl rfl
theorem k_267 : Cond.instanceMethod y_MO_init ∈ bs := bs_of 267 rfl rfl
theorem k_268 : Cond.code y_MO_init b_MO_init 1 none ∈ bs := bs_of 268 rfl rfl
theorem k_269 : Cond.methodLink R_MO 1 objectInit ∈ bs := bs_of 269 rfl rfl
theorem k_270 : Cond.fieldLink R_MO 9 R_MO "row" "[I" ∈ bs := bs_of 270 rfl rfl
theorem k_271 : Cond.fieldLink R_MO 16 R_MO "many" "I" ∈ bs := bs_of 271 rfl rfl
theorem k_272 : Cond.fieldLink R_MO 34 R_MO "thrown" "I" ∈ bs := bs_of 272 rfl rfl
theorem k_273 : Cond.laysFinal R_MO R_MO "row" "[I" ∈ bs := bs_of 273 rfl rfl
theorem k_275 : Cond.lays R_MO R_MO "many" "I" ∈ bs := bs_of 275 rfl rfl
theorem k_277 : Cond.lays R_MO R_MO "thrown" "I" ∈ bs := bs_of 277 rfl rfl
theorem k_280 : Cond.methodLink R_law 43 y_MO_thrown ∈ bs := bs_of 280 rfl rfl
theorem k_281 : Cond.instanceMethod y_MO_thrown ∈ bs := bs_of 281 rfl rfl
theorem k_282 : Cond.selects R_MO y_MO_thrown y_MO_thrown ∈ bs := bs_of 282 rfl rfl
theorem k_283 : Cond.code y_MO_thrown b_MO_thrown 1 (some FieldType.int) ∈ bs := bs_of 283 rfl rfl
theorem k_284 : Cond.methodLink R_law 42 y_MO_insert ∈ bs := bs_of 284 rfl rfl
theorem k_285 : Cond.instanceMethod y_MO_insert ∈ bs := bs_of 285 rfl rfl
theorem k_286 : Cond.selects R_MO y_MO_insert y_MO_insert ∈ bs := bs_of 286 rfl rfl
theorem k_287 : Cond.codeWith y_MO_insert b_MO_insert 6 (some FieldType.int) [(5, 14, 15, 13), (5, 14, 25, 24)] ∈ bs := bs_of 287 rfl rfl
theorem k_288 : Cond.classLink R_MO 13 "java/lang/IllegalArgumentException" ∈ bs := bs_of 288 rfl rfl
theorem k_289 : Cond.classLink R_MO 24 "java/lang/IllegalStateException" ∈ bs := bs_of 289 rfl rfl
theorem k_290 : Cond.methodLink R_MO 37 y_MO_insert0 ∈ bs := bs_of 290 rfl rfl
theorem k_292 : Cond.instanceMethod y_MO_insert0 ∈ bs := bs_of 292 rfl rfl
theorem k_293 : Cond.code y_MO_insert0 b_MO_insert0 6 (some FieldType.int) ∈ bs := bs_of 293 rfl rfl
theorem k_294 : Cond.methodLink R_MO 20 y_MO_check ∈ bs := bs_of 294 rfl rfl
theorem k_295 : Cond.static y_MO_check ∈ bs := bs_of 295 rfl rfl
theorem k_296 : Cond.code y_MO_check b_MO_check 1 none ∈ bs := bs_of 296 rfl rfl
theorem k_297 : Cond.methodLink R_MO 15 ⟨"java/lang/IllegalArgumentException", "<init>", "()V"⟩ ∈ bs := bs_of 297 rfl rfl
theorem k_298 : Cond.methodLink R_MO 26 ⟨"java/lang/IllegalStateException", "<init>", "()V"⟩ ∈ bs := bs_of 298 rfl rfl
theorem k_299 : Cond.methodLink R_law 50 y_MO_delete ∈ bs := bs_of 299 rfl rfl
theorem k_300 : Cond.instanceMethod y_MO_delete ∈ bs := bs_of 300 rfl rfl
theorem k_301 : Cond.selects R_MO y_MO_delete y_MO_delete ∈ bs := bs_of 301 rfl rfl
theorem k_302 : Cond.codeWith y_MO_delete b_MO_delete 4 (some FieldType.int) [(5, 11, 12, 13)] ∈ bs := bs_of 302 rfl rfl
theorem k_303 : Cond.methodLink R_MO 41 y_MO_delete0 ∈ bs := bs_of 303 rfl rfl
theorem k_305 : Cond.instanceMethod y_MO_delete0 ∈ bs := bs_of 305 rfl rfl
theorem k_306 : Cond.code y_MO_delete0 b_MO_delete0 4 (some FieldType.int) ∈ bs := bs_of 306 rfl rfl
theorem k_307 : Cond.methodLink R_law 54 y_MO_get ∈ bs := bs_of 307 rfl rfl
theorem k_308 : Cond.instanceMethod y_MO_get ∈ bs := bs_of 308 rfl rfl
theorem k_309 : Cond.selects R_MO y_MO_get y_MO_get ∈ bs := bs_of 309 rfl rfl
theorem k_310 : Cond.codeWith y_MO_get b_MO_get 3 (some FieldType.int) [(5, 10, 11, 27)] ∈ bs := bs_of 310 rfl rfl
theorem k_311 : Cond.classLink R_MO 27 "java/util/NoSuchElementException" ∈ bs := bs_of 311 rfl rfl
theorem k_312 : Cond.methodLink R_MO 45 y_MO_get0 ∈ bs := bs_of 312 rfl rfl
theorem k_314 : Cond.instanceMethod y_MO_get0 ∈ bs := bs_of 314 rfl rfl
theorem k_315 : Cond.code y_MO_get0 b_MO_get0 2 (some FieldType.int) ∈ bs := bs_of 315 rfl rfl
theorem k_316 : Cond.methodLink R_MO 29 ⟨"java/util/NoSuchElementException", "<init>", "()V"⟩ ∈ bs := bs_of 316 rfl rfl
theorem k_317 : Cond.methodLink R_law 58 y_MO_length ∈ bs := bs_of 317 rfl rfl
theorem k_318 : Cond.instanceMethod y_MO_length ∈ bs := bs_of 318 rfl rfl
theorem k_319 : Cond.selects R_MO y_MO_length y_MO_length ∈ bs := bs_of 319 rfl rfl
theorem k_320 : Cond.code y_MO_length b_MO_length 1 (some FieldType.int) ∈ bs := bs_of 320 rfl rfl
theorem k_321 : Cond.methodLink R_MO 48 y_MO_length0 ∈ bs := bs_of 321 rfl rfl
theorem k_323 : Cond.instanceMethod y_MO_length0 ∈ bs := bs_of 323 rfl rfl
theorem k_324 : Cond.code y_MO_length0 b_MO_length0 1 (some FieldType.int) ∈ bs := bs_of 324 rfl rfl
theorem k_325 : Cond.methodLink R_law 62 y_MO_lines ∈ bs := bs_of 325 rfl rfl
theorem k_326 : Cond.instanceMethod y_MO_lines ∈ bs := bs_of 326 rfl rfl
theorem k_327 : Cond.selects R_MO y_MO_lines y_MO_lines ∈ bs := bs_of 327 rfl rfl
theorem k_328 : Cond.code y_MO_lines b_MO_lines 1 (some FieldType.int) ∈ bs := bs_of 328 rfl rfl
theorem k_329 : Cond.methodLink R_MO 52 y_MO_lines0 ∈ bs := bs_of 329 rfl rfl
theorem k_331 : Cond.instanceMethod y_MO_lines0 ∈ bs := bs_of 331 rfl rfl
theorem k_332 : Cond.code y_MO_lines0 b_MO_lines0 1 (some FieldType.int) ∈ bs := bs_of 332 rfl rfl
theorem k_333 : Cond.methodLink R_MO 30 y_MO_endsBefore ∈ bs := bs_of 333 rfl rfl
theorem k_335 : Cond.instanceMethod y_MO_endsBefore ∈ bs := bs_of 335 rfl rfl
theorem k_336 : Cond.code y_MO_endsBefore b_MO_endsBefore 4 (some FieldType.int) ∈ bs := bs_of 336 rfl rfl
theorem k_337 : Cond.methodLink R_law 65 y_MO_line ∈ bs := bs_of 337 rfl rfl
theorem k_338 : Cond.instanceMethod y_MO_line ∈ bs := bs_of 338 rfl rfl
theorem k_339 : Cond.selects R_MO y_MO_line y_MO_line ∈ bs := bs_of 339 rfl rfl
theorem k_340 : Cond.codeWith y_MO_line b_MO_line 3 (some FieldType.int) [(5, 10, 11, 27)] ∈ bs := bs_of 340 rfl rfl
theorem k_341 : Cond.methodLink R_MO 55 y_MO_line0 ∈ bs := bs_of 341 rfl rfl
theorem k_343 : Cond.instanceMethod y_MO_line0 ∈ bs := bs_of 343 rfl rfl
theorem k_344 : Cond.code y_MO_line0 b_MO_line0 3 (some FieldType.int) ∈ bs := bs_of 344 rfl rfl
theorem k_345 : Cond.methodLink R_law 68 y_MO_lineOf ∈ bs := bs_of 345 rfl rfl
theorem k_346 : Cond.instanceMethod y_MO_lineOf ∈ bs := bs_of 346 rfl rfl
theorem k_347 : Cond.selects R_MO y_MO_lineOf y_MO_lineOf ∈ bs := bs_of 347 rfl rfl
theorem k_348 : Cond.codeWith y_MO_lineOf b_MO_lineOf 3 (some FieldType.int) [(5, 10, 11, 13)] ∈ bs := bs_of 348 rfl rfl
theorem k_349 : Cond.methodLink R_MO 58 y_MO_lineOf0 ∈ bs := bs_of 349 rfl rfl
theorem k_351 : Cond.instanceMethod y_MO_lineOf0 ∈ bs := bs_of 351 rfl rfl
theorem k_352 : Cond.code y_MO_lineOf0 b_MO_lineOf0 2 (some FieldType.int) ∈ bs := bs_of 352 rfl rfl
theorem k_353 : Cond.methodLink R_law 72 y_MO_digest ∈ bs := bs_of 353 rfl rfl
theorem k_354 : Cond.instanceMethod y_MO_digest ∈ bs := bs_of 354 rfl rfl
theorem k_355 : Cond.selects R_MO y_MO_digest y_MO_digest ∈ bs := bs_of 355 rfl rfl
theorem k_356 : Cond.code y_MO_digest b_MO_digest 1 (some FieldType.int) ∈ bs := bs_of 356 rfl rfl
theorem k_357 : Cond.methodLink R_MO 61 y_MO_digest0 ∈ bs := bs_of 357 rfl rfl
theorem k_359 : Cond.instanceMethod y_MO_digest0 ∈ bs := bs_of 359 rfl rfl
theorem k_360 : Cond.code y_MO_digest0 b_MO_digest0 3 (some FieldType.int) ∈ bs := bs_of 360 rfl rfl
theorem k_361 : Cond.arrayClass FieldType.long ∈ bs := bs_of 361 rfl rfl
theorem ks_LT_seek : Cond.selects R_LT y_LT_seek y_LT_seek ∈ bs := bs_sel 1 rfl rfl
theorem ks_LT_split : Cond.selects R_LT y_LT_split y_LT_split ∈ bs := bs_sel 2 rfl rfl
theorem ks_LT_isLittle : Cond.selects R_LT y_LT_isLittle y_LT_isLittle ∈ bs := bs_sel 3 rfl rfl
theorem ks_LT_join : Cond.selects R_LT y_LT_join y_LT_join ∈ bs := bs_sel 4 rfl rfl
theorem ks_LC_begin : Cond.selects R_LC y_LC_begin y_LC_begin ∈ bs := bs_sel 5 rfl rfl
theorem ks_MO_insert0 : Cond.selects R_MO y_MO_insert0 y_MO_insert0 ∈ bs := bs_sel 6 rfl rfl
theorem ks_MO_delete0 : Cond.selects R_MO y_MO_delete0 y_MO_delete0 ∈ bs := bs_sel 7 rfl rfl
theorem ks_MO_get0 : Cond.selects R_MO y_MO_get0 y_MO_get0 ∈ bs := bs_sel 8 rfl rfl
theorem ks_MO_length0 : Cond.selects R_MO y_MO_length0 y_MO_length0 ∈ bs := bs_sel 9 rfl rfl
theorem ks_MO_lines0 : Cond.selects R_MO y_MO_lines0 y_MO_lines0 ∈ bs := bs_sel 10 rfl rfl
theorem ks_MO_endsBefore : Cond.selects R_MO y_MO_endsBefore y_MO_endsBefore ∈ bs := bs_sel 11 rfl rfl
theorem ks_MO_line0 : Cond.selects R_MO y_MO_line0 y_MO_line0 ∈ bs := bs_sel 12 rfl rfl
theorem ks_MO_lineOf0 : Cond.selects R_MO y_MO_lineOf0 y_MO_lineOf0 ∈ bs := bs_sel 13 rfl rfl
theorem ks_MO_digest0 : Cond.selects R_MO y_MO_digest0 y_MO_digest0 ∈ bs := bs_sel 14 rfl rfl
theorem i_LT : ∀ w ∈ u_ws R_LT F_LT 13, w ∈ bs := by
  intro w hw
  have h : w ∈ [Cond.laysFinal R_LT R_LT "values" "[I", Cond.laysFinal R_LT R_LT "ends" "[Z", Cond.laysFinal R_LT R_LT "fill" "[I", Cond.laysFinal R_LT R_LT "breaks" "[I", Cond.laysFinal R_LT R_LT "order" "[I", Cond.laysFinal R_LT R_LT "free" "[I", Cond.lays R_LT R_LT "frees" "I", Cond.lays R_LT R_LT "used" "I", Cond.lays R_LT R_LT "chunks" "I", Cond.lays R_LT R_LT "count" "I", Cond.lays R_LT R_LT "lines" "I", Cond.lays R_LT R_LT "at" "I", Cond.lays R_LT R_LT "rest" "I"] := hw
  simp only [List.mem_cons, List.not_mem_nil, or_false] at h
  rcases h with rfl | rfl | rfl | rfl | rfl | rfl | rfl | rfl | rfl | rfl | rfl | rfl | rfl
  · exact k_39
  · exact k_41
  · exact k_43
  · exact k_45
  · exact k_47
  · exact k_49
  · exact k_51
  · exact k_53
  · exact k_55
  · exact k_57
  · exact k_59
  · exact k_61
  · exact k_63
theorem i_LC : ∀ w ∈ u_ws R_LC F_LC 2, w ∈ bs := by
  intro w hw
  have h : w ∈ [Cond.laysFinal R_LC R_LC "text" "LLineChunks$LineText;", Cond.lays R_LC R_LC "all" "[I"] := hw
  simp only [List.mem_cons, List.not_mem_nil, or_false] at h
  rcases h with rfl | rfl
  · exact k_70
  · exact k_72
theorem i_MO : ∀ w ∈ u_ws R_MO F_MO 3, w ∈ bs := by
  intro w hw
  have h : w ∈ [Cond.laysFinal R_MO R_MO "row" "[I", Cond.lays R_MO R_MO "many" "I", Cond.lays R_MO R_MO "thrown" "I"] := hw
  simp only [List.mem_cons, List.not_mem_nil, or_false] at h
  rcases h with rfl | rfl | rfl
  · exact k_273
  · exact k_275
  · exact k_277
end
section
/-! ===== numbers: arrays of whole numbers, of truth values ===== -/
def nF (F : Nat → Nat) : Nat → Int32 := fun j => nI (F j)
def bI (b : Bool) : Int32 := if b then 1 else 0
def bF (E : Nat → Bool) : Nat → Int32 := fun j => bI (E j)
def upN (F : Nat → Nat) (k v : Nat) : Nat → Nat := fun j => if j = k then v else F j
def upB (E : Nat → Bool) (k : Nat) (v : Bool) : Nat → Bool := fun j => if j = k then v else E j
theorem upd_nF (F : Nat → Nat) (k v : Nat) : upd (nF F) k (nI v) = nF (upN F k v) := by
  funext j
  unfold upd nF upN
  by_cases h : j = k <;> simp [h]
theorem upd_bF (E : Nat → Bool) (k : Nat) (v : Bool) : upd (bF E) k (bI v) = bF (upB E k v) := by
  funext j
  unfold upd bF upB
  by_cases h : j = k <;> simp [h]
theorem upN_s {F : Nat → Nat} {k v : Nat} : upN F k v k = v := by simp [upN]
theorem upN_n {F : Nat → Nat} {k v j : Nat} (h : j ≠ k) : upN F k v j = F j := by simp [upN, h]
theorem upB_s {E : Nat → Bool} {k : Nat} {v : Bool} : upB E k v k = v := by simp [upB]
theorem upB_n {E : Nat → Bool} {k j : Nat} {v : Bool} (h : j ≠ k) : upB E k v j = E j := by simp [upB, h]
theorem bI_nar (b : Bool) : vp_nar .boolean (bI b) = bI b := by cases b <;> rfl
theorem bI_t : bI true = 1 := rfl
theorem bI_f : bI false = 0 := rfl
theorem bI_0 {b : Bool} : bI b = 0 ↔ b = false := by cases b <;> simp [bI]
theorem ln_inc (a k : Nat) : nI a + nI k = nI (a + k) := nI_add a k
theorem ln_p1 (a : Nat) : nI a + Int32.ofInt 1 = nI (a + 1) := nI_1 a
theorem ln_p5 (a : Nat) : nI a + Int32.ofInt 5 = nI (a + 5) := nI_add a 5
theorem ln_m1 {a : Nat} (h : 1 ≤ a) : nI a + Int32.ofInt (-1) = nI (a - 1) := by
  obtain ⟨b, rfl⟩ : ∃ b, a = b + 1 := ⟨a - 1, by omega⟩
  exact pk_m1 b
theorem f1_LT (k : Nat) : (F_LT k).1 = R_LT := by unfold F_LT; split <;> rfl
theorem f1_LC (k : Nat) : (F_LC k).1 = R_LC := by unfold F_LC; split <;> rfl
theorem f1_MO (k : Nat) : (F_MO k).1 = R_MO := by unfold F_MO; split <;> rfl
section XR
variable {p : Program} {l : Launch} {e : Env} {R : Room} {s : State} {m : MethodId} {args : Array Value} {below : List Frame} {meth : Method} {c : Code} {H : Heap} {locs : List Loc} {cells slots : Nat} {Q : State → Prop}
variable {cc : ByteArray} {pc : Nat} {ls : Array Slot} {rest : List Value}
theorem lv_eqi {x y : Int32} (h : x = y) (k : W p l e R s m args below meth c H locs cells slots Q (F0 m pc ls (.int y :: rest))) : W p l e R s m args below meth c H locs cells slots Q (F0 m pc ls (.int x :: rest)) := by rw [h]; exact k
theorem ln_eqn {a b : Nat} (h : a = b) (k : W p l e R s m args below meth c H locs cells slots Q (F0 m pc ls (.int (nI b) :: rest))) : W p l e R s m args below meth c H locs cells slots Q (F0 m pc ls (.int (nI a) :: rest)) := by rw [h]; exact k
theorem ln_iadd (hx : p.tables.exec = Jvm.exec) (hb : c.code = cc) {a b : Nat} (hdg : decode cc pc = .ok (.iadd, 1)) (k : W p l e R s m args below meth c H locs cells slots Q (F0 m (pc + 1) ls (.int (nI (a + b)) :: rest))) : W p l e R s m args below meth c H locs cells slots Q (F0 m pc ls (.int (nI b) :: .int (nI a) :: rest)) :=
  lv_iadd hx hb hdg (lv_eqi (nI_add a b) k)
theorem ln_isub (hx : p.tables.exec = Jvm.exec) (hb : c.code = cc) {a b : Nat} (hdg : decode cc pc = .ok (.isub, 1)) (h : b ≤ a) (k : W p l e R s m args below meth c H locs cells slots Q (F0 m (pc + 1) ls (.int (nI (a - b)) :: rest))) : W p l e R s m args below meth c H locs cells slots Q (F0 m pc ls (.int (nI b) :: .int (nI a) :: rest)) :=
  lv_isub hx hb hdg (lv_eqi (pk_sub h) k)
theorem ln_imul (hx : p.tables.exec = Jvm.exec) (hb : c.code = cc) {a b : Nat} (hdg : decode cc pc = .ok (.imul, 1)) (k : W p l e R s m args below meth c H locs cells slots Q (F0 m (pc + 1) ls (.int (nI (a * b)) :: rest))) : W p l e R s m args below meth c H locs cells slots Q (F0 m pc ls (.int (nI b) :: .int (nI a) :: rest)) :=
  lv_imul hx hb hdg (lv_eqi (pk_mul a b) k)
theorem ln_idiv (hx : p.tables.exec = Jvm.exec) (hb : c.code = cc) {a b : Nat} (hdg : decode cc pc = .ok (.idiv, 1)) (ha : a < 2 ^ 31) (h0 : 0 < b) (hb2 : b < 2 ^ 31) (k : W p l e R s m args below meth c H locs cells slots Q (F0 m (pc + 1) ls (.int (nI (a / b)) :: rest))) : W p l e R s m args below meth c H locs cells slots Q (F0 m pc ls (.int (nI b) :: .int (nI a) :: rest)) :=
  lv_idiv hx hb hdg (nI_ne0 h0 hb2) (lv_eqi (pk_div ha h0 hb2) k)
theorem ln_icmp_ge (hx : p.tables.exec = Jvm.exec) (hb : c.code = cc) {a b : Nat} {off : Int} {tgt : Nat} (hdg : decode cc pc = .ok (.if_icmp .ge off, 3)) (ht : (pc : Int) + off = (tgt : Int)) (ha : a < 2 ^ 31) (hb2 : b < 2 ^ 31)
    (kt : b ≤ a → W p l e R s m args below meth c H locs cells slots Q (F0 m tgt ls rest)) (kf : a < b → W p l e R s m args below meth c H locs cells slots Q (F0 m (pc + 3) ls rest)) : W p l e R s m args below meth c H locs cells slots Q (F0 m pc ls (.int (nI b) :: .int (nI a) :: rest)) :=
  lv_icmp_ge hx hb hdg ht (fun h => kt ((nI_leI hb2 ha).mp h)) (fun h => kf (Nat.lt_of_not_le (fun q => h ((nI_leI hb2 ha).mpr q))))
theorem ln_icmp_gt (hx : p.tables.exec = Jvm.exec) (hb : c.code = cc) {a b : Nat} {off : Int} {tgt : Nat} (hdg : decode cc pc = .ok (.if_icmp .gt off, 3)) (ht : (pc : Int) + off = (tgt : Int)) (ha : a < 2 ^ 31) (hb2 : b < 2 ^ 31)
    (kt : b < a → W p l e R s m args below meth c H locs cells slots Q (F0 m tgt ls rest)) (kf : a ≤ b → W p l e R s m args below meth c H locs cells slots Q (F0 m (pc + 3) ls rest)) : W p l e R s m args below meth c H locs cells slots Q (F0 m pc ls (.int (nI b) :: .int (nI a) :: rest)) :=
  lv_icmp_gt hx hb hdg ht (fun h => kt ((nI_ltI hb2 ha).mp h)) (fun h => kf (Nat.le_of_not_lt (fun q => h ((nI_ltI hb2 ha).mpr q))))
theorem ln_icmp_lt (hx : p.tables.exec = Jvm.exec) (hb : c.code = cc) {a b : Nat} {off : Int} {tgt : Nat} (hdg : decode cc pc = .ok (.if_icmp .lt off, 3)) (ht : (pc : Int) + off = (tgt : Int)) (ha : a < 2 ^ 31) (hb2 : b < 2 ^ 31)
    (kt : a < b → W p l e R s m args below meth c H locs cells slots Q (F0 m tgt ls rest)) (kf : b ≤ a → W p l e R s m args below meth c H locs cells slots Q (F0 m (pc + 3) ls rest)) : W p l e R s m args below meth c H locs cells slots Q (F0 m pc ls (.int (nI b) :: .int (nI a) :: rest)) :=
  lv_icmp_lt hx hb hdg ht (fun h => kt ((nI_ltI ha hb2).mp h)) (fun h => kf (Nat.le_of_not_lt (fun q => h ((nI_ltI ha hb2).mpr q))))
theorem ln_icmp_le (hx : p.tables.exec = Jvm.exec) (hb : c.code = cc) {a b : Nat} {off : Int} {tgt : Nat} (hdg : decode cc pc = .ok (.if_icmp .le off, 3)) (ht : (pc : Int) + off = (tgt : Int)) (ha : a < 2 ^ 31) (hb2 : b < 2 ^ 31)
    (kt : a ≤ b → W p l e R s m args below meth c H locs cells slots Q (F0 m tgt ls rest)) (kf : b < a → W p l e R s m args below meth c H locs cells slots Q (F0 m (pc + 3) ls rest)) : W p l e R s m args below meth c H locs cells slots Q (F0 m pc ls (.int (nI b) :: .int (nI a) :: rest)) :=
  lv_icmp_le hx hb hdg ht (fun h => kt ((nI_leI ha hb2).mp h)) (fun h => kf (Nat.lt_of_not_le (fun q => h ((nI_leI ha hb2).mpr q))))
theorem ln_icmp_ne (hx : p.tables.exec = Jvm.exec) (hb : c.code = cc) {a b : Nat} {off : Int} {tgt : Nat} (hdg : decode cc pc = .ok (.if_icmp .ne off, 3)) (ht : (pc : Int) + off = (tgt : Int)) (ha : a < 2 ^ 31) (hb2 : b < 2 ^ 31)
    (kt : a ≠ b → W p l e R s m args below meth c H locs cells slots Q (F0 m tgt ls rest)) (kf : a = b → W p l e R s m args below meth c H locs cells slots Q (F0 m (pc + 3) ls rest)) : W p l e R s m args below meth c H locs cells slots Q (F0 m pc ls (.int (nI b) :: .int (nI a) :: rest)) :=
  lv_icmp_ne hx hb hdg ht (fun h => kt (fun q => h ((nI_eq ha hb2).mpr q))) (fun h => kf ((nI_eq ha hb2).mp h))
theorem ln_if_le (hx : p.tables.exec = Jvm.exec) (hb : c.code = cc) {a : Nat} {off : Int} {tgt : Nat} (hdg : decode cc pc = .ok (.ifCond .le off, 3)) (ht : (pc : Int) + off = (tgt : Int)) (ha : a < 2 ^ 31)
    (kt : a = 0 → W p l e R s m args below meth c H locs cells slots Q (F0 m tgt ls rest)) (kf : 0 < a → W p l e R s m args below meth c H locs cells slots Q (F0 m (pc + 3) ls rest)) : W p l e R s m args below meth c H locs cells slots Q (F0 m pc ls (.int (nI a) :: rest)) :=
  lv_if_le hx hb hdg ht (fun h => kt (by rcases Nat.eq_zero_or_pos a with q | q; exact q; exact absurd h (nI_nle q ha))) (fun h => kf (by rcases Nat.eq_zero_or_pos a with q | q; exact absurd (by rw [q]; exact Int32.le_refl _) h; exact q))
theorem ln_if_eq (hx : p.tables.exec = Jvm.exec) (hb : c.code = cc) {b : Bool} {off : Int} {tgt : Nat} (hdg : decode cc pc = .ok (.ifCond .eq off, 3)) (ht : (pc : Int) + off = (tgt : Int))
    (kt : b = false → W p l e R s m args below meth c H locs cells slots Q (F0 m tgt ls rest)) (kf : b = true → W p l e R s m args below meth c H locs cells slots Q (F0 m (pc + 3) ls rest)) : W p l e R s m args below meth c H locs cells slots Q (F0 m pc ls (.int (bI b) :: rest)) :=
  lv_if_eq hx hb hdg ht (fun h => kt (bI_0.mp h)) (fun h => kf (by cases b; exact absurd rfl h; rfl))
theorem ln_if_ne (hx : p.tables.exec = Jvm.exec) (hb : c.code = cc) {b : Bool} {off : Int} {tgt : Nat} (hdg : decode cc pc = .ok (.ifCond .ne off, 3)) (ht : (pc : Int) + off = (tgt : Int))
    (kt : b = true → W p l e R s m args below meth c H locs cells slots Q (F0 m tgt ls rest)) (kf : b = false → W p l e R s m args below meth c H locs cells slots Q (F0 m (pc + 3) ls rest)) : W p l e R s m args below meth c H locs cells slots Q (F0 m pc ls (.int (bI b) :: rest)) :=
  lv_if_ne hx hb hdg ht (fun h => kt (by cases b; exact absurd rfl h; rfl)) (fun h => kf (bI_0.mp h))
theorem W.mono {Q2 : State → Prop} {g : JFrame} (h : ∀ t, Q t → Q2 t) (k : W p l e R s m args below meth c H locs cells slots Q g) : W p l e R s m args below meth c H locs cells slots Q2 g := by
  intro T hT X
  obtain ⟨t, a, b⟩ := k T hT X
  exact ⟨t, a, h t b⟩
variable {D : va_G} {tys : List (ClassId × FieldType)} {ws : va_W} {A : Nat → Prop} {H0 : Heap} {a : Nat}
theorem ln_iald (hx : p.tables.exec = Jvm.exec) (hb : c.code = cc) (hK : va_K D classes tys s) (hP : va_P D classes ws H) (q0 t0 : Nat) {cA : ClassId} {n k : Nat} {F : Nat → Nat} (ha : ws[q0]? = some (a, .inl (cA, n, .inl (nF F)))) (ht : tys[t0]? = some (cA, .int)) (hk : k < n) (hn : n < 2 ^ 31) (hdg : decode cc pc = .ok (.iaload, 1))
    (kk : W p l e R s m args below meth c H locs cells slots Q (F0 m (pc + 1) ls (.int (nI (F k)) :: rest))) : W p l e R s m args below meth c H locs cells slots Q (F0 m pc ls (.int (nI k) :: .ref a :: rest)) :=
  va_iald hx hb hK hP q0 t0 ha ht (vp_in_nI hk hn) hdg (by rw [nI_clamp (by omega)]; exact kk)
theorem ln_vald (hx : p.tables.exec = Jvm.exec) (hb : c.code = cc) (hK : va_K D classes tys s) (hP : va_P D classes ws H) (q0 t0 : Nat) {cA : ClassId} {n k : Nat} {V : Nat → Int32} (ha : ws[q0]? = some (a, .inl (cA, n, .inl V))) (ht : tys[t0]? = some (cA, .int)) (hk : k < n) (hn : n < 2 ^ 31) (hdg : decode cc pc = .ok (.iaload, 1))
    (kk : W p l e R s m args below meth c H locs cells slots Q (F0 m (pc + 1) ls (.int (V k) :: rest))) : W p l e R s m args below meth c H locs cells slots Q (F0 m pc ls (.int (nI k) :: .ref a :: rest)) :=
  va_iald hx hb hK hP q0 t0 ha ht (vp_in_nI hk hn) hdg (by rw [nI_clamp (by omega)]; exact kk)
theorem ln_zald (hx : p.tables.exec = Jvm.exec) (hb : c.code = cc) (hK : va_K D classes tys s) (hP : va_P D classes ws H) (q0 t0 : Nat) {cA : ClassId} {n k : Nat} {E : Nat → Bool} (ha : ws[q0]? = some (a, .inl (cA, n, .inl (bF E)))) (ht : tys[t0]? = some (cA, .boolean)) (hk : k < n) (hn : n < 2 ^ 31) (hdg : decode cc pc = .ok (.baload, 1))
    (kk : W p l e R s m args below meth c H locs cells slots Q (F0 m (pc + 1) ls (.int (bI (E k)) :: rest))) : W p l e R s m args below meth c H locs cells slots Q (F0 m pc ls (.int (nI k) :: .ref a :: rest)) :=
  va_zald hx hb hK hP q0 t0 ha ht (vp_in_nI hk hn) hdg (by rw [nI_clamp (by omega)]; exact kk)
theorem ln_iast (hx : p.tables.exec = Jvm.exec) (hb : c.code = cc) (hK : va_K D classes tys s) (hP : va_P D classes ws H) (hD : va_D A ws) (hS : va_S A H0 H locs) (q0 t0 : Nat) {cA : ClassId} {n k v : Nat} {F : Nat → Nat} (ha : ws[q0]? = some (a, .inl (cA, n, .inl (nF F)))) (ht : tys[t0]? = some (cA, .int)) (hk : k < n) (hn : n < 2 ^ 31) (hdg : decode cc pc = .ok (.iastore, 1))
    (kk : ∀ (H1 : Heap) (locs1 : List Loc), va_P D classes (ws.set q0 (a, .inl (cA, n, .inl (nF (upN F k v))))) H1 → va_D A (ws.set q0 (a, .inl (cA, n, .inl (nF (upN F k v))))) → va_S A H0 H1 locs1 → W p l e R s m args below meth c H1 locs1 cells slots Q (F0 m (pc + 1) ls rest)) : W p l e R s m args below meth c H locs cells slots Q (F0 m pc ls (.int (nI v) :: .int (nI k) :: .ref a :: rest)) := by
  refine va_iast hx hb hK hP hD hS q0 t0 ha ht (vp_in_nI hk hn) hdg ?_
  rw [nI_clamp (by omega), upd_nF]
  exact kk
theorem ln_vast (hx : p.tables.exec = Jvm.exec) (hb : c.code = cc) (hK : va_K D classes tys s) (hP : va_P D classes ws H) (hD : va_D A ws) (hS : va_S A H0 H locs) (q0 t0 : Nat) {cA : ClassId} {n k : Nat} {v : Int32} {V : Nat → Int32} (ha : ws[q0]? = some (a, .inl (cA, n, .inl V))) (ht : tys[t0]? = some (cA, .int)) (hk : k < n) (hn : n < 2 ^ 31) (hdg : decode cc pc = .ok (.iastore, 1))
    (kk : ∀ (H1 : Heap) (locs1 : List Loc), va_P D classes (ws.set q0 (a, .inl (cA, n, .inl (upd V k v)))) H1 → va_D A (ws.set q0 (a, .inl (cA, n, .inl (upd V k v)))) → va_S A H0 H1 locs1 → W p l e R s m args below meth c H1 locs1 cells slots Q (F0 m (pc + 1) ls rest)) : W p l e R s m args below meth c H locs cells slots Q (F0 m pc ls (.int v :: .int (nI k) :: .ref a :: rest)) := by
  refine va_iast hx hb hK hP hD hS q0 t0 ha ht (vp_in_nI hk hn) hdg ?_
  rw [nI_clamp (by omega)]
  exact kk
theorem ln_zast (hx : p.tables.exec = Jvm.exec) (hb : c.code = cc) (hK : va_K D classes tys s) (hP : va_P D classes ws H) (hD : va_D A ws) (hS : va_S A H0 H locs) (q0 t0 : Nat) {cA : ClassId} {n k : Nat} {v : Bool} {E : Nat → Bool} (ha : ws[q0]? = some (a, .inl (cA, n, .inl (bF E)))) (ht : tys[t0]? = some (cA, .boolean)) (hk : k < n) (hn : n < 2 ^ 31) (hdg : decode cc pc = .ok (.bastore, 1))
    (kk : ∀ (H1 : Heap) (locs1 : List Loc), va_P D classes (ws.set q0 (a, .inl (cA, n, .inl (bF (upB E k v))))) H1 → va_D A (ws.set q0 (a, .inl (cA, n, .inl (bF (upB E k v))))) → va_S A H0 H1 locs1 → W p l e R s m args below meth c H1 locs1 cells slots Q (F0 m (pc + 1) ls rest)) : W p l e R s m args below meth c H locs cells slots Q (F0 m pc ls (.int (bI v) :: .int (nI k) :: .ref a :: rest)) := by
  refine va_zast hx hb hK hP hD hS q0 t0 ha ht (vp_in_nI hk hn) hdg ?_
  rw [nI_clamp (by omega), bI_nar, upd_bF]
  exact kk
-- fields, class by class: get, put of an int, put of a reference (final: in the constructor)
theorem g_LT (hx : p.tables.exec = Jvm.exec) (hb : c.code = cc) (hB : ∀ w ∈ bs, w.before args s = true) (hown : s.vm.findClass R_LT = some m.cls) (hK : va_K D classes tys s) (hP : va_P D classes ws H) (q0 : Nat) {fs : List Value} (he : ws[q0]? = some (a, .inr (0, fs))) (k : Nat) {index : Nat} (hk : k < 13) (hl : Cond.fieldLink R_LT index R_LT (F_LT k).2.1 (F_LT k).2.2.1 ∈ bs) {v : Value} (hv : fs[k]? = some v) (hdg : decode cc pc = .ok (.getfield index, 3))
    (kk : W p l e R s m args below meth c H locs cells slots Q (F0 m (pc + 3) ls (v :: rest))) : W p l e R s m args below meth c H locs cells slots Q (F0 m pc ls (.ref a :: rest)) :=
  va_get (D := D) (ci := 0) (C := R_LT) (T := F_LT) (N := 13) hx hb hB i_LT hown hK hP q0 he rfl k hk (hB _ hl) (fun _ h => by rw [← f1_LT k]; exact h) hv hdg kk
theorem g_LC (hx : p.tables.exec = Jvm.exec) (hb : c.code = cc) (hB : ∀ w ∈ bs, w.before args s = true) (hown : s.vm.findClass R_LC = some m.cls) (hK : va_K D classes tys s) (hP : va_P D classes ws H) (q0 : Nat) {fs : List Value} (he : ws[q0]? = some (a, .inr (1, fs))) (k : Nat) {index : Nat} (hk : k < 2) (hl : Cond.fieldLink R_LC index R_LC (F_LC k).2.1 (F_LC k).2.2.1 ∈ bs) {v : Value} (hv : fs[k]? = some v) (hdg : decode cc pc = .ok (.getfield index, 3))
    (kk : W p l e R s m args below meth c H locs cells slots Q (F0 m (pc + 3) ls (v :: rest))) : W p l e R s m args below meth c H locs cells slots Q (F0 m pc ls (.ref a :: rest)) :=
  va_get (D := D) (ci := 1) (C := R_LC) (T := F_LC) (N := 2) hx hb hB i_LC hown hK hP q0 he rfl k hk (hB _ hl) (fun _ h => by rw [← f1_LC k]; exact h) hv hdg kk
theorem g_MO (hx : p.tables.exec = Jvm.exec) (hb : c.code = cc) (hB : ∀ w ∈ bs, w.before args s = true) (hown : s.vm.findClass R_MO = some m.cls) (hK : va_K D classes tys s) (hP : va_P D classes ws H) (q0 : Nat) {fs : List Value} (he : ws[q0]? = some (a, .inr (2, fs))) (k : Nat) {index : Nat} (hk : k < 3) (hl : Cond.fieldLink R_MO index R_MO (F_MO k).2.1 (F_MO k).2.2.1 ∈ bs) {v : Value} (hv : fs[k]? = some v) (hdg : decode cc pc = .ok (.getfield index, 3))
    (kk : W p l e R s m args below meth c H locs cells slots Q (F0 m (pc + 3) ls (v :: rest))) : W p l e R s m args below meth c H locs cells slots Q (F0 m pc ls (.ref a :: rest)) :=
  va_get (D := D) (ci := 2) (C := R_MO) (T := F_MO) (N := 3) hx hb hB i_MO hown hK hP q0 he rfl k hk (hB _ hl) (fun _ h => by rw [← f1_MO k]; exact h) hv hdg kk
/-- LineChunks reads an int field of its nested class -/
theorem g_NE (hx : p.tables.exec = Jvm.exec) (hb : c.code = cc) (hB : ∀ w ∈ bs, w.before args s = true) (hown : s.vm.findClass R_LC = some m.cls) (hK : va_K D classes tys s) (hP : va_P D classes ws H) (q0 : Nat) {fs : List Value} (he : ws[q0]? = some (a, .inr (0, fs))) (k : Nat) {index : Nat} (hk : k < 13) (hl : va_Nw (.fieldLinkNest R_LC index R_LT (F_LT k).2.1 (F_LT k).2.2.1 R_LC) s) {v : Value} (hv : fs[k]? = some v) (hdg : decode cc pc = .ok (.getfield index, 3))
    (kk : W p l e R s m args below meth c H locs cells slots Q (F0 m (pc + 3) ls (v :: rest))) : W p l e R s m args below meth c H locs cells slots Q (F0 m pc ls (.ref a :: rest)) :=
  va_getN (D := D) (ci := 0) (C := R_LT) (T := F_LT) (N := 13) hx hb hB i_LT hown hK hP q0 he rfl k hk (hl.use rfl) (fun _ h => by rw [← f1_LT k]; exact h) hv hdg kk
theorem p_LT (hx : p.tables.exec = Jvm.exec) (hb : c.code = cc) (hB : ∀ w ∈ bs, w.before args s = true) (hown : s.vm.findClass R_LT = some m.cls) (hK : va_K D classes tys s) (hP : va_P D classes ws H) (hD : va_D A ws) (hS : va_S A H0 H locs) (q0 : Nat) {fs : List Value} (he : ws[q0]? = some (a, .inr (0, fs))) (k : Nat) {index : Nat} (hk : k < 13) (hl : Cond.fieldLink R_LT index R_LT (F_LT k).2.1 (F_LT k).2.2.1 ∈ bs) (hfin : (F_LT k).2.2.2 = false) (hty : t_LT k = .int) (hlen : k < fs.length) {v : Int32} (hdg : decode cc pc = .ok (.putfield index, 3))
    (kk : ∀ (H1 : Heap) (locs1 : List Loc), va_P D classes (ws.set q0 (a, .inr (0, fs.set k (.int v)))) H1 → va_D A (ws.set q0 (a, .inr (0, fs.set k (.int v)))) → va_S A H0 H1 locs1 → W p l e R s m args below meth c H1 locs1 cells slots Q (F0 m (pc + 3) ls rest)) : W p l e R s m args below meth c H locs cells slots Q (F0 m pc ls (.int v :: .ref a :: rest)) :=
  va_put (D := D) (ci := 0) (C := R_LT) (T := F_LT) (N := 13) (ty := .int) hx hb hB i_LT t_LT t_LT_ok n_LT hown hK hP hD hS q0 he rfl k hk (hB _ hl) (fun _ h => by rw [← f1_LT k]; exact h) hfin (by rw [t_LT_ok k hk, hty]) rfl rfl hlen hdg kk
theorem p_MO (hx : p.tables.exec = Jvm.exec) (hb : c.code = cc) (hB : ∀ w ∈ bs, w.before args s = true) (hown : s.vm.findClass R_MO = some m.cls) (hK : va_K D classes tys s) (hP : va_P D classes ws H) (hD : va_D A ws) (hS : va_S A H0 H locs) (q0 : Nat) {fs : List Value} (he : ws[q0]? = some (a, .inr (2, fs))) (k : Nat) {index : Nat} (hk : k < 3) (hl : Cond.fieldLink R_MO index R_MO (F_MO k).2.1 (F_MO k).2.2.1 ∈ bs) (hfin : (F_MO k).2.2.2 = false) (hty : t_MO k = .int) (hlen : k < fs.length) {v : Int32} (hdg : decode cc pc = .ok (.putfield index, 3))
    (kk : ∀ (H1 : Heap) (locs1 : List Loc), va_P D classes (ws.set q0 (a, .inr (2, fs.set k (.int v)))) H1 → va_D A (ws.set q0 (a, .inr (2, fs.set k (.int v)))) → va_S A H0 H1 locs1 → W p l e R s m args below meth c H1 locs1 cells slots Q (F0 m (pc + 3) ls rest)) : W p l e R s m args below meth c H locs cells slots Q (F0 m pc ls (.int v :: .ref a :: rest)) :=
  va_put (D := D) (ci := 2) (C := R_MO) (T := F_MO) (N := 3) (ty := .int) hx hb hB i_MO t_MO t_MO_ok n_MO hown hK hP hD hS q0 he rfl k hk (hB _ hl) (fun _ h => by rw [← f1_MO k]; exact h) hfin (by rw [t_MO_ok k hk, hty]) rfl rfl hlen hdg kk
theorem fa_ref (ty : FieldType) (v : Nat) : narrow (.array ty) (.ref v) = .ref v := rfl
theorem p_LCr (hx : p.tables.exec = Jvm.exec) (hb : c.code = cc) (hB : ∀ w ∈ bs, w.before args s = true) (hown : s.vm.findClass R_LC = some m.cls) (hK : va_K D classes tys s) (hP : va_P D classes ws H) (hD : va_D A ws) (hS : va_S A H0 H locs) (q0 : Nat) {fs : List Value} (he : ws[q0]? = some (a, .inr (1, fs))) (hl : Cond.fieldLink R_LC 18 R_LC "all" "[I" ∈ bs) (hlen : 1 < fs.length) {v : Nat} (hdg : decode cc pc = .ok (.putfield 18, 3))
    (kk : ∀ (H1 : Heap) (locs1 : List Loc), va_P D classes (ws.set q0 (a, .inr (1, fs.set 1 (.ref v)))) H1 → va_D A (ws.set q0 (a, .inr (1, fs.set 1 (.ref v)))) → va_S A H0 H1 locs1 → W p l e R s m args below meth c H1 locs1 cells slots Q (F0 m (pc + 3) ls rest)) : W p l e R s m args below meth c H locs cells slots Q (F0 m pc ls (.ref v :: .ref a :: rest)) :=
  va_put (D := D) (ci := 1) (C := R_LC) (T := F_LC) (N := 2) (ty := .array .int) hx hb hB i_LC t_LC t_LC_ok n_LC hown hK hP hD hS q0 he rfl 1 (by decide) (hB _ hl) (fun _ h => h) rfl (t_LC_ok 1 (by decide)) rfl rfl hlen hdg kk
theorem p_LTf (hx : p.tables.exec = Jvm.exec) (hb : c.code = cc) (hB : ∀ w ∈ bs, w.before args s = true) (hown : s.vm.findClass R_LT = some m.cls) (hK : va_K D classes tys s) (hP : va_P D classes ws H) (hD : va_D A ws) (hS : va_S A H0 H locs) (q0 : Nat) {fs : List Value} (he : ws[q0]? = some (a, .inr (0, fs))) (k : Nat) {index : Nat} (hk : k < 13) (hl : Cond.fieldLink R_LT index R_LT (F_LT k).2.1 (F_LT k).2.2.1 ∈ bs) (hfin : (F_LT k).2.2.2 = true) (hin : meth.name = "<init>") (hdecl : (F_LT k).1 = R_LT) {ty : FieldType} (hty : t_LT k = .array ty) (hlen : k < fs.length) {v : Nat} (hdg : decode cc pc = .ok (.putfield index, 3))
    (kk : ∀ (H1 : Heap) (locs1 : List Loc), va_P D classes (ws.set q0 (a, .inr (0, fs.set k (.ref v)))) H1 → va_D A (ws.set q0 (a, .inr (0, fs.set k (.ref v)))) → va_S A H0 H1 locs1 → W p l e R s m args below meth c H1 locs1 cells slots Q (F0 m (pc + 3) ls rest)) : W p l e R s m args below meth c H locs cells slots Q (F0 m pc ls (.ref v :: .ref a :: rest)) :=
  va_putF (D := D) (ci := 0) (C := R_LT) (T := F_LT) (N := 13) (ty := .array ty) hx hb hB i_LT t_LT t_LT_ok n_LT hown hK hP hD hS q0 he rfl k hk (hB _ hl) (fun _ h => by rw [← f1_LT k]; exact h) hfin hin hdecl (by rw [t_LT_ok k hk, hty]) rfl rfl hlen hdg kk
theorem p_MOf (hx : p.tables.exec = Jvm.exec) (hb : c.code = cc) (hB : ∀ w ∈ bs, w.before args s = true) (hown : s.vm.findClass R_MO = some m.cls) (hK : va_K D classes tys s) (hP : va_P D classes ws H) (hD : va_D A ws) (hS : va_S A H0 H locs) (q0 : Nat) {fs : List Value} (he : ws[q0]? = some (a, .inr (2, fs))) (hl : Cond.fieldLink R_MO 9 R_MO "row" "[I" ∈ bs) (hin : meth.name = "<init>") (hlen : 0 < fs.length) {v : Nat} (hdg : decode cc pc = .ok (.putfield 9, 3))
    (kk : ∀ (H1 : Heap) (locs1 : List Loc), va_P D classes (ws.set q0 (a, .inr (2, fs.set 0 (.ref v)))) H1 → va_D A (ws.set q0 (a, .inr (2, fs.set 0 (.ref v)))) → va_S A H0 H1 locs1 → W p l e R s m args below meth c H1 locs1 cells slots Q (F0 m (pc + 3) ls rest)) : W p l e R s m args below meth c H locs cells slots Q (F0 m pc ls (.ref v :: .ref a :: rest)) :=
  va_putF (D := D) (ci := 2) (C := R_MO) (T := F_MO) (N := 3) (ty := .array .int) hx hb hB i_MO t_MO t_MO_ok n_MO hown hK hP hD hS q0 he rfl 0 (by decide) (hB _ hl) (fun _ h => h) rfl hin rfl (t_MO_ok 0 (by decide)) rfl rfl hlen hdg kk
theorem p_LCf (hx : p.tables.exec = Jvm.exec) (hb : c.code = cc) (hB : ∀ w ∈ bs, w.before args s = true) (hown : s.vm.findClass R_LC = some m.cls) (hK : va_K D classes tys s) (hP : va_P D classes ws H) (hD : va_D A ws) (hS : va_S A H0 H locs) (q0 : Nat) {fs : List Value} (he : ws[q0]? = some (a, .inr (1, fs))) (hl : Cond.fieldLink R_LC 14 R_LC "text" "LLineChunks$LineText;" ∈ bs) (hin : meth.name = "<init>") (hlen : 0 < fs.length) {v : Nat} (hdg : decode cc pc = .ok (.putfield 14, 3))
    (kk : ∀ (H1 : Heap) (locs1 : List Loc), va_P D classes (ws.set q0 (a, .inr (1, fs.set 0 (.ref v)))) H1 → va_D A (ws.set q0 (a, .inr (1, fs.set 0 (.ref v)))) → va_S A H0 H1 locs1 → W p l e R s m args below meth c H1 locs1 cells slots Q (F0 m (pc + 3) ls rest)) : W p l e R s m args below meth c H locs cells slots Q (F0 m pc ls (.ref v :: .ref a :: rest)) :=
  va_putF (D := D) (ci := 1) (C := R_LC) (T := F_LC) (N := 2) (ty := .object "LineChunks$LineText") hx hb hB i_LC t_LC t_LC_ok n_LC hown hK hP hD hS q0 he rfl 0 (by decide) (hB _ hl) (fun _ h => h) rfl hin rfl (t_LC_ok 0 (by decide)) rfl rfl hlen hdg kk
end XR
end
section
/-! ===== what the tables and the heap must say beside bs: nest mates' fields, the exceptions' chain, Throwable's two statics ===== -/
def xIAE : String := "java/lang/IllegalArgumentException"
def xISE : String := "java/lang/IllegalStateException"
def xNSE : String := "java/util/NoSuchElementException"
def xz (C n d : String) (U : State) : Prop := ∃ (c : ClassId) (k : Class) (i : Nat) (f : Field) (a : Nat) (cell : Cell) (u : RefV), U.vm.findClass C = some c ∧ U.fieldFound? C n d = some (c, k, i, f) ∧ f.isStatic = true ∧ k.statics = some a ∧ U.heap[a]? = some cell ∧ cell.vm.isStatics = true ∧ cell.cls = c ∧ f.slot < cell.slots.size ∧ k.staticTypes[f.slot]? = some f.type ∧ cell.slots[f.slot]? = some u.v
theorem xz_of {args : Array Value} {s : State} {C n d : String} (h1 : (Cond.laysStatic C n d).before args s = true) (h2 : (Cond.isRef (.static C n d)).before args s = true) : xz C n d s := by
  obtain ⟨c, k, i, f, a, cell, hc, hf, hst, hsta, hcell, hiss, hcls, hlt, hty⟩ := Cond.laysStatic_spec h1
  obtain ⟨u, hu⟩ := Cond.staticRefV hf hst hsta hcell hiss h2
  exact ⟨c, k, i, f, a, cell, u, hc, hf, hst, hsta, hcell, hiss, hcls, hlt, hty, hu⟩
theorem xz_lays {args : Array Value} {s : State} {C n d : String} (h : xz C n d s) : (Cond.laysStatic C n d).before args s = true := by
  obtain ⟨c, k, i, f, a, cell, u, hc, hf, hst, hsta, hcell, hiss, hcls, hlt, hty, hu⟩ := h
  simp [Cond.before, Cond.holds, Cond.value, hc, hf, hst, hsta, hcell, hiss, hcls, hlt, hty]
theorem xz_ref {args : Array Value} {s : State} {C n d : String} (h : xz C n d s) : (Cond.isRef (.static C n d)).before args s = true := by
  obtain ⟨c, k, i, f, a, cell, u, hc, hf, hst, hsta, hcell, hiss, hcls, hlt, hty, hu⟩ := h
  have he : (Term.static C n d).eval args s none [] s = some u.v := by
    simp [Term.eval, State.fieldNamed?, hf, hst, hsta, hcell, hiss, hu]
  simp only [Cond.before, Cond.holds, Cond.value, he]
  obtain ⟨v, hv⟩ := u
  cases v <;> simp [Value.isRef] at hv ⊢
theorem xz_move {s U : State} {C n d : String} (hvm : s.vm.Alike U.vm) (hH : ∀ (a : Nat) (cell : Cell), s.heap[a]? = some cell → cell.vm.isStatics = true → U.heap[a]? = some cell) (h : xz C n d s) : xz C n d U := by
  obtain ⟨c, k, i, f, a, cell, u, hc, hf, hst, hsta, hcell, hiss, hcls, hlt, hty, hu⟩ := h
  obtain ⟨k', hi', he⟩ := State.fieldFound?_setVm (s := s) hvm hf
  exact ⟨c, k', i, f, a, cell, u, by rw [hvm.findClass]; exact hc, by simpa only [State.fieldFound?, State.vm_setVm] using hi', hst, by rw [he]; exact hsta, hH a cell hcell hiss, hiss, hcls, hlt, by rw [he]; exact hty, hu⟩
/-- one class can't be cast to another -/
def xno (A B : String) (U : State) : Prop := ∃ a b : ClassId, U.vm.findClass A = some a ∧ U.vm.findClass B = some b ∧ U.vm.assignable a b = false
theorem xno_of {args : Array Value} {s : State} {A B : String} {a : ClassId} (ha : s.vm.findClass A = some a) {b : ClassId} (hb : s.vm.findClass B = some b) (h : (Cond.not (.castable A B)).before args s = true) : xno A B s := by
  have hv := Cond.holds_not_iff.mp h
  simp only [Cond.value, ha, hb] at hv
  exact ⟨a, b, ha, hb, Option.some.inj hv⟩
theorem xno_move {s U : State} {A B : String} (hvm : s.vm.Alike U.vm) (h : xno A B s) : xno A B U := by
  obtain ⟨a, b, h1, h2, h3⟩ := h
  exact ⟨a, b, by rw [hvm.findClass]; exact h1, by rw [hvm.findClass]; exact h2, by rw [hvm.assignable]; exact h3⟩
def xw1 : List Cond := [.castable xIAE xIAE, .castable xISE xISE, .castable xNSE xNSE, .declares (Bundle.init0 "java/lang/RuntimeException"), .declares (Bundle.init0 "java/lang/Exception"), .declares (Bundle.init0 Bundle.tN)]
def xk (U : State) : Prop := va_Nw (.fieldLinkNest R_LC 28 R_LT "count" "I" R_LC) U ∧ va_Nw (.fieldLinkNest R_LC 53 R_LT "lines" "I" R_LC) U ∧ (∀ w ∈ xw1, va_Nw w U) ∧ xno xISE xIAE U ∧ xz Bundle.tN "UNASSIGNED_STACK" Bundle.steD U ∧ xz Bundle.tN "SUPPRESSED_SENTINEL" Bundle.listD U
theorem xw1_face : ∀ w ∈ xw1, w.onTables = true ∧ w.keepsFace = true := by decide
theorem xface_move {s U : State} (hW : s.WarmedH U.vm) {w : Cond} (h1 : w.onTables = true) (h2 : w.keepsFace = true) (h : va_Nw w s) : va_Nw w U :=
  va_tabs h1 (rfl : (s.setVm U.vm).vm = U.vm) (Cond.before_shiftedFace (args := #[]) (State.Shifted.of_warmed hW) w h2 h)
theorem xk_move {s U : State} (hW : s.WarmedH U.vm) (hH : ∀ (a : Nat) (cell : Cell), s.heap[a]? = some cell → cell.vm.isStatics = true → U.heap[a]? = some cell) (h : xk s) : xk U := by
  obtain ⟨h1, h2, h3, h4, h5, h6⟩ := h
  exact ⟨h1.warmF hW, h2.warmF hW, fun w hw => xface_move hW (xw1_face w hw).1 (xw1_face w hw).2 (h3 w hw), xno_move hW.alike h4, xz_move hW.alike hH h5, xz_move hW.alike hH h6⟩
theorem xk_same {s U : State} (hvm : U.vm = s.vm) (hh : U.heap = s.heap) (h : xk s) : xk U :=
  xk_move (s := s) (U := U) (by rw [hvm]; exact State.WarmedH.refl s) (fun a cell h1 _ => by rw [hh]; exact h1) h
/-! ===== contracts: methods that only read (RV, RI), that write (CV, CI), that throw (XT) ===== -/
abbrev TY (cI cZ cL : ClassId) : List (ClassId × FieldType) := [(cI, .int), (cZ, .boolean), (cL, .long)]
def PcR (D : va_G) (tys : List (ClassId × FieldType)) (av : List Value) (ws : va_W) : Array Value → State → Prop := va_Pc av (fun U => va_P D classes ws U.heap ∧ va_K D classes tys U ∧ xk U)
def PcC (D : va_G) (tys : List (ClassId × FieldType)) (av : List Value) (ws : va_W) (sz : Nat) : Array Value → State → Prop := va_Pc av (fun U => U.heap.size = sz ∧ va_P D classes ws U.heap ∧ va_K D classes tys U ∧ va_D (fun _ => True) ws ∧ xk U)
theorem PcR_blind {D : va_G} {tys : List (ClassId × FieldType)} {av : List Value} {ws : va_W} : FrameBlind (PcR D tys av ws) := by
  intro a U g mk q
  obtain ⟨q0, qP, qK, qX⟩ := q
  exact ⟨q0, qP, va_K.moved (u := U) (U := U.calling g mk a) (Vm.Alike.refl U.vm) qK, xk_same (s := U) (U := U.calling g mk a) rfl rfl qX⟩
theorem PcC_blind {D : va_G} {tys : List (ClassId × FieldType)} {av : List Value} {ws : va_W} {sz : Nat} : FrameBlind (PcC D tys av ws sz) := by
  intro a U g mk q
  obtain ⟨q0, q1, qP, qK, qD, qX⟩ := q
  exact ⟨q0, q1, qP, va_K.moved (u := U) (U := U.calling g mk a) (Vm.Alike.refl U.vm) qK, qD, xk_same (s := U) (U := U.calling g mk a) rfl rfl qX⟩
def QRi (post : Int32 → Prop) : Array Value → State → Outcome → State → Prop := fun _ st o t => (∃ r : Int32, o = .returned (some (.int r)) ∧ post r) ∧ t.heap = st.heap
def QRv : Array Value → State → Outcome → State → Prop := fun _ st o t => o = .returned none ∧ t.heap = st.heap
def RI (l : Launch) (y : MethodName) (hd : Cond) (rm : Room) (D : va_G) (tys : List (ClassId × FieldType)) (av : List Value) (ws : va_W) (post : Int32 → Prop) : Prop := Met l y (hd :: bs) rm (PcR D tys av ws) (QRi post) rm.cells rm.slots (fun _ => False)
def RV (l : Launch) (y : MethodName) (hd : Cond) (rm : Room) (D : va_G) (tys : List (ClassId × FieldType)) (av : List Value) (ws : va_W) : Prop := Met l y (hd :: bs) rm (PcR D tys av ws) QRv rm.cells rm.slots (fun _ => False)
def QCv (D : va_G) (tys : List (ClassId × FieldType)) {S : Type} (post : S → Prop) (wo : S → va_W) (A : Nat → Prop) : Array Value → State → Outcome → State → Prop := va_Qv post (fun u t => va_P D classes (wo u) t.heap ∧ va_K D classes tys t ∧ va_D A (wo u)) A
def QCi (D : va_G) (tys : List (ClassId × FieldType)) {S : Type} (post : Int32 → S → Prop) (wo : S → va_W) (A : Nat → Prop) : Array Value → State → Outcome → State → Prop := va_Qi post (fun u t => va_P D classes (wo u) t.heap ∧ va_K D classes tys t ∧ va_D A (wo u)) A
def CV (l : Launch) (y : MethodName) (hd : Cond) (rm : Room) (D : va_G) (tys : List (ClassId × FieldType)) (av : List Value) (ws : va_W) {S : Type} (post : S → Prop) (wo : S → va_W) : Prop := ∀ sz : Nat, Met l y (hd :: bs) rm (PcC D tys av ws sz) (QCv D tys post wo (va_A ws sz)) rm.cells rm.slots (va_A ws sz)
def CI (l : Launch) (y : MethodName) (hd : Cond) (rm : Room) (D : va_G) (tys : List (ClassId × FieldType)) (av : List Value) (ws : va_W) {S : Type} (post : Int32 → S → Prop) (wo : S → va_W) : Prop := ∀ sz : Nat, Met l y (hd :: bs) rm (PcC D tys av ws sz) (QCi D tys post wo (va_A ws sz)) rm.cells rm.slots (va_A ws sz)
/-- it throws: an object of the class cls, new; nothing that was there has changed -/
def XEnd (st : State) (o : Outcome) (t : State) (L : List Loc) (k n : Nat) : Prop := (∃ x, o = .threw x) ∧ st.WarmedH t.vm ∧ st.sameButNew ({ t with vm := st.vm } : State) L k n
def xQ (cls : String) : State → Outcome → State → Prop := fun st o t => ∃ (x : Nat) (cell : Cell) (cX : ClassId), o = .threw x ∧ st.heap.size ≤ x ∧ t.heap[x]? = some cell ∧ st.vm.findClass cls = some cX ∧ cell.cls = cX ∧ cell.vm.isStatics = false ∧ XEnd st o t [] 1 6
def XT (l : Launch) (y : MethodName) (hd : Cond) (rm : Room) (D : va_G) (tys : List (ClassId × FieldType)) (av : List Value) (ws : va_W) (cls : String) : Prop := (rm.cells = 1 ∧ rm.slots = 6) ∧ MetFree l y (headSpec (hd :: bs) rm) (PcR D tys av ws) (fun _ _ _ _ _ => True) (fun _ st o t => xQ cls st o t)
/-! ===== the body of a method ===== -/
def Cx (p : Program) (s : State) (m : MethodId) (args : Array Value) (meth : Method) (c : Code) (own : String) (cc : ByteArray) (nL : Nat) (ret : Option FieldType) (tb : List ExceptionTableEntry) (D : va_G) (tys : List (ClassId × FieldType)) : Prop :=
  p.tables.exec = Jvm.exec ∧ c.code = cc ∧ c.maxLocals = nL ∧ s.vm.findClass own = some m.cls ∧ (∀ w ∈ bs, w.before args s = true) ∧ meth.locks = false ∧ meth.sig.returnType = ret ∧ c.exceptionTable.toList = tb ∧ va_K D classes tys s ∧ xk s
/-- what may be written: everything new, and of the old cells none of statics -/
def Aok (s : State) (A : Nat → Prop) : Prop := (∀ q : Nat, s.heap.size ≤ q → A q) ∧ ∀ (q : Nat) (cell : Cell), A q → s.heap[q]? = some cell → cell.vm.isStatics = false
theorem arrV_vm (cA : ClassId) (n : Nat) (f : Nat → Value) : (arrV cA n f).vm = .none := rfl
theorem va_at_vm {D : va_G} {cl : List vw_C} {q : Nat × va_E} {H : Heap} (h : va_at D cl q H) {cell : Cell} (hc : H[q.1]? = some cell) : cell.vm.isStatics = false := by
  obtain ⟨a, e⟩ := q
  cases e with
  | inl x =>
    have h1 : H[a]? = some (vp_cell x.1 x.2) := h
    have h2 : vp_cell x.1 x.2 = cell := Option.some.inj (h1.symm.trans hc)
    rw [← h2]
    obtain ⟨cA, n, f⟩ := x
    rcases f with f | f | f | f | f <;> rfl
  | inr o =>
    obtain ⟨r, -, cell', h1, -, h3, -⟩ := h
    have h2 : cell' = cell := Option.some.inj (h1.symm.trans hc)
    rw [← h2, h3]; rfl
theorem Aok_of {s : State} {D : va_G} {ws : va_W} (hP : va_P D classes ws s.heap) : Aok s (va_A ws s.heap.size) := by
  refine ⟨fun q h => Or.inr h, fun q cell hA hc => ?_⟩
  rcases hA with ⟨k, e, h⟩ | h
  · exact va_at_vm (hP k _ h) hc
  · exact absurd (Array.getElem?_eq_some_iff.mp hc).1 (Nat.not_lt.mpr h)
theorem Aok_new (s : State) : Aok s (fun q => s.heap.size ≤ q) := ⟨fun _ h => h, fun q cell h hc => absurd (Array.getElem?_eq_some_iff.mp hc).1 (Nat.not_lt.mpr h)⟩
/-- xk at a later heap -/
theorem xk_at {s U : State} {A : Nat → Prop} {H : Heap} {locs : List Loc} (hA : Aok s A) (hS : va_S A s.heap H locs) (hU : U.heap = H) (hW : s.WarmedH U.vm) (h : xk s) : xk U := by
  refine xk_move hW (fun a cell h1 h2 => ?_) h
  have hlt := (Array.getElem?_eq_some_iff.mp h1).1
  rw [hU, hS.2.1 a hlt (fun z => by have := hA.2 a cell z h1; rw [h2] at this; cases this)]
  exact h1
theorem xempty {t : Array ExceptionTableEntry} (h : t.isEmpty = true) : t.toList = [] := by
  have := Array.isEmpty_iff.mp h
  rw [this]
theorem CV.mk {l : Launch} {y : MethodName} {cc : ByteArray} {maxL : Nat} {rm : Room} {D : va_G} {tys : List (ClassId × FieldType)} {av : List Value} {ws : va_W} {S : Type} {post : S → Prop} {wo : S → va_W}
    (hy : plainName y.cls = true) (hn : (lg_sl av).length ≤ maxL)
    (body : ∀ (p : Program) (e : Env) (s : State) (m : MethodId) (below : List Frame) (meth : Method) (c : Code) (A : Nat → Prop) (ls : Array Slot), Cx p s m av.toArray meth c y.cls cc maxL none [] D tys → meth.name = y.name → Aok s A → va_P D classes ws s.heap → va_D A ws → lv_has ls maxL (lv_args 0 av) →
      W p l e rm s m av.toArray below meth c s.heap [] 0 0 (MQ below (QCv D tys post wo A) av.toArray s rm.cells rm.slots A) (F0 m 0 ls [])) : CV l y (.code y cc maxL none) rm D tys av ws post wo := by
  intro sz
  refine Met.ofW (cc := cc) (maxL := maxL) (ret := none) hy rfl ?_
  intro p e s m args below meth c s₁ B hml hv
  obtain ⟨rfl, hsz, hP, hK, hD0, hX⟩ := hv
  have hts := atoms_spec (ws := Cond.code y cc maxL none :: bs) B.pre
  subst hsz
  have hD := hD0.self (sz := s.heap.size)
  rw [lg_entry_eq]
  exact body p e s m below meth c _ _ ⟨B.exec, B.bytes, hml, findClass_of_methodNamed B.named, fun w h => hts w (List.mem_cons_of_mem _ h), B.notSynchronized, B.returns, xempty (B.noHandlers (hts _ List.mem_cons_self)), hK, hX⟩ (name_of_methodNamed B.named B.method).1 (Aok_of hP) hP hD (lv_entry av hn)
theorem CI.mk {l : Launch} {y : MethodName} {cc : ByteArray} {maxL : Nat} {ret : Option FieldType} {rm : Room} {D : va_G} {tys : List (ClassId × FieldType)} {av : List Value} {ws : va_W} {S : Type} {post : Int32 → S → Prop} {wo : S → va_W}
    (hy : plainName y.cls = true) (hn : (lg_sl av).length ≤ maxL)
    (body : ∀ (p : Program) (e : Env) (s : State) (m : MethodId) (below : List Frame) (meth : Method) (c : Code) (A : Nat → Prop) (ls : Array Slot), Cx p s m av.toArray meth c y.cls cc maxL ret [] D tys → Aok s A → va_P D classes ws s.heap → va_D A ws → lv_has ls maxL (lv_args 0 av) →
      W p l e rm s m av.toArray below meth c s.heap [] 0 0 (MQ below (QCi D tys post wo A) av.toArray s rm.cells rm.slots A) (F0 m 0 ls [])) : CI l y (.code y cc maxL ret) rm D tys av ws post wo := by
  intro sz
  refine Met.ofW (cc := cc) (maxL := maxL) (ret := ret) hy rfl ?_
  intro p e s m args below meth c s₁ B hml hv
  obtain ⟨rfl, hsz, hP, hK, hD0, hX⟩ := hv
  have hts := atoms_spec (ws := Cond.code y cc maxL ret :: bs) B.pre
  subst hsz
  have hD := hD0.self (sz := s.heap.size)
  rw [lg_entry_eq]
  exact body p e s m below meth c _ _ ⟨B.exec, B.bytes, hml, findClass_of_methodNamed B.named, fun w h => hts w (List.mem_cons_of_mem _ h), B.notSynchronized, B.returns, xempty (B.noHandlers (hts _ List.mem_cons_self)), hK, hX⟩ (Aok_of hP) hP hD (lv_entry av hn)
/-- the same for a method with an exception table -/
theorem CI.mkW {l : Launch} {y : MethodName} {cc : ByteArray} {maxL : Nat} {ret : Option FieldType} {hh : List (Nat × Nat × Nat × Nat)} {rm : Room} {D : va_G} {tys : List (ClassId × FieldType)} {av : List Value} {ws : va_W} {S : Type} {post : Int32 → S → Prop} {wo : S → va_W}
    (hy : plainName y.cls = true) (hn : (lg_sl av).length ≤ maxL)
    (body : ∀ (p : Program) (e : Env) (s : State) (m : MethodId) (below : List Frame) (meth : Method) (c : Code) (A : Nat → Prop) (ls : Array Slot), Cx p s m av.toArray meth c y.cls cc maxL ret (tableOf hh) D tys → Aok s A → va_P D classes ws s.heap → va_D A ws → lv_has ls maxL (lv_args 0 av) →
      W p l e rm s m av.toArray below meth c s.heap [] 0 0 (MQ below (QCi D tys post wo A) av.toArray s rm.cells rm.slots A) (F0 m 0 ls [])) : CI l y (.codeWith y cc maxL ret hh) rm D tys av ws post wo := by
  intro sz
  refine va_MetW (cc := cc) (maxL := maxL) (ret := ret) (hh := hh) hy rfl ?_
  intro p e s m args below meth c s₁ B hml hv
  obtain ⟨rfl, hsz, hP, hK, hD0, hX⟩ := hv
  have hts := atoms_spec (ws := Cond.codeWith y cc maxL ret hh :: bs) B.pre
  subst hsz
  have hD := hD0.self (sz := s.heap.size)
  have htab : c.exceptionTable.toList = tableOf hh := by
    obtain ⟨m9, meth9, c9, hn9, h1, h2, -, -, h5, -⟩ := Cond.codeWith_spec (hts _ List.mem_cons_self)
    cases B.named.symm.trans hn9
    cases B.method.symm.trans h1
    cases (Stand.of_body B).code.symm.trans h2
    rw [← h5, table_eq]
  rw [lg_entry_eq]
  exact body p e s m below meth c _ _ ⟨B.exec, B.bytes, hml, findClass_of_methodNamed B.named, fun w h => hts w (List.mem_cons_of_mem _ h), B.notSynchronized, B.returns, htab, hK, hX⟩ (Aok_of hP) hP hD (lv_entry av hn)
theorem RI.mk {l : Launch} {y : MethodName} {cc : ByteArray} {maxL : Nat} {ret : Option FieldType} {rm : Room} {D : va_G} {tys : List (ClassId × FieldType)} {av : List Value} {ws : va_W} {post : Int32 → Prop}
    (hy : plainName y.cls = true) (hn : (lg_sl av).length ≤ maxL)
    (body : ∀ (p : Program) (e : Env) (s : State) (m : MethodId) (below : List Frame) (meth : Method) (c : Code) (ls : Array Slot), Cx p s m av.toArray meth c y.cls cc maxL ret [] D tys → va_P D classes ws s.heap → lv_has ls maxL (lv_args 0 av) →
      W p l e rm s m av.toArray below meth c s.heap [] 0 0 (MQ below (QRi post) av.toArray s rm.cells rm.slots (fun _ => False)) (F0 m 0 ls [])) : RI l y (.code y cc maxL ret) rm D tys av ws post := by
  refine Met.ofW (cc := cc) (maxL := maxL) (ret := ret) hy rfl ?_
  intro p e s m args below meth c s₁ B hml hv
  obtain ⟨rfl, hP, hK, hX⟩ := hv
  have hts := atoms_spec (ws := Cond.code y cc maxL ret :: bs) B.pre
  rw [lg_entry_eq]
  exact body p e s m below meth c _ ⟨B.exec, B.bytes, hml, findClass_of_methodNamed B.named, fun w h => hts w (List.mem_cons_of_mem _ h), B.notSynchronized, B.returns, xempty (B.noHandlers (hts _ List.mem_cons_self)), hK, hX⟩ hP (lv_entry av hn)
theorem RV.mk {l : Launch} {y : MethodName} {cc : ByteArray} {maxL : Nat} {rm : Room} {D : va_G} {tys : List (ClassId × FieldType)} {av : List Value} {ws : va_W}
    (hy : plainName y.cls = true) (hn : (lg_sl av).length ≤ maxL)
    (body : ∀ (p : Program) (e : Env) (s : State) (m : MethodId) (below : List Frame) (meth : Method) (c : Code) (ls : Array Slot), Cx p s m av.toArray meth c y.cls cc maxL none [] D tys → va_P D classes ws s.heap → lv_has ls maxL (lv_args 0 av) →
      W p l e rm s m av.toArray below meth c s.heap [] 0 0 (MQ below QRv av.toArray s rm.cells rm.slots (fun _ => False)) (F0 m 0 ls [])) : RV l y (.code y cc maxL none) rm D tys av ws := by
  refine Met.ofW (cc := cc) (maxL := maxL) (ret := none) hy rfl ?_
  intro p e s m args below meth c s₁ B hml hv
  obtain ⟨rfl, hP, hK, hX⟩ := hv
  have hts := atoms_spec (ws := Cond.code y cc maxL none :: bs) B.pre
  rw [lg_entry_eq]
  exact body p e s m below meth c _ ⟨B.exec, B.bytes, hml, findClass_of_methodNamed B.named, fun w h => hts w (List.mem_cons_of_mem _ h), B.notSynchronized, B.returns, xempty (B.noHandlers (hts _ List.mem_cons_self)), hK, hX⟩ hP (lv_entry av hn)
/-- what a throwing body must come to -/
def MQX (below : List Frame) (cls : String) (s : State) : State → Prop := fun t => ∃ o, t.status = .running ∧ Ended t below o ∧ xQ cls s o t
theorem XT.mk {l : Launch} {y : MethodName} {cc : ByteArray} {maxL : Nat} {ret : Option FieldType} {rm : Room} {D : va_G} {tys : List (ClassId × FieldType)} {av : List Value} {ws : va_W} {cls : String}
    (hy : plainName y.cls = true) (hn : (lg_sl av).length ≤ maxL) (hrm : rm.cells = 1 ∧ rm.slots = 6)
    (body : ∀ (p : Program) (e : Env) (s : State) (m : MethodId) (below : List Frame) (meth : Method) (c : Code) (ls : Array Slot), Cx p s m av.toArray meth c y.cls cc maxL ret [] D tys → va_P D classes ws s.heap → lv_has ls maxL (lv_args 0 av) →
      W p l e rm s m av.toArray below meth c s.heap [] 0 0 (MQX below cls s) (F0 m 0 ls [])) : XT l y (.code y cc maxL ret) rm D tys av ws cls := by
  refine ⟨hrm, MetFree.of_bodyS (code := cc) (maxLocals := maxL) (ret := ret) hy ?_ ?_⟩
  · intro args s m h hn
    obtain ⟨meth, c, h1, h2, h3, h4, h5, h6, -, -⟩ := Cond.code_spec hn (atoms_spec (ws := Cond.code y cc maxL ret :: bs) h _ List.mem_cons_self)
    exact ⟨meth, c, h1, h2, h3, h4, h5, h6⟩
  · intro p e s m args below meth c s₁ B hml hv _
    obtain ⟨rfl, hP, hK, hX⟩ := hv
    have hts := atoms_spec (ws := Cond.code y cc maxL ret :: bs) B.pre
    have hh0 : s₁.heap = s.heap := by rw [B.state]; rfl
    rw [lg_entry_eq]
    obtain ⟨t, a1, o, b1, b2, b3⟩ := body p e s m below meth c _ ⟨B.exec, B.bytes, hml, findClass_of_methodNamed B.named, fun w h => hts w (List.mem_cons_of_mem _ h), B.notSynchronized, B.returns, xempty (B.noHandlers (hts _ List.mem_cons_self)), hK, hX⟩ hP (lv_entry av hn) s₁ hh0 (Stand.of_body B)
    exact ⟨t, o, a1, b1, b2, b3⟩
section XB
variable {p : Program} {l : Launch} {e : Env} {R : Room} {s : State} {m : MethodId} {args : Array Value} {below : List Frame} {meth : Method} {c : Code} {H : Heap} {locs : List Loc} {cells slots : Nat} {Q : State → Prop}
variable {cc : ByteArray} {pc nL : Nat} {ls : Array Slot} {rest : List Value} {own : String} {ret : Option FieldType} {tb : List ExceptionTableEntry} {D : va_G} {tys : List (ClassId × FieldType)} {A : Nat → Prop} {ws : va_W} {mc ms : Nat}
-- the ends
theorem e_Cv {S : Type} {post : S → Prop} {wo : S → va_W} (C : Cx p s m args meth c own cc nL none tb D tys) (hS : va_S A s.heap H locs) (u : S) (hp : post u) (hP : va_P D classes (wo u) H) (hD : va_D A (wo u)) (h1 : cells ≤ mc) (h2 : slots ≤ ms) (hdg : decode cc pc = .ok (.return_, 1)) :
    W p l e R s m args below meth c H locs cells slots (MQ below (QCv D tys post wo A) args s mc ms A) (F0 m pc ls []) := by
  obtain ⟨hx, hb, -, -, -, hlk, hr, -, hK, -⟩ := C
  exact W.widen h1 h2 (W.vret hx hb hr (fun t ht hW => ⟨⟨u, rfl, hp, by rw [ht]; exact hP, va_K.moved hW.alike hK, hD⟩, hS.F ht⟩) hS.2.2 hdg hlk)
theorem e_Ci {S : Type} {post : Int32 → S → Prop} {wo : S → va_W} (C : Cx p s m args meth c own cc nL (some .int) tb D tys) (hS : va_S A s.heap H locs) {v : Int32} (u : S) (hp : post v u) (hP : va_P D classes (wo u) H) (hD : va_D A (wo u)) (h1 : cells ≤ mc) (h2 : slots ≤ ms) (hdg : decode cc pc = .ok (.ireturn, 1)) :
    W p l e R s m args below meth c H locs cells slots (MQ below (QCi D tys post wo A) args s mc ms A) (F0 m pc ls [.int v]) := by
  obtain ⟨hx, hb, -, -, -, hlk, hr, -, hK, -⟩ := C
  exact W.widen h1 h2 (W.iret hx hb hr (fun t ht hW => ⟨⟨v, u, rfl, hp, by rw [ht]; exact hP, va_K.moved hW.alike hK, hD⟩, hS.F ht⟩) hS.2.2 hdg hlk)
theorem e_Ri {post : Int32 → Prop} (C : Cx p s m args meth c own cc nL (some .int) tb D tys) {v : Int32} (hp : post v) (hdg : decode cc pc = .ok (.ireturn, 1)) :
    W p l e R s m args below meth c s.heap [] 0 0 (MQ below (QRi post) args s mc ms (fun _ => False)) (F0 m pc ls [.int v]) := by
  obtain ⟨hx, hb, -, -, -, hlk, hr, -, hK, -⟩ := C
  exact W.widen (Nat.zero_le _) (Nat.zero_le _) (W.iret hx hb hr (fun t ht hW => ⟨⟨v, rfl, hp⟩, ht⟩) (fun q h => by cases h) hdg hlk)
theorem e_Rz {post : Int32 → Prop} (C : Cx p s m args meth c own cc nL (some .boolean) tb D tys) {b : Bool} (hp : post (bI b)) (hdg : decode cc pc = .ok (.ireturn, 1)) :
    W p l e R s m args below meth c s.heap [] 0 0 (MQ below (QRi post) args s mc ms (fun _ => False)) (F0 m pc ls [.int (bI b)]) := by
  obtain ⟨hx, hb, -, -, -, hlk, hr, -, hK, -⟩ := C
  exact W.widen (Nat.zero_le _) (Nat.zero_le _) (W.zret hx hb hr (by cases b <;> rfl) (fun t ht hW => ⟨⟨bI b, rfl, hp⟩, ht⟩) (fun q h => by cases h) hdg hlk)
theorem e_Rv (C : Cx p s m args meth c own cc nL none tb D tys) (hdg : decode cc pc = .ok (.return_, 1)) :
    W p l e R s m args below meth c s.heap [] 0 0 (MQ below QRv args s mc ms (fun _ => False)) (F0 m pc ls []) := by
  obtain ⟨hx, hb, -, -, -, hlk, hr, -, hK, -⟩ := C
  exact W.widen (Nat.zero_le _) (Nat.zero_le _) (W.vret hx hb hr (fun t ht hW => ⟨rfl, ht⟩) (fun q h => by cases h) hdg hlk)
end XB
end
section
/-! ===== calls ===== -/
theorem gd_ok {hd : Cond} (h : hd ∈ bs) : GoodIn bs (hd :: bs) := fun w hw => by
  rcases List.mem_cons.mp hw with rfl | hw
  · exact bs_good _ h
  · exact bs_good _ hw
theorem gdV {own : String} {idx : Nat} {y : MethodName} {hd : Cond} (h1 : Cond.methodLink own idx y ∈ bs) (h2 : Cond.instanceMethod y ∈ bs) (h3 : Cond.selects y.cls y y ∈ bs) (h4 : Cond.initialized y.cls ∈ bs) (h5 : hd ∈ bs) : GoodIn bs (wsV own idx y.cls y (hd :: bs)) := by
  intro w hw
  simp only [wsV, List.cons_append, List.nil_append, List.mem_cons] at hw
  rcases hw with rfl | rfl | rfl | rfl | rfl | hw
  · exact bs_good _ h1
  · exact bs_good _ h2
  · exact bs_good _ h3
  · exact bs_good _ h4
  · exact bs_good _ h5
  · exact bs_good _ hw
/-- what is asked of a method's name: neither handle; so many arguments -/
def CF (y : MethodName) (n : Nat) : Prop := y.cls ≠ "java/lang/invoke/MethodHandle" ∧ y.cls ≠ "java/lang/invoke/VarHandle" ∧ (parseMethodDescriptor y.desc).map (fun d => d.parameters.length) = some n
/-- a virtual callee's words -/
def KV (own : String) (idx : Nat) (y : MethodName) (hd : Cond) (n : Nat) : Prop := Cond.methodLink own idx y ∈ bs ∧ Cond.instanceMethod y ∈ bs ∧ Cond.selects y.cls y y ∈ bs ∧ Cond.initialized y.cls ∈ bs ∧ hd ∈ bs ∧ CF y n
/-- a static callee's words -/
def KS (own : String) (idx : Nat) (y : MethodName) (hd : Cond) (n : Nat) : Prop := Cond.methodLink own idx y ∈ bs ∧ Cond.static y ∈ bs ∧ Cond.initialized y.cls ∈ bs ∧ hd ∈ bs ∧ CF y n
/-- a constructor's words -/
def KN (own : String) (idx : Nat) (y : MethodName) (hd : Cond) (n : Nat) : Prop := Cond.methodLink own idx y ∈ bs ∧ Cond.instanceMethod y ∈ bs ∧ Cond.initialized y.cls ∈ bs ∧ hd ∈ bs ∧ y.name = "<init>" ∧ CF y n
theorem CF.len {y : MethodName} {n : Nat} (h : CF y n) : ∀ sig, parseMethodDescriptor y.desc = some sig → n = sig.parameters.length := fun sig hs => by
  have h2 := h.2.2
  rw [hs] at h2
  exact (Option.some.inj h2).symm
section XC
variable {p : Program} {l : Launch} {e : Env} {R : Room} {s : State} {m : MethodId} {args : Array Value} {below : List Frame} {meth : Method} {c : Code} {T : State} {H : Heap} {locs : List Loc} {cells slots : Nat} {Q : State → Prop}
variable {cc : ByteArray} {pc nL : Nat} {ls : Array Slot} {rest st : List Value} {own : String} {ret : Option FieldType} {tb : List ExceptionTableEntry} {D : va_G} {tys : List (ClassId × FieldType)} {A : Nat → Prop} {ws wc wr : va_W}
variable {y : MethodName} {bytes : ByteArray} {maxL idx n : Nat} {rt : Option FieldType} {hh : List (Nat × Nat × Nat × Nat)} {rm : Room} {Pc : Array Value → State → Prop} {Qc : Array Value → State → Outcome → State → Prop} {mc ms : Nat} {free : Addr → Prop} {As : List Value} {b : Nat}
/-- the way to the callee: virtual -/
theorem goV (X : Stand p l e R s m args below meth c T locs cells slots) (hexec : p.tables.exec = Jvm.exec) (hown : s.vm.findClass own = some m.cls) (hlink : (Cond.methodLink own idx y).before args s = true) (hinst : (Cond.instanceMethod y).before args s = true) (hsel : (Cond.selects y.cls y y).before args s = true)
    (hsig : ∀ (mk : MethodId) (mt : Method), s.methodNamed? y = some mk → s.vm.method? mk = some mt → parseMethodDescriptor y.desc = some mt.sig) (hy : y.cls ≠ "java/lang/invoke/MethodHandle" ∧ y.cls ≠ "java/lang/invoke/VarHandle")
    {cellB : Cell} (hcell : T.heap[b]? = some cellB) (hobj : cellB.vm.isStatics = false) (hcls : s.vm.findClass y.cls = some cellB.cls)
    {g : JFrame} (hg : g.method = m) (hlen : ∀ sig, parseMethodDescriptor y.desc = some sig → As.length = sig.parameters.length)
    (hstack : g.stack = As.reverse ++ .ref b :: rest) (hdg : decode c.code g.pc = .ok (.invokevirtual idx, 3)) :
    ∃ (mk : MethodId) (vm₁ : Vm), s.methodNamed? y = some mk ∧ Stand p l e R s m args below meth c (T.setVm vm₁) locs cells slots ∧
      ∀ target, Steps p.tables e below (doInvoke e ((T.setVm vm₁).setTop { g with stack := rest }) [] mk (Value.ref b :: As).toArray).1 target → Steps p.tables e below (T.setTop g) target := by
  obtain ⟨mk, methM, hnamed, hmethM, hstM, habM⟩ := Cond.instanceMethod_spec hinst
  have hsigM := hsig mk methM hnamed hmethM
  obtain ⟨c2, r2, m2, q1, q2, q3, q4, kP, hkP, hkPi⟩ := Cond.selects_spec hsel
  cases hcls.symm.trans q1
  cases (State.methodFound?_of_named hnamed hy).symm.trans q2
  cases hnamed.symm.trans q3
  have hselP : selectMethod e.platform s.vm cellB.cls mk = .method mk := by rw [Launch.admits_selectMethod X.admits]; exact q4
  obtain ⟨vm₁, X₁, hstep₁⟩ := X.invokevirtual hexec hown hlink hnamed hmethM hstM hkP hkPi hy (a := b) (cell := cellB) hcell
    (fun z h => by rw [h] at hobj; cases hobj) hselP hmethM habM hkP hkPi (g := g) hg (argsL := As) (rest := rest) (hlen _ hsigM) hstack hdg
  exact ⟨mk, vm₁, hnamed, X₁, fun target h => hstep₁ _ fun acts => by rw [doInvoke_state]; exact h⟩
/-- the way to the callee: static -/
theorem goS (X : Stand p l e R s m args below meth c T locs cells slots) (hexec : p.tables.exec = Jvm.exec) (hown : s.vm.findClass own = some m.cls) (hlink : (Cond.methodLink own idx y).before args s = true) (hstat : (Cond.static y).before args s = true) (hinit : (Cond.initialized y.cls).before args s = true)
    {mk : MethodId} {methM : Method} (hnamed : s.methodNamed? y = some mk) (hmethM : s.vm.method? mk = some methM) (hsigM : parseMethodDescriptor y.desc = some methM.sig) (hy : y.cls ≠ "java/lang/invoke/MethodHandle" ∧ y.cls ≠ "java/lang/invoke/VarHandle")
    {g : JFrame} (hg : g.method = m) (hlen : ∀ sig, parseMethodDescriptor y.desc = some sig → As.length = sig.parameters.length)
    (hstack : g.stack = As.reverse ++ rest) (hdg : decode c.code g.pc = .ok (.invokestatic idx, 3)) :
    ∃ (vm₁ : Vm), Stand p l e R s m args below meth c (T.setVm vm₁) locs cells slots ∧
      ∀ target, Steps p.tables e below (doInvoke e ((T.setVm vm₁).setTop { g with stack := rest }) [] mk As.toArray).1 target → Steps p.tables e below (T.setTop g) target := by
  have hstatic : methM.isStatic = true := Cond.static_spec hnamed hmethM hstat
  obtain ⟨kP, hkP, -⟩ := className_of_methodNamed hnamed
  have hinitP : kP.init = .initialized := Cond.initialized_spec (findClass_of_methodNamed hnamed) hkP hinit
  obtain ⟨vm₁, X₁, hstep₁⟩ := X.invokestatic hexec hown hlink hnamed hmethM hstatic hkP hinitP hy (g := g) hg (argsL := As) (rest := rest) (hlen _ hsigM) hstack hdg
  exact ⟨vm₁, X₁, fun target h => hstep₁ _ fun acts => by rw [doInvoke_state]; exact h⟩
theorem sig_code (hcode : (Cond.code y bytes maxL rt).before args s = true) (mk : MethodId) (mt : Method) (h1 : s.methodNamed? y = some mk) (h2 : s.vm.method? mk = some mt) : parseMethodDescriptor y.desc = some mt.sig := by
  obtain ⟨methM', cM, hmethM', -, -, -, -, -, -, hsigM⟩ := Cond.code_spec h1 hcode
  cases h2.symm.trans hmethM'
  exact hsigM
theorem sig_with (hcode : (Cond.codeWith y bytes maxL rt hh).before args s = true) (mk : MethodId) (mt : Method) (h1 : s.methodNamed? y = some mk) (h2 : s.vm.method? mk = some mt) : parseMethodDescriptor y.desc = some mt.sig := by
  obtain ⟨m9, meth9, c9, hn9, q1, q2, -, -, -, -, -, hsigM⟩ := Cond.codeWith_spec hcode
  cases h1.symm.trans hn9
  cases h2.symm.trans q1
  exact hsigM
/-- a call by a 'Back', virtual or static -/
theorem runV_B (hx : p.tables.exec = Jvm.exec) (hb : c.code = cc) (hml : c.maxLocals = nL) (hown : s.vm.findClass own = some m.cls) (hB : ∀ w ∈ bs, w.before args s = true) {hd : Cond} (hk : KV own idx y hd n) (hsig : ∀ (mk : MethodId) (mt : Method), s.methodNamed? y = some mk → s.vm.method? mk = some mt → parseMethodDescriptor y.desc = some mt.sig)
    (hbk : Back l R p e below s args y 3 8 (PreOf R mc ms Pc) (PostOf Qc mc ms free)) (hp : PreV s H y.cls b Pc As)
    (hn : As.length = n) (hls : ls.size = nL) (hst : st = As.reverse ++ .ref b :: rest) (hW : (rest.map fun v => v.category).sum ≤ 8) (hdg : decode cc pc = .ok (.invokevirtual idx, 3)) (hf : cells + mc ≤ R.cells ∧ slots + ms ≤ R.slots) :
    va_Run p l e R s m args below meth c H locs cells slots mc ms (F0 m pc ls st) rest (Qc (Value.ref b :: As).toArray) free := by
  obtain ⟨k1, k2, k3, k4, k5, k6⟩ := hk
  obtain ⟨-, ⟨cellB, hcB, hoB, hclB⟩, hPc⟩ := hp
  intro T hT X
  obtain ⟨mk, vm₁, hnamed, X₁, hgo⟩ := goV X hx hown (hB _ k1) (hB _ k2) (hB _ k3) hsig ⟨k6.1, k6.2.1⟩ (by rw [hT]; exact hcB) hoB hclB (g := F0 m pc ls st) rfl (As := As) (rest := rest) (fun sig h => hn.trans (k6.len sig h)) hst (by rw [hb]; exact hdg)
  obtain ⟨v, ⟨U', l2, c2, s2⟩, X', ⟨g', mk', t, L, e1, e2, hq, h1, hL, h2, h3⟩, hsteps⟩ := hbk m meth c ⟨T.setVm vm₁, locs, cells, slots⟩ { F0 m pc ls st with stack := rest } (.invokevirtual idx) mk (Value.ref b :: As).toArray X₁ rfl (hls.trans hml.symm) (by rw [hb]; exact hdg) (lv_room (m := m) (pc := pc) (ls := ls) (rest := rest) hW) (X₁.named hnamed) ⟨hf.1, hf.2, hPc (T.setVm vm₁) hT X₁.warmed⟩
  dsimp only [Pt.U, Pt.locs, Pt.cells, Pt.slots] at X' e1 e2 h1 h2 h3 hsteps
  subst h1; subst h2; subst h3
  exact ⟨v, (T.setVm vm₁).calling g' mk' (Value.ref b :: As).toArray, t, U', L, hT, X', hL, e1, e2, hq, fun target h => hgo _ (hsteps.trans h)⟩
theorem runS_B (hx : p.tables.exec = Jvm.exec) (hb : c.code = cc) (hml : c.maxLocals = nL) (hown : s.vm.findClass own = some m.cls) (hB : ∀ w ∈ bs, w.before args s = true) {hd : Cond} (hk : KS own idx y hd n) {mk : MethodId} {mt : Method} (hnamed : s.methodNamed? y = some mk) (hmt : s.vm.method? mk = some mt) (hsig : parseMethodDescriptor y.desc = some mt.sig)
    (hbk : Back l R p e below s args y 3 8 (PreOf R mc ms Pc) (PostOf Qc mc ms free)) (hp : PreS s H Pc As)
    (hn : As.length = n) (hls : ls.size = nL) (hst : st = As.reverse ++ rest) (hW : (rest.map fun v => v.category).sum ≤ 8) (hdg : decode cc pc = .ok (.invokestatic idx, 3)) (hf : cells + mc ≤ R.cells ∧ slots + ms ≤ R.slots) :
    va_Run p l e R s m args below meth c H locs cells slots mc ms (F0 m pc ls st) rest (Qc As.toArray) free := by
  obtain ⟨k1, k2, k4, k5, k6⟩ := hk
  obtain ⟨-, hPc⟩ := hp
  intro T hT X
  obtain ⟨vm₁, X₁, hgo⟩ := goS X hx hown (hB _ k1) (hB _ k2) (hB _ k4) hnamed hmt hsig ⟨k6.1, k6.2.1⟩ (g := F0 m pc ls st) rfl (As := As) (rest := rest) (fun sig h => hn.trans (k6.len sig h)) hst (by rw [hb]; exact hdg)
  obtain ⟨v, ⟨U', l2, c2, s2⟩, X', ⟨g', mk', t, L, e1, e2, hq, h1, hL, h2, h3⟩, hsteps⟩ := hbk m meth c ⟨T.setVm vm₁, locs, cells, slots⟩ { F0 m pc ls st with stack := rest } (.invokestatic idx) mk As.toArray X₁ rfl (hls.trans hml.symm) (by rw [hb]; exact hdg) (lv_room (m := m) (pc := pc) (ls := ls) (rest := rest) hW) (X₁.named hnamed) ⟨hf.1, hf.2, hPc (T.setVm vm₁) hT X₁.warmed⟩
  dsimp only [Pt.U, Pt.locs, Pt.cells, Pt.slots] at X' e1 e2 h1 h2 h3 hsteps
  subst h1; subst h2; subst h3
  exact ⟨v, (T.setVm vm₁).calling g' mk' As.toArray, t, U', L, hT, X', hL, e1, e2, hq, fun target h => hgo _ (hsteps.trans h)⟩
theorem bk_code (hB : ∀ w ∈ bs, w.before args s = true) (hc : Cond.code y bytes maxL rt ∈ bs) (hi : Cond.initialized y.cls ∈ bs) (hM : Met l y (Cond.code y bytes maxL rt :: bs) rm Pc Qc mc ms free) (hbl : FrameBlind Pc) (hrc : rm.cells = mc) (hrs : rm.slots = ms) (hR : rm.frames + 1 ≤ R.frames ∧ 8 + (maxL + 11) + rm.locals ≤ R.locals) : Back l R p e below s args y 3 8 (PreOf R mc ms Pc) (PostOf Qc mc ms free) :=
  back_of (bytes := bytes) (maxL := maxL) (ret := rt) hM hbl hrc hrs hR.1 hR.2 (pay_in hB (gd_ok hc)) List.mem_cons_self (fun a' U hW => word_at hW (Or.inl (by first | rfl | simp [Cond.onTables, Cond.keeps, Cond.steady])) (hB _ hi))
theorem bk_with (hB : ∀ w ∈ bs, w.before args s = true) (hc : Cond.codeWith y bytes maxL rt hh ∈ bs) (hi : Cond.initialized y.cls ∈ bs) (hM : Met l y (Cond.codeWith y bytes maxL rt hh :: bs) rm Pc Qc mc ms free) (hbl : FrameBlind Pc) (hrc : rm.cells = mc) (hrs : rm.slots = ms) (hR : rm.frames + 1 ≤ R.frames ∧ 8 + (maxL + 11) + rm.locals ≤ R.locals) : Back l R p e below s args y 3 8 (PreOf R mc ms Pc) (PostOf Qc mc ms free) :=
  va_backW (hh := hh) (bytes := bytes) (maxL := maxL) (ret := rt) hM hbl hrc hrs hR.1 hR.2 (pay_in hB (gd_ok hc)) List.mem_cons_self (fun a' U hW => word_at hW (Or.inl (by first | rfl | simp [Cond.onTables, Cond.keeps, Cond.steady])) (hB _ hi))
-- parts of a world
theorem map_fm {α β : Type} (f : α → Option β) : ∀ (is : List α) (wc : List β), is.map f = wc.map some → is.filterMap f = wc
  | [], [], _ => rfl
  | [], _ :: _, h => by cases h
  | _ :: _, [], h => by cases h
  | i :: is, w :: wc, h => by
    simp only [List.map_cons, List.cons.injEq] at h
    rw [List.filterMap_cons, h.1, map_fm f is wc h.2]
theorem subP {is : List Nat} (hP : va_P D classes ws H) (hC : is.map (fun i => ws[i]?) = wc.map some) : va_P D classes wc H := hP.sub is (map_fm _ _ _ hC)
theorem preC {av : List Value} (hK : va_K D classes tys s) (hX : xk s) (hA : Aok s A) (hS : va_S A s.heap H locs) (hP : va_P D classes wc H) (hD : va_D A wc) : FrameBlind (PcC D tys av wc H.size) ∧ ∀ U : State, U.heap = H → s.WarmedH U.vm → PcC D tys av wc H.size av.toArray U :=
  ⟨PcC_blind, fun U hU hW => ⟨rfl, by rw [hU], by rw [hU]; exact hP, va_K.moved hW.alike hK, hD.weaken (fun _ _ _ _ => trivial), xk_at hA hS hU hW hX⟩⟩
theorem preR {av : List Value} (hK : va_K D classes tys s) (hX : xk s) (hA : Aok s A) (hS : va_S A s.heap H locs) (hP : va_P D classes wc H) : FrameBlind (PcR D tys av wc) ∧ ∀ U : State, U.heap = H → s.WarmedH U.vm → PcR D tys av wc av.toArray U :=
  ⟨PcR_blind, fun U hU hW => ⟨rfl, by rw [hU]; exact hP, va_K.moved hW.alike hK, xk_at hA hS hU hW hX⟩⟩
-- behind the call
theorem finV {S : Type} {post : S → Prop} {wo : S → va_W} {a : Array Value} (hr : va_Run p l e R s m args below meth c H locs cells slots mc ms (F0 m pc ls st) rest (QCv D tys post wo (va_A wc H.size) a) (va_A wc H.size)) (hA : Aok s A) (hS : va_S A s.heap H locs) (hP : va_P D classes ws H) (hD : va_D A ws)
    (isC isR : List Nat) (hC : isC.map (fun i => ws[i]?) = wc.map some) (hR : isR.map (fun i => ws[i]?) = wr.map some) (hn : va_nd isR = true) (hdis : ∀ i ∈ isR, i ∉ isC)
    (kk : ∀ (u : S) (H1 : Heap) (locs1 : List Loc), post u → va_P D classes (wr ++ wo u) H1 → va_D A (wr ++ wo u) → va_S A s.heap H1 locs1 → W p l e R s m args below meth c H1 locs1 (cells + mc) (slots + ms) Q (F0 m (pc + 3) ls rest)) : W p l e R s m args below meth c H locs cells slots Q (F0 m pc ls st) := by
  have hFc := va_free (wc := wc) hD hS hA.1 isC hC
  refine va_callv hr hS (fun q _ h => hFc q h) hFc (fun u t H1 locs1 ht hvm hw hB hz1 hk1 hS1 => ?_)
  obtain ⟨hP1, hK1, hD1⟩ := hB
  rw [ht] at hP1
  obtain ⟨hP2, hD2⟩ := va_join hP hD isC isR hC hR hn hdis hk1 hFc hP1 hD1
  exact kk u H1 locs1 hw hP2 hD2 hS1
theorem finI {S : Type} {post : Int32 → S → Prop} {wo : S → va_W} {a : Array Value} (hr : va_Run p l e R s m args below meth c H locs cells slots mc ms (F0 m pc ls st) rest (QCi D tys post wo (va_A wc H.size) a) (va_A wc H.size)) (hA : Aok s A) (hS : va_S A s.heap H locs) (hP : va_P D classes ws H) (hD : va_D A ws)
    (isC isR : List Nat) (hC : isC.map (fun i => ws[i]?) = wc.map some) (hR : isR.map (fun i => ws[i]?) = wr.map some) (hn : va_nd isR = true) (hdis : ∀ i ∈ isR, i ∉ isC)
    (kk : ∀ (r : Int32) (u : S) (H1 : Heap) (locs1 : List Loc), post r u → va_P D classes (wr ++ wo u) H1 → va_D A (wr ++ wo u) → va_S A s.heap H1 locs1 → W p l e R s m args below meth c H1 locs1 (cells + mc) (slots + ms) Q (F0 m (pc + 3) ls (.int r :: rest))) : W p l e R s m args below meth c H locs cells slots Q (F0 m pc ls st) := by
  have hFc := va_free (wc := wc) hD hS hA.1 isC hC
  refine va_calli hr hS (fun q _ h => hFc q h) hFc (fun r u t H1 locs1 ht hvm hw hB hz1 hk1 hS1 => ?_)
  obtain ⟨hP1, hK1, hD1⟩ := hB
  rw [ht] at hP1
  obtain ⟨hP2, hD2⟩ := va_join hP hD isC isR hC hR hn hdis hk1 hFc hP1 hD1
  exact kk r u H1 locs1 hw hP2 hD2 hS1
theorem nil_of {L : List Loc} (h : ∀ q ∈ L, (fun _ : Addr => False) q.base) : L = [] := by
  cases L with
  | nil => rfl
  | cons a t => exact (h a List.mem_cons_self).elim
theorem finRi {post : Int32 → Prop} {a : Array Value} (hr : va_Run p l e R s m args below meth c H locs cells slots mc ms (F0 m pc ls st) rest (QRi post a) (fun _ => False)) (h1 : mc = 0) (h2 : ms = 0)
    (kk : ∀ r : Int32, post r → W p l e R s m args below meth c H locs cells slots Q (F0 m (pc + 3) ls (.int r :: rest))) : W p l e R s m args below meth c H locs cells slots Q (F0 m pc ls st) := by
  subst h1; subst h2
  intro T hT X
  obtain ⟨v, st₀, t, T', L, h0, X', hL, e1, e2, ⟨⟨r, hv, hp⟩, hh⟩, hgo⟩ := hr T hT X
  cases hv
  rw [nil_of hL, List.append_nil] at X'
  obtain ⟨t2, a1, b1⟩ := kk r hp T' (by rw [e1, hh, h0]) X'
  exact ⟨t2, hgo t2 a1, b1⟩
theorem finRv {a : Array Value} (hr : va_Run p l e R s m args below meth c H locs cells slots mc ms (F0 m pc ls st) rest (QRv a) (fun _ => False)) (h1 : mc = 0) (h2 : ms = 0)
    (kk : W p l e R s m args below meth c H locs cells slots Q (F0 m (pc + 3) ls rest)) : W p l e R s m args below meth c H locs cells slots Q (F0 m pc ls st) := by
  subst h1; subst h2
  intro T hT X
  obtain ⟨v, st₀, t, T', L, h0, X', hL, e1, e2, ⟨hv, hh⟩, hgo⟩ := hr T hT X
  cases hv
  rw [nil_of hL, List.append_nil] at X'
  obtain ⟨t2, a1, b1⟩ := kk T' (by rw [e1, hh, h0]) X'
  exact ⟨t2, hgo t2 a1, b1⟩
/-! ### the rows -/
/-- invokevirtual, a method that writes, void -/
theorem call_Vv {S : Type} {post : S → Prop} {wo : S → va_W} (C : Cx p s m args meth c own cc nL ret tb D tys) (hA : Aok s A) (hk : KV own idx y (.code y bytes maxL none) n) (hM : CV l y (.code y bytes maxL none) rm D tys (.ref b :: As) wc post wo) (hP : va_P D classes ws H) (hD : va_D A ws) (hS : va_S A s.heap H locs)
    (isC isR : List Nat) (hC : isC.map (fun i => ws[i]?) = wc.map some) (hR : isR.map (fun i => ws[i]?) = wr.map some) (hnd : va_nd isC = true ∧ va_nd isR = true) (hdis : ∀ i ∈ isR, i ∉ isC)
    {ci : Nat} {q : vw_C} {fs : List Value} (q0 : Nat) (hq : classes[ci]? = some q) (hqc : q.1 = y.cls) (he : wc[q0]? = some (b, .inr (ci, fs)))
    (hn : As.length = n) (hls : ls.size = nL) (hst : st = As.reverse ++ .ref b :: rest) (hW : (rest.map fun v => v.category).sum ≤ 8) (hroom : rm.frames + 1 ≤ R.frames ∧ 8 + (maxL + 11) + rm.locals ≤ R.locals) (hf : cells + rm.cells ≤ R.cells ∧ slots + rm.slots ≤ R.slots) (hdg : decode cc pc = .ok (.invokevirtual idx, 3))
    (kk : ∀ (u : S) (H1 : Heap) (locs1 : List Loc), post u → va_P D classes (wr ++ wo u) H1 → va_D A (wr ++ wo u) → va_S A s.heap H1 locs1 → W p l e R s m args below meth c H1 locs1 (cells + rm.cells) (slots + rm.slots) Q (F0 m (pc + 3) ls rest)) : W p l e R s m args below meth c H locs cells slots Q (F0 m pc ls st) := by
  obtain ⟨hx, hb, hml, hown, hB, hlk, hr, htb, hK, hX⟩ := C
  have hPc := subP hP hC
  have hDc := hD.sub isC hnd.1 hC
  obtain ⟨p1, p2⟩ := preC (av := .ref b :: As) hK hX hA hS hPc hDc
  have hrec := va_recv hK hPc hq he
  rw [hqc] at hrec
  exact finV (runV_B hx hb hml hown hB hk (sig_code (hB _ hk.2.2.2.2.1)) (bk_code hB hk.2.2.2.2.1 hk.2.2.2.1 (hM H.size) p1 rfl rfl hroom) ⟨p1, hrec, p2⟩ hn hls hst hW hdg hf) hA hS hP hD isC isR hC hR hnd.2 hdis kk
/-- invokevirtual, a method that writes, int -/
theorem call_Vi {S : Type} {post : Int32 → S → Prop} {wo : S → va_W} (C : Cx p s m args meth c own cc nL ret tb D tys) (hA : Aok s A) (hk : KV own idx y (.code y bytes maxL rt) n) (hM : CI l y (.code y bytes maxL rt) rm D tys (.ref b :: As) wc post wo) (hP : va_P D classes ws H) (hD : va_D A ws) (hS : va_S A s.heap H locs)
    (isC isR : List Nat) (hC : isC.map (fun i => ws[i]?) = wc.map some) (hR : isR.map (fun i => ws[i]?) = wr.map some) (hnd : va_nd isC = true ∧ va_nd isR = true) (hdis : ∀ i ∈ isR, i ∉ isC)
    {ci : Nat} {q : vw_C} {fs : List Value} (q0 : Nat) (hq : classes[ci]? = some q) (hqc : q.1 = y.cls) (he : wc[q0]? = some (b, .inr (ci, fs)))
    (hn : As.length = n) (hls : ls.size = nL) (hst : st = As.reverse ++ .ref b :: rest) (hW : (rest.map fun v => v.category).sum ≤ 8) (hroom : rm.frames + 1 ≤ R.frames ∧ 8 + (maxL + 11) + rm.locals ≤ R.locals) (hf : cells + rm.cells ≤ R.cells ∧ slots + rm.slots ≤ R.slots) (hdg : decode cc pc = .ok (.invokevirtual idx, 3))
    (kk : ∀ (r : Int32) (u : S) (H1 : Heap) (locs1 : List Loc), post r u → va_P D classes (wr ++ wo u) H1 → va_D A (wr ++ wo u) → va_S A s.heap H1 locs1 → W p l e R s m args below meth c H1 locs1 (cells + rm.cells) (slots + rm.slots) Q (F0 m (pc + 3) ls (.int r :: rest))) : W p l e R s m args below meth c H locs cells slots Q (F0 m pc ls st) := by
  obtain ⟨hx, hb, hml, hown, hB, hlk, hr, htb, hK, hX⟩ := C
  have hPc := subP hP hC
  have hDc := hD.sub isC hnd.1 hC
  obtain ⟨p1, p2⟩ := preC (av := .ref b :: As) hK hX hA hS hPc hDc
  have hrec := va_recv hK hPc hq he
  rw [hqc] at hrec
  exact finI (runV_B hx hb hml hown hB hk (sig_code (hB _ hk.2.2.2.2.1)) (bk_code hB hk.2.2.2.2.1 hk.2.2.2.1 (hM H.size) p1 rfl rfl hroom) ⟨p1, hrec, p2⟩ hn hls hst hW hdg hf) hA hS hP hD isC isR hC hR hnd.2 hdis kk
/-- invokevirtual, a method that writes, with an exception table, int -/
theorem call_VWi {S : Type} {post : Int32 → S → Prop} {wo : S → va_W} (C : Cx p s m args meth c own cc nL ret tb D tys) (hA : Aok s A) (hk : KV own idx y (.codeWith y bytes maxL rt hh) n) (hM : CI l y (.codeWith y bytes maxL rt hh) rm D tys (.ref b :: As) wc post wo) (hP : va_P D classes ws H) (hD : va_D A ws) (hS : va_S A s.heap H locs)
    (isC isR : List Nat) (hC : isC.map (fun i => ws[i]?) = wc.map some) (hR : isR.map (fun i => ws[i]?) = wr.map some) (hnd : va_nd isC = true ∧ va_nd isR = true) (hdis : ∀ i ∈ isR, i ∉ isC)
    {ci : Nat} {q : vw_C} {fs : List Value} (q0 : Nat) (hq : classes[ci]? = some q) (hqc : q.1 = y.cls) (he : wc[q0]? = some (b, .inr (ci, fs)))
    (hn : As.length = n) (hls : ls.size = nL) (hst : st = As.reverse ++ .ref b :: rest) (hW : (rest.map fun v => v.category).sum ≤ 8) (hroom : rm.frames + 1 ≤ R.frames ∧ 8 + (maxL + 11) + rm.locals ≤ R.locals) (hf : cells + rm.cells ≤ R.cells ∧ slots + rm.slots ≤ R.slots) (hdg : decode cc pc = .ok (.invokevirtual idx, 3))
    (kk : ∀ (r : Int32) (u : S) (H1 : Heap) (locs1 : List Loc), post r u → va_P D classes (wr ++ wo u) H1 → va_D A (wr ++ wo u) → va_S A s.heap H1 locs1 → W p l e R s m args below meth c H1 locs1 (cells + rm.cells) (slots + rm.slots) Q (F0 m (pc + 3) ls (.int r :: rest))) : W p l e R s m args below meth c H locs cells slots Q (F0 m pc ls st) := by
  obtain ⟨hx, hb, hml, hown, hB, hlk, hr, htb, hK, hX⟩ := C
  have hPc := subP hP hC
  have hDc := hD.sub isC hnd.1 hC
  obtain ⟨p1, p2⟩ := preC (av := .ref b :: As) hK hX hA hS hPc hDc
  have hrec := va_recv hK hPc hq he
  rw [hqc] at hrec
  exact finI (runV_B hx hb hml hown hB hk (sig_with (hB _ hk.2.2.2.2.1)) (bk_with hB hk.2.2.2.2.1 hk.2.2.2.1 (hM H.size) p1 rfl rfl hroom) ⟨p1, hrec, p2⟩ hn hls hst hW hdg hf) hA hS hP hD isC isR hC hR hnd.2 hdis kk
/-- invokestatic, a method that writes, with an exception table, int -/
theorem call_SWi {S : Type} {post : Int32 → S → Prop} {wo : S → va_W} (C : Cx p s m args meth c own cc nL ret tb D tys) (hA : Aok s A) (hk : KS own idx y (.codeWith y bytes maxL rt hh) n) (hM : CI l y (.codeWith y bytes maxL rt hh) rm D tys As wc post wo) (hP : va_P D classes ws H) (hD : va_D A ws) (hS : va_S A s.heap H locs)
    (isC isR : List Nat) (hC : isC.map (fun i => ws[i]?) = wc.map some) (hR : isR.map (fun i => ws[i]?) = wr.map some) (hnd : va_nd isC = true ∧ va_nd isR = true) (hdis : ∀ i ∈ isR, i ∉ isC)
    (hn : As.length = n) (hls : ls.size = nL) (hst : st = As.reverse ++ rest) (hW : (rest.map fun v => v.category).sum ≤ 8) (hroom : rm.frames + 1 ≤ R.frames ∧ 8 + (maxL + 11) + rm.locals ≤ R.locals) (hf : cells + rm.cells ≤ R.cells ∧ slots + rm.slots ≤ R.slots) (hdg : decode cc pc = .ok (.invokestatic idx, 3))
    (kk : ∀ (r : Int32) (u : S) (H1 : Heap) (locs1 : List Loc), post r u → va_P D classes (wr ++ wo u) H1 → va_D A (wr ++ wo u) → va_S A s.heap H1 locs1 → W p l e R s m args below meth c H1 locs1 (cells + rm.cells) (slots + rm.slots) Q (F0 m (pc + 3) ls (.int r :: rest))) : W p l e R s m args below meth c H locs cells slots Q (F0 m pc ls st) := by
  obtain ⟨hx, hb, hml, hown, hB, hlk, hr, htb, hK, hX⟩ := C
  have hPc := subP hP hC
  have hDc := hD.sub isC hnd.1 hC
  obtain ⟨p1, p2⟩ := preC (av := As) hK hX hA hS hPc hDc
  obtain ⟨m9, meth9, c9, hn9, q1, q2, -, -, -, -, -, hsigM⟩ := Cond.codeWith_spec (hB _ hk.2.2.2.1)
  exact finI (runS_B hx hb hml hown hB hk hn9 q1 hsigM (bk_with hB hk.2.2.2.1 hk.2.2.1 (hM H.size) p1 rfl rfl hroom) ⟨p1, p2⟩ hn hls hst hW hdg hf) hA hS hP hD isC isR hC hR hnd.2 hdis kk
/-- invokespecial of a constructor of ours -/
theorem call_Nv {S : Type} {post : S → Prop} {wo : S → va_W} (C : Cx p s m args meth c own cc nL ret tb D tys) (hA : Aok s A) (hk : KN own idx y (.code y bytes maxL none) n) (hM : CV l y (.code y bytes maxL none) rm D tys (.ref b :: As) wc post wo) (hP : va_P D classes ws H) (hD : va_D A ws) (hS : va_S A s.heap H locs)
    (isC isR : List Nat) (hC : isC.map (fun i => ws[i]?) = wc.map some) (hR : isR.map (fun i => ws[i]?) = wr.map some) (hnd : va_nd isC = true ∧ va_nd isR = true) (hdis : ∀ i ∈ isR, i ∉ isC)
    (hn : As.length = n) (hls : ls.size = nL) (hst : st = As.reverse ++ .ref b :: rest) (hW : (rest.map fun v => v.category).sum ≤ 8) (hroom : rm.frames + 1 ≤ R.frames ∧ 8 + (maxL + 11) + rm.locals ≤ R.locals) (hf : cells + rm.cells ≤ R.cells ∧ slots + rm.slots ≤ R.slots) (hdg : decode cc pc = .ok (.invokespecial idx, 3))
    (kk : ∀ (u : S) (H1 : Heap) (locs1 : List Loc), post u → va_P D classes (wr ++ wo u) H1 → va_D A (wr ++ wo u) → va_S A s.heap H1 locs1 → W p l e R s m args below meth c H1 locs1 (cells + rm.cells) (slots + rm.slots) Q (F0 m (pc + 3) ls rest)) : W p l e R s m args below meth c H locs cells slots Q (F0 m pc ls st) := by
  obtain ⟨hx, hb, hml, hown, hB, hlk, hr, htb, hK, hX⟩ := C
  have hPc := subP hP hC
  have hDc := hD.sub isC hnd.1 hC
  obtain ⟨p1, p2⟩ := preC (av := .ref b :: As) hK hX hA hS hPc hDc
  obtain ⟨k1, k2, k3, k4, k5, k6⟩ := hk
  exact finV (va_runI (Ts := bs) ⟨hx, hb, hml, hown, hB⟩ (hM H.size) (cwI n hB (gd_ok k4) rfl rfl rfl (hB _ k3) (hB _ k1) (hB _ k2) k5 k6 hroom) ⟨p1, p2⟩ rfl hn hls hst (lv_room hW) hdg hf) hA hS hP hD isC isR hC hR hnd.2 hdis kk
/-- invokevirtual, a method that reads, int -/
theorem call_Ri {post : Int32 → Prop} (C : Cx p s m args meth c own cc nL ret tb D tys) (hA : Aok s A) (hk : KV own idx y (.code y bytes maxL rt) n) (hM : RI l y (.code y bytes maxL rt) rm D tys (.ref b :: As) wc post) (hP : va_P D classes wc H) (hS : va_S A s.heap H locs)
    {ci : Nat} {q : vw_C} {fs : List Value} (q0 : Nat) (hq : classes[ci]? = some q) (hqc : q.1 = y.cls) (he : wc[q0]? = some (b, .inr (ci, fs)))
    (hn : As.length = n) (hls : ls.size = nL) (hst : st = As.reverse ++ .ref b :: rest) (hW : (rest.map fun v => v.category).sum ≤ 8) (hroom : rm.frames + 1 ≤ R.frames ∧ 8 + (maxL + 11) + rm.locals ≤ R.locals) (h0 : rm.cells = 0 ∧ rm.slots = 0) (hf : cells ≤ R.cells ∧ slots ≤ R.slots) (hdg : decode cc pc = .ok (.invokevirtual idx, 3))
    (kk : ∀ r : Int32, post r → W p l e R s m args below meth c H locs cells slots Q (F0 m (pc + 3) ls (.int r :: rest))) : W p l e R s m args below meth c H locs cells slots Q (F0 m pc ls st) := by
  obtain ⟨hx, hb, hml, hown, hB, hlk, hr, htb, hK, hX⟩ := C
  obtain ⟨p1, p2⟩ := preR (av := .ref b :: As) hK hX hA hS hP
  have hrec := va_recv hK hP hq he
  rw [hqc] at hrec
  exact finRi (runV_B hx hb hml hown hB hk (sig_code (hB _ hk.2.2.2.2.1)) (bk_code hB hk.2.2.2.2.1 hk.2.2.2.1 hM p1 rfl rfl hroom) ⟨p1, hrec, p2⟩ hn hls hst hW hdg ⟨by rw [h0.1]; exact hf.1, by rw [h0.2]; exact hf.2⟩) h0.1 h0.2 kk
/-- invokestatic, a method that reads, void -/
theorem call_Rs (C : Cx p s m args meth c own cc nL ret tb D tys) (hA : Aok s A) (hk : KS own idx y (.code y bytes maxL none) n) (hM : RV l y (.code y bytes maxL none) rm D tys As wc) (hP : va_P D classes wc H) (hS : va_S A s.heap H locs)
    (hn : As.length = n) (hls : ls.size = nL) (hst : st = As.reverse ++ rest) (hW : (rest.map fun v => v.category).sum ≤ 8) (hroom : rm.frames + 1 ≤ R.frames ∧ 8 + (maxL + 11) + rm.locals ≤ R.locals) (h0 : rm.cells = 0 ∧ rm.slots = 0) (hf : cells ≤ R.cells ∧ slots ≤ R.slots) (hdg : decode cc pc = .ok (.invokestatic idx, 3))
    (kk : W p l e R s m args below meth c H locs cells slots Q (F0 m (pc + 3) ls rest)) : W p l e R s m args below meth c H locs cells slots Q (F0 m pc ls st) := by
  obtain ⟨hx, hb, hml, hown, hB, hlk, hr, htb, hK, hX⟩ := C
  obtain ⟨p1, p2⟩ := preR (av := As) hK hX hA hS hP
  obtain ⟨mk, hnamed⟩ := Cond.code_named (hB _ hk.2.2.2.1)
  obtain ⟨methM, cM, hmethM, -, -, -, -, -, -, hsigM⟩ := Cond.code_spec hnamed (hB _ hk.2.2.2.1)
  exact finRv (runS_B hx hb hml hown hB hk hnamed hmethM hsigM (bk_code hB hk.2.2.2.1 hk.2.2.1 hM p1 rfl rfl hroom) ⟨p1, p2⟩ hn hls hst hW hdg ⟨by rw [h0.1]; exact hf.1, by rw [h0.2]; exact hf.2⟩) h0.1 h0.2 kk
end XC
end
section
/-! ===== throwing: the making of the exception, the way out, the way into a handler ===== -/
theorem kept_nil {s s' : State} {k n : Nat} (h : s.sameButNew s' [] k n) : ∀ q : Nat, q < s.heap.size → s'.heap[q]? = s.heap[q]? := by
  intro q hq
  have h0 : s.heap[q]? = some s.heap[q] := Array.getElem?_eq_getElem hq
  obtain ⟨c', h1, h2, h3, h4⟩ := h.2.2.2.2.2 q _ h0
  have h5 : c'.slots = s.heap[q].slots := Array.ext_getElem? (fun i => h4 i (by simp))
  rw [h1, h0, h2, h5]
def xzs : List Cond := [.laysStatic Bundle.tN "UNASSIGNED_STACK" Bundle.steD, .laysStatic Bundle.tN "SUPPRESSED_SENTINEL" Bundle.listD, .isRef (.static Bundle.tN "UNASSIGNED_STACK" Bundle.steD), .isRef (.static Bundle.tN "SUPPRESSED_SENTINEL" Bundle.listD)]
def xnames : List String := ["java/lang/RuntimeException", "java/lang/Exception"]
def xsplit (own : String) (ic : Nat) (cls : String) : Prop := ∀ a ∈ Bundle.ownAtoms0 own ic cls xnames, a ∈ bs ∨ a ∈ xw1 ∨ a ∈ xzs
theorem xatoms {own : String} {ic : Nat} {cls : String} (h : xsplit own ic cls) {args : Array Value} {s : State} (hB : ∀ w ∈ bs, w.before args s = true) (hX : xk s) : ∀ a ∈ Bundle.ownAtoms0 own ic cls xnames, a.before args s = true := by
  intro a ha
  rcases h a ha with h1 | h1 | h1
  · exact hB a h1
  · exact va_tabs (xw1_face a h1).1 rfl (hX.2.2.1 a h1)
  · simp only [xzs, List.mem_cons, List.not_mem_nil, or_false] at h1
    rcases h1 with rfl | rfl | rfl | rfl
    · exact xz_lays hX.2.2.2.2.1
    · exact xz_lays hX.2.2.2.2.2
    · exact xz_ref hX.2.2.2.2.1
    · exact xz_ref hX.2.2.2.2.2
set_option maxRecDepth 100000 in
theorem xs_LC_IAE : xsplit R_LC 24 xIAE := by unfold xsplit; decide +kernel
set_option maxRecDepth 100000 in
theorem xs_LC_NSE : xsplit R_LC 27 xNSE := by unfold xsplit; decide +kernel
set_option maxRecDepth 100000 in
theorem xs_LC_ISE : xsplit R_LC 38 xISE := by unfold xsplit; decide +kernel
set_option maxRecDepth 100000 in
theorem xs_MO_IAE : xsplit R_MO 15 xIAE := by unfold xsplit; decide +kernel
set_option maxRecDepth 100000 in
theorem xs_MO_ISE : xsplit R_MO 26 xISE := by unfold xsplit; decide +kernel
set_option maxRecDepth 100000 in
theorem xs_MO_NSE : xsplit R_MO 29 xNSE := by unfold xsplit; decide +kernel
section XX
variable {p : Program} {l : Launch} {e : Env} {R : Room} {s : State} {m : MethodId} {args : Array Value} {below : List Frame} {meth : Method} {c : Code} {T : State} {H : Heap} {locs : List Loc} {cells slots : Nat} {Q : State → Prop}
variable {cc : ByteArray} {pc nL : Nat} {ls : Array Slot} {rest st : List Value} {own cls : String} {ret : Option FieldType} {tb : List ExceptionTableEntry} {D : va_G} {tys : List (ClassId × FieldType)} {A : Nat → Prop} {ws wc wr : va_W}
variable {y : MethodName} {bytes : ByteArray} {maxL idx n : Nat} {rt : Option FieldType} {rm : Room} {As : List Value} {b : Nat}
/-- throw new X(): from the instruction 'new' on; nothing has been written -/
theorem throw0 (hfl : l.flags = pinnedFlags ++ [noTraceFlag]) (C : Cx p s m args meth c own cc nL ret [] D tys) {ic : Nat} (hsp : xsplit own ic cls) (hfit : Bundle.fit cls = true) (hcl : Cond.classLink own idx cls ∈ bs) (hin : Cond.instantiable cls 6 ∈ bs) (hini : Cond.initialized cls ∈ bs) (hls : ls.size = nL)
    (d0 : decode cc pc = .ok (.new idx, 3)) (d1 : decode cc (pc + 3) = .ok (.dup, 1)) (d2 : decode cc (pc + 3 + 1) = .ok (.invokespecial ic, 3)) (d3 : decode cc (pc + 3 + 1 + 3) = .ok (.athrow, 1))
    (hcells : 1 ≤ R.cells) (hslots : 6 ≤ R.slots) (hfr : 5 < R.frames) (hlo : 81 ≤ R.locals) : W p l e R s m args below meth c s.heap [] 0 0 (MQX below cls s) (F0 m pc ls []) := by
  obtain ⟨hx, hb, hml, hown, hB, hlk, hr, htb, hK, hX⟩ := C
  refine W.newc hx hb hown (hB _ hcl) (hB _ hin) (hB _ hini) (g := F0 m pc ls []) rfl d0 (by omega) (by omega) (fun cC kC h1 h2 h3 h4 => ?_)
  refine W.eq (g2 := F0 m (pc + 3) ls [.ref s.heap.size]) rfl ?_
  refine lv_dup hx hb d1 rfl ?_
  intro T hT X
  have hcell : T.heap[s.heap.size]? = some (freshCell cC kC) := by rw [hT]; simp
  obtain ⟨U, st1, hrun, hend, hW, hsame, ce, hce, hO⟩ := X.ctorThrow0 hx (Launch.traces_off hfl X.admits) (own := own) (cls := cls) (names := xnames) (ic := ic) hown hfit (by decide) (xatoms hsp hB hX) (fun x h => by cases h) h1 h2 hcell (Nat.le_refl _)
    (g := F0 m (pc + 3 + 1) ls [.ref s.heap.size, .ref s.heap.size]) rfl (hls.trans hml.symm) rfl rfl (rest := []) rfl (by rw [hb]; exact d2) (by rw [hb]; exact d3) (fun x h => by rw [htb] at h; cases h) hfr (by exact hlo) hlk
  refine ⟨U, st1, .threw s.heap.size, hrun, hend, s.heap.size, ce, ce.cls, rfl, Nat.le_refl _, hce, hO.cls, rfl, by rw [hO.vm]; rfl, ⟨_, rfl⟩, hW, ?_⟩
  have h5 : 0 + 6 = 6 := rfl
  exact hsame.mono (Nat.le_refl 1) (by omega)
/-- the callee throws: its note lies over the caller's frame -/
theorem backT (X : Stand p l e R s m args below meth c T locs cells slots) (hB : ∀ w ∈ bs, w.before args s = true) (hc : Cond.code y bytes maxL rt ∈ bs) (hi : Cond.initialized y.cls ∈ bs) {av : List Value} (hM : XT l y (.code y bytes maxL rt) rm D tys av wc cls)
    {g : JFrame} (hg : g.method = m) (hsize : g.locals.size = c.maxLocals) {ig : Instr} {len : Nat} (hdg : decode c.code g.pc = .ok (ig, len)) (hW : 2 * g.monitorRoom + (g.stack.map fun v => v.category).sum ≤ 8) {mk : MethodId} (hn : T.methodNamed? y = some mk)
    (hR : rm.frames + 1 ≤ R.frames ∧ 8 + (maxL + 11) + rm.locals ≤ R.locals) (hf : cells + 1 ≤ R.cells ∧ slots + 6 ≤ R.slots) (hpre : PcR D tys av wc av.toArray T) :
    ∃ (x : Nat) (cell : Cell) (cX : ClassId) (T' : State), Stand p l e R s m args below meth c T' locs (cells + 1) (slots + 6) ∧ T.heap.size ≤ x ∧ T'.heap[x]? = some cell ∧ s.vm.findClass cls = some cX ∧ cell.cls = cX ∧ cell.vm.isStatics = false ∧ T.heap.size ≤ T'.heap.size ∧ (∀ q : Nat, q < T.heap.size → T'.heap[q]? = T.heap[q]?) ∧
      Steps p.tables e below (doInvoke e (T.setTop g) [] mk av.toArray).1 ((T'.setTop g).pushFrame (.throwing x)) := by
  obtain ⟨⟨hrc, hrs⟩, hM⟩ := hM
  have hpay := pay_in hB (gd_ok hc)
  have h1 : (headSpec (Cond.code y bytes maxL rt :: bs) rm).pre.before av.toArray T = true := atoms_intro fun w hw => hpay w hw _ _ X.warmed
  obtain ⟨methY, cY, hmY, hcY, -, hlY, -, -, -, -⟩ := Cond.code_spec hn (hpay _ List.mem_cons_self av.toArray T X.warmed)
  obtain ⟨kY, hkY, -⟩ := className_of_methodNamed hn
  have hinitY : kY.init = .initialized := Cond.initialized_spec (findClass_of_methodNamed hn) hkY (word_at (a' := av.toArray) X.warmed (bs_good _ hi).2 (hB _ hi))
  have h : At T g.method c below := by rw [hg]; exact X.here
  have happ : (headSpec (Cond.code y bytes maxL rt :: bs) rm).appliesLoose y e.platform (T.calling g mk av.toArray) = true :=
    Spec.appliesLoose_calling (g := g) h hdg hn hkY hinitY
      (X.room_calling (g := g) (R' := rm) hsize hmY hcY hR.1 (by rw [hlY]; omega) (by rw [hrc]; exact hf.1) (by rw [hrs]; exact hf.2)) h1
  obtain ⟨mid, hmid⟩ := h.above
  have hfr : (T.setTop g).frames = (.java g :: mid) ++ below := by rw [State.frames_setTop' g h.top, hmid]; rfl
  obtain ⟨o, s₂, hsteps, -, hend, hq⟩ := Steps.callFree hM p X.admits X.cas X.clock (acts := []) hfr happ (PcR_blind _ T g mk hpre) trivial
  have hq' : xQ cls (T.calling g mk av.toArray) o s₂ := hq
  rw [State.frames_setTop' g h.top, X.tail] at hend
  obtain ⟨x, cell, cX, rfl, q1, q2, q3, q4, q5, -, hW2, hsame⟩ := hq'
  obtain ⟨T', X', hWT, hsT, ht⟩ := X.outOfThrown hg hend hW2 hsame
  rw [List.append_nil] at X'
  have hheap : s₂.heap = T'.heap := by rw [ht]; exact Stand.throwing_heap T' g x
  refine ⟨x, cell, cX, T', X', q1, by rw [← hheap]; exact q2, by rw [← X.warmed.alike.findClass]; exact q3, q4, q5, hsT.2.1, fun q hq => kept_nil hsT q hq, ?_⟩
  rw [← ht]
  exact hsteps
/-- invokestatic of a method that throws, and out -/
theorem call_Xs (C : Cx p s m args meth c own cc nL ret [] D tys) (hk : KS own idx y (.code y bytes maxL rt) n) (hM : XT l y (.code y bytes maxL rt) rm D tys As wc cls) (hP : va_P D classes wc s.heap)
    (hn : As.length = n) (hls : ls.size = nL) (hst : st = As.reverse ++ rest) (hW : (rest.map fun v => v.category).sum ≤ 8) (hroom : rm.frames + 1 ≤ R.frames ∧ 8 + (maxL + 11) + rm.locals ≤ R.locals) (hf : 1 ≤ R.cells ∧ 6 ≤ R.slots) (hdg : decode cc pc = .ok (.invokestatic idx, 3)) :
    W p l e R s m args below meth c s.heap [] 0 0 (MQX below cls s) (F0 m pc ls st) := by
  obtain ⟨hx, hb, hml, hown, hB, hlk, hr, htb, hK, hX⟩ := C
  obtain ⟨k1, k2, k4, k5, k6⟩ := hk
  obtain ⟨mk, hnamed⟩ := Cond.code_named (hB _ k5)
  obtain ⟨methM, cM, hmethM, -, -, -, -, -, -, hsigM⟩ := Cond.code_spec hnamed (hB _ k5)
  intro T hT X
  obtain ⟨vm₁, X₁, hgo⟩ := goS X hx hown (hB _ k1) (hB _ k2) (hB _ k4) hnamed hmethM hsigM ⟨k6.1, k6.2.1⟩ (g := F0 m pc ls st) rfl (As := As) (rest := rest) (fun sig h => hn.trans (k6.len sig h)) hst (by rw [hb]; exact hdg)
  have hpre : PcR D tys As wc As.toArray (T.setVm vm₁) := (preR (av := As) hK hX (Aok_new s) va_S.rf hP).2 (T.setVm vm₁) hT X₁.warmed
  obtain ⟨x, cell, cX, T', X', q1, q2, q3, q4, q5, -, -, hsteps⟩ := backT X₁ hB k5 k4 hM (g := { F0 m pc ls st with stack := rest }) rfl (hls.trans hml.symm) (ig := .invokestatic idx) (len := 3) (by rw [hb]; exact hdg) (lv_room (m := m) (pc := pc) (ls := ls) (rest := rest) hW) (X₁.named hnamed) hroom ⟨by omega, by omega⟩ hpre
  obtain ⟨hout, hrun, hend, hWv, hsame⟩ := X'.leaveThrown x (g := { F0 m pc ls st with stack := rest }) rfl rfl rfl (fun z h => by rw [htb] at h; cases h) hlk
  have hhs : (T.setVm vm₁).heap.size = s.heap.size := by show T.heap.size = _; rw [hT]
  refine ⟨_, hgo _ (hsteps.trans hout), .threw x, hrun, hend, x, cell, cX, rfl, by rw [← hhs]; exact q1, q2, q3, q4, q5, ⟨x, rfl⟩, hWv, hsame.mono (by omega) (by omega)⟩
-- the search for a handler, whether its class has been resolved or not
variable {S : State} {f : JFrame} {a : Nat}
theorem xf_go {QH : Handler → Pre} {E : CtlPost} {d : Bool} {acts : List Action} {x : ExceptionTableEntry} {t : List ExceptionTableEntry} {k : ClassId} {cell : Cell} (hx : covers x f.pc = true) (h0 : x.catchType ≠ 0)
    (hl : S.vm.ClassLinks e.platform f.method.cls x.catchType k) (hcell : S.heap[a]? = some cell) (hobj : cell.vm.isStatics = false)
    (hk1 : ∃ z, (S.vm.noted f.method.cls x.catchType (.cls k)).classes[cell.cls]? = some z) (hk2 : ∃ z, (S.vm.noted f.method.cls x.catchType (.cls k)).classes[k]? = some z) {r : Bool} (hfit : (S.vm.noted f.method.cls x.catchType (.cls k)).assignable cell.cls k = r) :
    wp (findHandler.go f a (x :: t)) QH E e d acts S ↔ if r = true then QH (.found x.handlerPc) d acts (S.setVm (S.vm.noted f.method.cls x.catchType (.cls k))) else wp (findHandler.go f a t) QH E e d acts (S.setVm (S.vm.noted f.method.cls x.catchType (.cls k))) := by
  have hx' := hx
  simp only [covers] at hx'
  obtain ⟨g1, g2⟩ := (resolveClass_links e.toSetting hl).op (op := VmOp.resolveClass f.method.cls x.catchType) rfl
  have hobj' : ∀ z, cell.vm ≠ .statics z := VmData.ne_statics_of hobj
  obtain ⟨z1, hz1⟩ := hk1
  obtain ⟨z2, hz2⟩ := hk2
  cases r <;> simp [findHandler.go, hx', h0, g1, g2, hcell, hobj', hz1, hz2, hfit, VmOp.dirties, VmOp.acts]
/-- a step of the unwinding into the frame's own handler, the tables moved -/
theorem xs_caught {tbl : Tables} {target : State} {g : JFrame} {hpc : Nat} {vm' : Vm} (h : At T g.method c below)
    (hfind : ∀ (QH : Handler → Pre) (E : CtlPost) (d : Bool) (acts : List Action), wp (findHandler g a) QH E e d acts ((T.setTop g).pushFrame (.throwing a)) ↔ QH (.found hpc) d acts (((T.setTop g).pushFrame (.throwing a)).setVm vm'))
    (hrest : Steps tbl e below ((T.setVm vm').setTop { g with pc := hpc, stack := [.ref a] }) target) : Steps tbl e below ((T.setTop g).pushFrame (.throwing a)) target := by
  obtain ⟨hgo, hw⟩ := h.throwing a
  obtain ⟨g₀, hg⟩ := Option.isSome_iff_exists.mp h.top
  obtain ⟨r, hr⟩ := State.topJava?_eq_some.mp hg
  refine Steps.head hgo hw ?_
  have key : (stepThrowing e ((T.setTop g).pushFrame (.throwing a)) a (.java g :: T.frames.tail)).1 = (((T.setTop g).pushFrame (.throwing a)).setVm vm').setFrames (.java { g with pc := hpc, stack := [.ref a] } :: T.frames.tail) := by
    simp only [stepThrowing, searchFrame, vmDo]
    generalize hres : Sem.go _ e false [] ((T.setTop g).pushFrame (.throwing a)) = res
    obtain ⟨as, rfl, -⟩ := Sem.eq_ok_of hres (a := Handler.found hpc) (s' := ((T.setTop g).pushFrame (.throwing a)).setVm vm') (acts' := []) (by simp [hfind _ _ _ _])
    rfl
  rw [stepThread_throwing (frames_entered h.top _), key]
  have hr' : (T.setVm vm').frames = .java g₀ :: r := hr
  rw [State.setTop_of_frames _ hr'] at hrest
  have e1 : (((T.setTop g).pushFrame (.throwing a)).setVm vm').setFrames (.java { g with pc := hpc, stack := [.ref a] } :: T.frames.tail) = (T.setVm vm').setFrames (.java { g with pc := hpc, stack := [.ref a] } :: r) := by
    rw [hr, List.tail_cons, State.pushFrame, State.setTop_of_frames _ hr, State.setFrames_setFrames]
    show ((T.setFrames _).setVm vm').setFrames _ = _
    exact State.setFrames_setFrames (T.setVm vm') _ _
  rw [e1]
  exact hrest
/-- the rows of a table that are passed by, and the one that takes it: words -/
def XPass (own cls : String) (pc : Nat) (tb : List ExceptionTableEntry) (hpc : Nat) : Prop :=
  (∃ (x : ExceptionTableEntry) (t : List ExceptionTableEntry), tb = x :: t ∧ covers x pc = true ∧ x.catchType ≠ 0 ∧ x.handlerPc = hpc ∧ Cond.classLink own x.catchType cls ∈ bs) ∨
  (∃ (z x : ExceptionTableEntry) (t : List ExceptionTableEntry), tb = z :: x :: t ∧ covers z pc = true ∧ z.catchType ≠ 0 ∧ Cond.classLink own z.catchType xIAE ∈ bs ∧ cls = xISE ∧ covers x pc = true ∧ x.catchType ≠ 0 ∧ x.handlerPc = hpc ∧ Cond.classLink own x.catchType cls ∈ bs)
theorem xcaught (X : Stand p l e R s m args below meth c T locs cells slots) (hown : s.vm.findClass own = some m.cls) (hB : ∀ w ∈ bs, w.before args s = true) (hX : xk s) (htb : c.exceptionTable.toList = tb) (hcast : Cond.castable cls cls ∈ xw1)
    {g : JFrame} (hg : g.method = m) {hpc : Nat} (hp : XPass own cls g.pc tb hpc) {cell : Cell} {cX : ClassId} (hcell : T.heap[a]? = some cell) (hobj : cell.vm.isStatics = false) (hcX : s.vm.findClass cls = some cX) (hcc : cell.cls = cX) :
    ∃ vm', Stand p l e R s m args below meth c (T.setVm vm') locs cells slots ∧ ∀ target, Steps p.tables e below ((T.setVm vm').setTop { g with pc := hpc, stack := [.ref a] }) target → Steps p.tables e below ((T.setTop g).pushFrame (.throwing a)) target := by
  subst hg
  have hpl : e.platform.magicAccessors = ({} : Platform).magicAccessors := by rw [X.admits.platform]
  have hself : s.vm.assignable cX cX = true := by
    obtain ⟨c3, c4, hc3, hc4, hasg⟩ := Cond.castable_spec (hX.2.2.1 _ hcast)
    cases hcX.symm.trans hc3
    cases hcX.symm.trans hc4
    exact hasg
  obtain ⟨kX, hkX⟩ := Vm.classAt_of_findClass hcX
  have link : ∀ (vm : Vm) (j : Nat) (nm : String), s.WarmedH vm → Cond.classLink own j nm ∈ bs → ∃ k, s.vm.findClass nm = some k ∧ vm.ClassLinks e.platform g.method.cls j k ∧ s.WarmedH (vm.noted g.method.cls j (.cls k)) ∧ (∃ z, (vm.noted g.method.cls j (.cls k)).classes[cX]? = some z) ∧ ∃ z, (vm.noted g.method.cls j (.cls k)).classes[k]? = some z := by
    intro vm j nm hW hl
    obtain ⟨k, hk, hcl⟩ := Cond.classLink_spec hown (hB _ hl) e.platform hpl
    obtain ⟨dk, _, _, kt, hd, _, _, _, _, hkt, _, hopen⟩ := hcl.here
    have hW' := hW.noted hd hopen (State.rightAt_cls hcl)
    obtain ⟨z1, hz1, -⟩ := hW'.alike.2.2 _ _ hkX
    obtain ⟨z2, hz2, -⟩ := hW'.alike.2.2 _ _ hkt
    exact ⟨k, hk, hW.classLinks hcl, hW', ⟨z1, hz1⟩, z2, hz2⟩
  subst hcc
  have hvm0 : ((T.setTop g).pushFrame (.throwing a)).vm = T.vm := Stand.throwing_vm T g a
  have hhp0 : ((T.setTop g).pushFrame (.throwing a)).heap = T.heap := Stand.throwing_heap T g a
  have hmeth0 : ((T.setTop g).pushFrame (.throwing a)).vm.method? g.method = some meth := by rw [hvm0]; exact X.method'
  rcases hp with ⟨x, t, hs1, hcov, h0, rfl, hl⟩ | ⟨z, x, t, hs1, hcz, hz0, hlz, rfl, hcov, h0, rfl, hl⟩
  · obtain ⟨k, hk, hcl, hW', hz1, hz2⟩ := link T.vm x.catchType cls X.warmed hl
    cases hcX.symm.trans hk
    refine ⟨_, X.noted hW', fun target hrest => xs_caught X.here (fun QH E d acts => ?_) hrest⟩
    have hgo := xf_go (QH := QH) (E := E) (d := d) (acts := acts) (S := (T.setTop g).pushFrame (.throwing a)) (f := g) (a := a) (x := x) (t := t) (e := e) (cell := cell) (k := cell.cls) (r := true) hcov h0 (by rw [hvm0]; exact hcl) (by rw [hhp0]; exact hcell) hobj (by rw [hvm0]; exact hz1) (by rw [hvm0]; exact hz2) (by rw [hvm0, hW'.alike.assignable]; exact hself)
    rw [_root_.Jvm.W.findHandler_eq hmeth0 X.code, htb, hs1, hgo, if_pos rfl, hvm0]
  · obtain ⟨k1, hk1, hcl1, hW1, hz1, hz2⟩ := link T.vm z.catchType xIAE X.warmed hlz
    obtain ⟨k, hk, hcl, hW', hz3, hz4⟩ := link _ x.catchType _ hW1 hl
    cases hcX.symm.trans hk
    have hno : s.vm.assignable cell.cls k1 = false := by
      obtain ⟨u1, u2, hu1, hu2, hu3⟩ := hX.2.2.2.1
      cases hcX.symm.trans hu1
      cases hk1.symm.trans hu2
      exact hu3
    refine ⟨_, X.noted hW', fun target hrest => xs_caught X.here (fun QH E d acts => ?_) hrest⟩
    have hgo1 := xf_go (QH := QH) (E := E) (d := d) (acts := acts) (S := (T.setTop g).pushFrame (.throwing a)) (f := g) (a := a) (x := z) (t := x :: t) (e := e) (cell := cell) (k := k1) (r := false) hcz hz0 (by rw [hvm0]; exact hcl1) (by rw [hhp0]; exact hcell) hobj (by rw [hvm0]; exact hz1) (by rw [hvm0]; exact hz2) (by rw [hvm0, hW1.alike.assignable]; exact hno)
    have hgo2 := xf_go (QH := QH) (E := E) (d := d) (acts := acts) (S := ((T.setTop g).pushFrame (.throwing a)).setVm (T.vm.noted g.method.cls z.catchType (.cls k1))) (f := g) (a := a) (x := x) (t := t) (e := e) (cell := cell) (k := cell.cls) (r := true) hcov h0 hcl (by rw [State.heap_setVm, hhp0]; exact hcell) hobj hz3 hz4 (by rw [State.vm_setVm, hW'.alike.assignable]; exact hself)
    rw [_root_.Jvm.W.findHandler_eq hmeth0 X.code, htb, hs1, hgo1, if_neg (by decide), hvm0, hgo2, if_pos rfl, State.vm_setVm, State.setVm_twice]
/-- invokevirtual of a method that throws, caught here -/
theorem call_Xv (C : Cx p s m args meth c own cc nL ret tb D tys) (hA : Aok s A) (hk : KV own idx y (.code y bytes maxL rt) n) (hM : XT l y (.code y bytes maxL rt) rm D tys (.ref b :: As) wc cls) (hP : va_P D classes wc H) (hS : va_S A s.heap H locs)
    {ci : Nat} {q : vw_C} {fs : List Value} (q0 : Nat) (hq : classes[ci]? = some q) (hqc : q.1 = y.cls) (he : wc[q0]? = some (b, .inr (ci, fs)))
    (hn : As.length = n) (hls : ls.size = nL) (hst : st = As.reverse ++ .ref b :: rest) (hW : (rest.map fun v => v.category).sum ≤ 8) (hroom : rm.frames + 1 ≤ R.frames ∧ 8 + (maxL + 11) + rm.locals ≤ R.locals) (hf : cells + 1 ≤ R.cells ∧ slots + 6 ≤ R.slots) (hdg : decode cc pc = .ok (.invokevirtual idx, 3)) (hcast : Cond.castable cls cls ∈ xw1) {hpc : Nat} (hp : XPass own cls pc tb hpc)
    (kk : ∀ (x : Nat) (H1 : Heap), H.size ≤ H1.size → (∀ q : Nat, q < H.size → H1[q]? = H[q]?) → va_S A s.heap H1 locs → W p l e R s m args below meth c H1 locs (cells + 1) (slots + 6) Q (F0 m hpc ls [.ref x])) : W p l e R s m args below meth c H locs cells slots Q (F0 m pc ls st) := by
  obtain ⟨hx, hb, hml, hown, hB, hlk, hr, htb, hK, hX⟩ := C
  obtain ⟨k1, k2, k3, k4, k5, k6⟩ := hk
  have hrec := va_recv hK hP hq he
  rw [hqc] at hrec
  obtain ⟨cellB, hcB, hoB, hclB⟩ := hrec
  intro T hT X
  obtain ⟨mk, vm₁, hnamed, X₁, hgo⟩ := goV X hx hown (hB _ k1) (hB _ k2) (hB _ k3) (sig_code (hB _ k5)) ⟨k6.1, k6.2.1⟩ (by rw [hT]; exact hcB) hoB hclB (g := F0 m pc ls st) rfl (As := As) (rest := rest) (fun sig h => hn.trans (k6.len sig h)) hst (by rw [hb]; exact hdg)
  have hpre : PcR D tys (.ref b :: As) wc (Value.ref b :: As).toArray (T.setVm vm₁) := (preR (av := .ref b :: As) hK hX hA hS hP).2 (T.setVm vm₁) hT X₁.warmed
  obtain ⟨x, cell, cX, T', X', q1, q2, q3, q4, q5, q6, q7, hsteps⟩ := backT X₁ hB k5 k4 hM (g := { F0 m pc ls st with stack := rest }) rfl (hls.trans hml.symm) (ig := .invokevirtual idx) (len := 3) (by rw [hb]; exact hdg) (lv_room (m := m) (pc := pc) (ls := ls) (rest := rest) hW) (X₁.named hnamed) hroom hf hpre
  obtain ⟨vm', X2, hcat⟩ := xcaught X' hown hB hX htb hcast (g := { F0 m pc ls st with stack := rest }) rfl hp q2 q5 q3 q4
  have hh : (T.setVm vm₁).heap = H := hT
  rw [hh] at q6 q7
  obtain ⟨t2, a1, b1⟩ := kk x T'.heap q6 q7 ⟨Nat.le_trans hS.1 q6, fun q h1 h2 => by rw [q7 q (Nat.lt_of_lt_of_le h1 hS.1)]; exact hS.2.1 q h1 h2, hS.2.2⟩ (T'.setVm vm') rfl X2
  exact ⟨t2, hgo _ (hsteps.trans (hcat _ a1)), b1⟩
theorem keepW (hP : va_P D classes ws H) {H1 : Heap} (h : ∀ q : Nat, q < H.size → H1[q]? = H[q]?) : va_P D classes ws H1 := hP.kept (fun k q hk => h q.1 (hP k q hk).lt)
end XX
end
section
theorem d_MO_init_0 : decode b_MO_init 0 = .ok (.aload_n 0, 1) := by decide +kernel
theorem d_MO_init_1 : decode b_MO_init 1 = .ok (.invokespecial 1, 3) := by decide +kernel
theorem d_MO_init_4 : decode b_MO_init 4 = .ok (.aload_n 0, 1) := by decide +kernel
theorem d_MO_init_5 : decode b_MO_init 5 = .ok (.sipush 20000, 3) := by decide +kernel
theorem d_MO_init_8 : decode b_MO_init 8 = .ok (.newarray .int, 2) := by decide +kernel
theorem d_MO_init_10 : decode b_MO_init 10 = .ok (.putfield 9, 3) := by decide +kernel
theorem d_MO_init_13 : decode b_MO_init 13 = .ok (.return_, 1) := by decide +kernel
theorem d_MO_check_0 : decode b_MO_check 0 = .ok (.iload_n 0, 1) := by decide +kernel
theorem d_MO_check_1 : decode b_MO_check 1 = .ok (.ifCond .ne 11, 3) := by decide +kernel
theorem d_MO_check_4 : decode b_MO_check 4 = .ok (.new 13, 3) := by decide +kernel
theorem d_MO_check_7 : decode b_MO_check 7 = .ok (.dup, 1) := by decide +kernel
theorem d_MO_check_8 : decode b_MO_check 8 = .ok (.invokespecial 15, 3) := by decide +kernel
theorem d_MO_check_11 : decode b_MO_check 11 = .ok (.athrow, 1) := by decide +kernel
theorem d_MO_check_12 : decode b_MO_check 12 = .ok (.return_, 1) := by decide +kernel
theorem d_MO_insert0_0 : decode b_MO_insert0 0 = .ok (.iload_n 1, 1) := by decide +kernel
theorem d_MO_insert0_1 : decode b_MO_insert0 1 = .ok (.ifCond .lt 29, 3) := by decide +kernel
theorem d_MO_insert0_4 : decode b_MO_insert0 4 = .ok (.iload_n 1, 1) := by decide +kernel
theorem d_MO_insert0_5 : decode b_MO_insert0 5 = .ok (.aload_n 0, 1) := by decide +kernel
theorem d_MO_insert0_6 : decode b_MO_insert0 6 = .ok (.getfield 16, 3) := by decide +kernel
theorem d_MO_insert0_9 : decode b_MO_insert0 9 = .ok (.if_icmp .gt 21, 3) := by decide +kernel
theorem d_MO_insert0_12 : decode b_MO_insert0 12 = .ok (.iload 4, 2) := by decide +kernel
theorem d_MO_insert0_14 : decode b_MO_insert0 14 = .ok (.iconst 1, 1) := by decide +kernel
theorem d_MO_insert0_15 : decode b_MO_insert0 15 = .ok (.if_icmp .lt 15, 3) := by decide +kernel
theorem d_MO_insert0_18 : decode b_MO_insert0 18 = .ok (.iload 4, 2) := by decide +kernel
theorem d_MO_insert0_20 : decode b_MO_insert0 20 = .ok (.sipush 500, 3) := by decide +kernel
theorem d_MO_insert0_23 : decode b_MO_insert0 23 = .ok (.if_icmp .gt 7, 3) := by decide +kernel
theorem d_MO_insert0_26 : decode b_MO_insert0 26 = .ok (.iconst 1, 1) := by decide +kernel
theorem d_MO_insert0_27 : decode b_MO_insert0 27 = .ok (.goto 4, 3) := by decide +kernel
theorem d_MO_insert0_30 : decode b_MO_insert0 30 = .ok (.iconst 0, 1) := by decide +kernel
theorem d_MO_insert0_31 : decode b_MO_insert0 31 = .ok (.invokestatic 20, 3) := by decide +kernel
theorem d_MO_insert0_34 : decode b_MO_insert0 34 = .ok (.aload_n 0, 1) := by decide +kernel
theorem d_MO_insert0_35 : decode b_MO_insert0 35 = .ok (.getfield 16, 3) := by decide +kernel
theorem d_MO_insert0_38 : decode b_MO_insert0 38 = .ok (.iload 4, 2) := by decide +kernel
theorem d_MO_insert0_40 : decode b_MO_insert0 40 = .ok (.iadd, 1) := by decide +kernel
theorem d_MO_insert0_41 : decode b_MO_insert0 41 = .ok (.sipush 20000, 3) := by decide +kernel
theorem d_MO_insert0_44 : decode b_MO_insert0 44 = .ok (.if_icmp .le 11, 3) := by decide +kernel
theorem d_MO_insert0_47 : decode b_MO_insert0 47 = .ok (.new 24, 3) := by decide +kernel
theorem d_MO_insert0_50 : decode b_MO_insert0 50 = .ok (.dup, 1) := by decide +kernel
theorem d_MO_insert0_51 : decode b_MO_insert0 51 = .ok (.invokespecial 26, 3) := by decide +kernel
theorem d_MO_insert0_54 : decode b_MO_insert0 54 = .ok (.athrow, 1) := by decide +kernel
theorem d_MO_insert0_55 : decode b_MO_insert0 55 = .ok (.aload_n 0, 1) := by decide +kernel
theorem d_MO_insert0_56 : decode b_MO_insert0 56 = .ok (.getfield 16, 3) := by decide +kernel
theorem d_MO_insert0_59 : decode b_MO_insert0 59 = .ok (.iconst 1, 1) := by decide +kernel
theorem d_MO_insert0_60 : decode b_MO_insert0 60 = .ok (.isub, 1) := by decide +kernel
theorem d_MO_insert0_61 : decode b_MO_insert0 61 = .ok (.istore 5, 2) := by decide +kernel
theorem d_MO_insert0_63 : decode b_MO_insert0 63 = .ok (.iload 5, 2) := by decide +kernel
theorem d_MO_insert0_65 : decode b_MO_insert0 65 = .ok (.iload_n 1, 1) := by decide +kernel
theorem d_MO_insert0_66 : decode b_MO_insert0 66 = .ok (.if_icmp .lt 26, 3) := by decide +kernel
theorem d_MO_insert0_69 : decode b_MO_insert0 69 = .ok (.aload_n 0, 1) := by decide +kernel
theorem d_MO_insert0_70 : decode b_MO_insert0 70 = .ok (.getfield 9, 3) := by decide +kernel
theorem d_MO_insert0_73 : decode b_MO_insert0 73 = .ok (.iload 5, 2) := by decide +kernel
theorem d_MO_insert0_75 : decode b_MO_insert0 75 = .ok (.iload 4, 2) := by decide +kernel
theorem d_MO_insert0_77 : decode b_MO_insert0 77 = .ok (.iadd, 1) := by decide +kernel
theorem d_MO_insert0_78 : decode b_MO_insert0 78 = .ok (.aload_n 0, 1) := by decide +kernel
theorem d_MO_insert0_79 : decode b_MO_insert0 79 = .ok (.getfield 9, 3) := by decide +kernel
theorem d_MO_insert0_82 : decode b_MO_insert0 82 = .ok (.iload 5, 2) := by decide +kernel
theorem d_MO_insert0_84 : decode b_MO_insert0 84 = .ok (.iaload, 1) := by decide +kernel
theorem d_MO_insert0_85 : decode b_MO_insert0 85 = .ok (.iastore, 1) := by decide +kernel
theorem d_MO_insert0_86 : decode b_MO_insert0 86 = .ok (.iinc 5 (-1), 3) := by decide +kernel
theorem d_MO_insert0_89 : decode b_MO_insert0 89 = .ok (.goto (-26), 3) := by decide +kernel
theorem d_MO_insert0_92 : decode b_MO_insert0 92 = .ok (.iconst 0, 1) := by decide +kernel
theorem d_MO_insert0_93 : decode b_MO_insert0 93 = .ok (.istore 5, 2) := by decide +kernel
theorem d_MO_insert0_95 : decode b_MO_insert0 95 = .ok (.iload 5, 2) := by decide +kernel
theorem d_MO_insert0_97 : decode b_MO_insert0 97 = .ok (.iload 4, 2) := by decide +kernel
theorem d_MO_insert0_99 : decode b_MO_insert0 99 = .ok (.if_icmp .ge 24, 3) := by decide +kernel
theorem d_MO_insert0_102 : decode b_MO_insert0 102 = .ok (.aload_n 0, 1) := by decide +kernel
theorem d_MO_insert0_103 : decode b_MO_insert0 103 = .ok (.getfield 9, 3) := by decide +kernel
theorem d_MO_insert0_106 : decode b_MO_insert0 106 = .ok (.iload_n 1, 1) := by decide +kernel
theorem d_MO_insert0_107 : decode b_MO_insert0 107 = .ok (.iload 5, 2) := by decide +kernel
theorem d_MO_insert0_109 : decode b_MO_insert0 109 = .ok (.iadd, 1) := by decide +kernel
theorem d_MO_insert0_110 : decode b_MO_insert0 110 = .ok (.iload_n 2, 1) := by decide +kernel
theorem d_MO_insert0_111 : decode b_MO_insert0 111 = .ok (.iload 5, 2) := by decide +kernel
theorem d_MO_insert0_113 : decode b_MO_insert0 113 = .ok (.iload_n 3, 1) := by decide +kernel
theorem d_MO_insert0_114 : decode b_MO_insert0 114 = .ok (.imul, 1) := by decide +kernel
theorem d_MO_insert0_115 : decode b_MO_insert0 115 = .ok (.iadd, 1) := by decide +kernel
theorem d_MO_insert0_116 : decode b_MO_insert0 116 = .ok (.iastore, 1) := by decide +kernel
theorem d_MO_insert0_117 : decode b_MO_insert0 117 = .ok (.iinc 5 1, 3) := by decide +kernel
theorem d_MO_insert0_120 : decode b_MO_insert0 120 = .ok (.goto (-25), 3) := by decide +kernel
theorem d_MO_insert0_123 : decode b_MO_insert0 123 = .ok (.aload_n 0, 1) := by decide +kernel
theorem d_MO_insert0_124 : decode b_MO_insert0 124 = .ok (.dup, 1) := by decide +kernel
theorem d_MO_insert0_125 : decode b_MO_insert0 125 = .ok (.getfield 16, 3) := by decide +kernel
theorem d_MO_insert0_128 : decode b_MO_insert0 128 = .ok (.iload 4, 2) := by decide +kernel
theorem d_MO_insert0_130 : decode b_MO_insert0 130 = .ok (.iadd, 1) := by decide +kernel
theorem d_MO_insert0_131 : decode b_MO_insert0 131 = .ok (.putfield 16, 3) := by decide +kernel
theorem d_MO_insert0_134 : decode b_MO_insert0 134 = .ok (.aload_n 0, 1) := by decide +kernel
theorem d_MO_insert0_135 : decode b_MO_insert0 135 = .ok (.getfield 16, 3) := by decide +kernel
theorem d_MO_insert0_138 : decode b_MO_insert0 138 = .ok (.ireturn, 1) := by decide +kernel
theorem d_MO_delete0_0 : decode b_MO_delete0 0 = .ok (.iload_n 1, 1) := by decide +kernel
theorem d_MO_delete0_1 : decode b_MO_delete0 1 = .ok (.ifCond .lt 30, 3) := by decide +kernel
theorem d_MO_delete0_4 : decode b_MO_delete0 4 = .ok (.iload_n 2, 1) := by decide +kernel
theorem d_MO_delete0_5 : decode b_MO_delete0 5 = .ok (.iconst 1, 1) := by decide +kernel
theorem d_MO_delete0_6 : decode b_MO_delete0 6 = .ok (.if_icmp .lt 25, 3) := by decide +kernel
theorem d_MO_delete0_9 : decode b_MO_delete0 9 = .ok (.iload_n 2, 1) := by decide +kernel
theorem d_MO_delete0_10 : decode b_MO_delete0 10 = .ok (.aload_n 0, 1) := by decide +kernel
theorem d_MO_delete0_11 : decode b_MO_delete0 11 = .ok (.getfield 16, 3) := by decide +kernel
theorem d_MO_delete0_14 : decode b_MO_delete0 14 = .ok (.if_icmp .gt 17, 3) := by decide +kernel
theorem d_MO_delete0_17 : decode b_MO_delete0 17 = .ok (.iload_n 1, 1) := by decide +kernel
theorem d_MO_delete0_18 : decode b_MO_delete0 18 = .ok (.aload_n 0, 1) := by decide +kernel
theorem d_MO_delete0_19 : decode b_MO_delete0 19 = .ok (.getfield 16, 3) := by decide +kernel
theorem d_MO_delete0_22 : decode b_MO_delete0 22 = .ok (.iload_n 2, 1) := by decide +kernel
theorem d_MO_delete0_23 : decode b_MO_delete0 23 = .ok (.isub, 1) := by decide +kernel
theorem d_MO_delete0_24 : decode b_MO_delete0 24 = .ok (.if_icmp .gt 7, 3) := by decide +kernel
theorem d_MO_delete0_27 : decode b_MO_delete0 27 = .ok (.iconst 1, 1) := by decide +kernel
theorem d_MO_delete0_28 : decode b_MO_delete0 28 = .ok (.goto 4, 3) := by decide +kernel
theorem d_MO_delete0_31 : decode b_MO_delete0 31 = .ok (.iconst 0, 1) := by decide +kernel
theorem d_MO_delete0_32 : decode b_MO_delete0 32 = .ok (.invokestatic 20, 3) := by decide +kernel
theorem d_MO_delete0_35 : decode b_MO_delete0 35 = .ok (.iload_n 1, 1) := by decide +kernel
theorem d_MO_delete0_36 : decode b_MO_delete0 36 = .ok (.iload_n 2, 1) := by decide +kernel
theorem d_MO_delete0_37 : decode b_MO_delete0 37 = .ok (.iadd, 1) := by decide +kernel
theorem d_MO_delete0_38 : decode b_MO_delete0 38 = .ok (.istore_n 3, 1) := by decide +kernel
theorem d_MO_delete0_39 : decode b_MO_delete0 39 = .ok (.iload_n 3, 1) := by decide +kernel
theorem d_MO_delete0_40 : decode b_MO_delete0 40 = .ok (.aload_n 0, 1) := by decide +kernel
theorem d_MO_delete0_41 : decode b_MO_delete0 41 = .ok (.getfield 16, 3) := by decide +kernel
theorem d_MO_delete0_44 : decode b_MO_delete0 44 = .ok (.if_icmp .ge 23, 3) := by decide +kernel
theorem d_MO_delete0_47 : decode b_MO_delete0 47 = .ok (.aload_n 0, 1) := by decide +kernel
theorem d_MO_delete0_48 : decode b_MO_delete0 48 = .ok (.getfield 9, 3) := by decide +kernel
theorem d_MO_delete0_51 : decode b_MO_delete0 51 = .ok (.iload_n 3, 1) := by decide +kernel
theorem d_MO_delete0_52 : decode b_MO_delete0 52 = .ok (.iload_n 2, 1) := by decide +kernel
theorem d_MO_delete0_53 : decode b_MO_delete0 53 = .ok (.isub, 1) := by decide +kernel
theorem d_MO_delete0_54 : decode b_MO_delete0 54 = .ok (.aload_n 0, 1) := by decide +kernel
theorem d_MO_delete0_55 : decode b_MO_delete0 55 = .ok (.getfield 9, 3) := by decide +kernel
theorem d_MO_delete0_58 : decode b_MO_delete0 58 = .ok (.iload_n 3, 1) := by decide +kernel
theorem d_MO_delete0_59 : decode b_MO_delete0 59 = .ok (.iaload, 1) := by decide +kernel
theorem d_MO_delete0_60 : decode b_MO_delete0 60 = .ok (.iastore, 1) := by decide +kernel
theorem d_MO_delete0_61 : decode b_MO_delete0 61 = .ok (.iinc 3 1, 3) := by decide +kernel
theorem d_MO_delete0_64 : decode b_MO_delete0 64 = .ok (.goto (-25), 3) := by decide +kernel
theorem d_MO_delete0_67 : decode b_MO_delete0 67 = .ok (.aload_n 0, 1) := by decide +kernel
theorem d_MO_delete0_68 : decode b_MO_delete0 68 = .ok (.dup, 1) := by decide +kernel
theorem d_MO_delete0_69 : decode b_MO_delete0 69 = .ok (.getfield 16, 3) := by decide +kernel
theorem d_MO_delete0_72 : decode b_MO_delete0 72 = .ok (.iload_n 2, 1) := by decide +kernel
theorem d_MO_delete0_73 : decode b_MO_delete0 73 = .ok (.isub, 1) := by decide +kernel
theorem d_MO_delete0_74 : decode b_MO_delete0 74 = .ok (.putfield 16, 3) := by decide +kernel
theorem d_MO_delete0_77 : decode b_MO_delete0 77 = .ok (.aload_n 0, 1) := by decide +kernel
theorem d_MO_delete0_78 : decode b_MO_delete0 78 = .ok (.getfield 16, 3) := by decide +kernel
theorem d_MO_delete0_81 : decode b_MO_delete0 81 = .ok (.ireturn, 1) := by decide +kernel
theorem d_MO_get0_0 : decode b_MO_get0 0 = .ok (.iload_n 1, 1) := by decide +kernel
theorem d_MO_get0_1 : decode b_MO_get0 1 = .ok (.ifCond .lt 11, 3) := by decide +kernel
theorem d_MO_get0_4 : decode b_MO_get0 4 = .ok (.iload_n 1, 1) := by decide +kernel
theorem d_MO_get0_5 : decode b_MO_get0 5 = .ok (.aload_n 0, 1) := by decide +kernel
theorem d_MO_get0_6 : decode b_MO_get0 6 = .ok (.getfield 16, 3) := by decide +kernel
theorem d_MO_get0_9 : decode b_MO_get0 9 = .ok (.if_icmp .lt 11, 3) := by decide +kernel
theorem d_MO_get0_12 : decode b_MO_get0 12 = .ok (.new 27, 3) := by decide +kernel
theorem d_MO_get0_15 : decode b_MO_get0 15 = .ok (.dup, 1) := by decide +kernel
theorem d_MO_get0_16 : decode b_MO_get0 16 = .ok (.invokespecial 29, 3) := by decide +kernel
theorem d_MO_get0_19 : decode b_MO_get0 19 = .ok (.athrow, 1) := by decide +kernel
theorem d_MO_get0_20 : decode b_MO_get0 20 = .ok (.aload_n 0, 1) := by decide +kernel
theorem d_MO_get0_21 : decode b_MO_get0 21 = .ok (.getfield 9, 3) := by decide +kernel
theorem d_MO_get0_24 : decode b_MO_get0 24 = .ok (.iload_n 1, 1) := by decide +kernel
theorem d_MO_get0_25 : decode b_MO_get0 25 = .ok (.iaload, 1) := by decide +kernel
theorem d_MO_get0_26 : decode b_MO_get0 26 = .ok (.ireturn, 1) := by decide +kernel
theorem d_MO_length0_0 : decode b_MO_length0 0 = .ok (.aload_n 0, 1) := by decide +kernel
theorem d_MO_length0_1 : decode b_MO_length0 1 = .ok (.getfield 16, 3) := by decide +kernel
theorem d_MO_length0_4 : decode b_MO_length0 4 = .ok (.ireturn, 1) := by decide +kernel
theorem d_MO_endsBefore_0 : decode b_MO_endsBefore 0 = .ok (.iconst 0, 1) := by decide +kernel
theorem d_MO_endsBefore_1 : decode b_MO_endsBefore 1 = .ok (.istore_n 2, 1) := by decide +kernel
theorem d_MO_endsBefore_2 : decode b_MO_endsBefore 2 = .ok (.iconst 0, 1) := by decide +kernel
theorem d_MO_endsBefore_3 : decode b_MO_endsBefore 3 = .ok (.istore_n 3, 1) := by decide +kernel
theorem d_MO_endsBefore_4 : decode b_MO_endsBefore 4 = .ok (.iload_n 3, 1) := by decide +kernel
theorem d_MO_endsBefore_5 : decode b_MO_endsBefore 5 = .ok (.iload_n 1, 1) := by decide +kernel
theorem d_MO_endsBefore_6 : decode b_MO_endsBefore 6 = .ok (.if_icmp .ge 23, 3) := by decide +kernel
theorem d_MO_endsBefore_9 : decode b_MO_endsBefore 9 = .ok (.aload_n 0, 1) := by decide +kernel
theorem d_MO_endsBefore_10 : decode b_MO_endsBefore 10 = .ok (.getfield 9, 3) := by decide +kernel
theorem d_MO_endsBefore_13 : decode b_MO_endsBefore 13 = .ok (.iload_n 3, 1) := by decide +kernel
theorem d_MO_endsBefore_14 : decode b_MO_endsBefore 14 = .ok (.iaload, 1) := by decide +kernel
theorem d_MO_endsBefore_15 : decode b_MO_endsBefore 15 = .ok (.bipush 10, 2) := by decide +kernel
theorem d_MO_endsBefore_17 : decode b_MO_endsBefore 17 = .ok (.if_icmp .ne 6, 3) := by decide +kernel
theorem d_MO_endsBefore_20 : decode b_MO_endsBefore 20 = .ok (.iinc 2 1, 3) := by decide +kernel
theorem d_MO_endsBefore_23 : decode b_MO_endsBefore 23 = .ok (.iinc 3 1, 3) := by decide +kernel
theorem d_MO_endsBefore_26 : decode b_MO_endsBefore 26 = .ok (.goto (-22), 3) := by decide +kernel
theorem d_MO_endsBefore_29 : decode b_MO_endsBefore 29 = .ok (.iload_n 2, 1) := by decide +kernel
theorem d_MO_endsBefore_30 : decode b_MO_endsBefore 30 = .ok (.ireturn, 1) := by decide +kernel
theorem d_MO_lines0_0 : decode b_MO_lines0 0 = .ok (.aload_n 0, 1) := by decide +kernel
theorem d_MO_lines0_1 : decode b_MO_lines0 1 = .ok (.aload_n 0, 1) := by decide +kernel
theorem d_MO_lines0_2 : decode b_MO_lines0 2 = .ok (.getfield 16, 3) := by decide +kernel
theorem d_MO_lines0_5 : decode b_MO_lines0 5 = .ok (.invokevirtual 30, 3) := by decide +kernel
theorem d_MO_lines0_8 : decode b_MO_lines0 8 = .ok (.iconst 1, 1) := by decide +kernel
theorem d_MO_lines0_9 : decode b_MO_lines0 9 = .ok (.iadd, 1) := by decide +kernel
theorem d_MO_lines0_10 : decode b_MO_lines0 10 = .ok (.ireturn, 1) := by decide +kernel
theorem d_MO_line0_0 : decode b_MO_line0 0 = .ok (.iload_n 1, 1) := by decide +kernel
theorem d_MO_line0_1 : decode b_MO_line0 1 = .ok (.ifCond .lt 15, 3) := by decide +kernel
theorem d_MO_line0_4 : decode b_MO_line0 4 = .ok (.iload_n 1, 1) := by decide +kernel
theorem d_MO_line0_5 : decode b_MO_line0 5 = .ok (.aload_n 0, 1) := by decide +kernel
theorem d_MO_line0_6 : decode b_MO_line0 6 = .ok (.aload_n 0, 1) := by decide +kernel
theorem d_MO_line0_7 : decode b_MO_line0 7 = .ok (.getfield 16, 3) := by decide +kernel
theorem d_MO_line0_10 : decode b_MO_line0 10 = .ok (.invokevirtual 30, 3) := by decide +kernel
theorem d_MO_line0_13 : decode b_MO_line0 13 = .ok (.if_icmp .le 11, 3) := by decide +kernel
theorem d_MO_line0_16 : decode b_MO_line0 16 = .ok (.new 27, 3) := by decide +kernel
theorem d_MO_line0_19 : decode b_MO_line0 19 = .ok (.dup, 1) := by decide +kernel
theorem d_MO_line0_20 : decode b_MO_line0 20 = .ok (.invokespecial 29, 3) := by decide +kernel
theorem d_MO_line0_23 : decode b_MO_line0 23 = .ok (.athrow, 1) := by decide +kernel
theorem d_MO_line0_24 : decode b_MO_line0 24 = .ok (.iconst 0, 1) := by decide +kernel
theorem d_MO_line0_25 : decode b_MO_line0 25 = .ok (.istore_n 2, 1) := by decide +kernel
theorem d_MO_line0_26 : decode b_MO_line0 26 = .ok (.aload_n 0, 1) := by decide +kernel
theorem d_MO_line0_27 : decode b_MO_line0 27 = .ok (.iload_n 2, 1) := by decide +kernel
theorem d_MO_line0_28 : decode b_MO_line0 28 = .ok (.invokevirtual 30, 3) := by decide +kernel
theorem d_MO_line0_31 : decode b_MO_line0 31 = .ok (.iload_n 1, 1) := by decide +kernel
theorem d_MO_line0_32 : decode b_MO_line0 32 = .ok (.if_icmp .ge 9, 3) := by decide +kernel
theorem d_MO_line0_35 : decode b_MO_line0 35 = .ok (.iinc 2 1, 3) := by decide +kernel
theorem d_MO_line0_38 : decode b_MO_line0 38 = .ok (.goto (-12), 3) := by decide +kernel
theorem d_MO_line0_41 : decode b_MO_line0 41 = .ok (.iload_n 2, 1) := by decide +kernel
theorem d_MO_line0_42 : decode b_MO_line0 42 = .ok (.ireturn, 1) := by decide +kernel
theorem d_MO_lineOf0_0 : decode b_MO_lineOf0 0 = .ok (.iload_n 1, 1) := by decide +kernel
theorem d_MO_lineOf0_1 : decode b_MO_lineOf0 1 = .ok (.ifCond .lt 15, 3) := by decide +kernel
theorem d_MO_lineOf0_4 : decode b_MO_lineOf0 4 = .ok (.iload_n 1, 1) := by decide +kernel
theorem d_MO_lineOf0_5 : decode b_MO_lineOf0 5 = .ok (.aload_n 0, 1) := by decide +kernel
theorem d_MO_lineOf0_6 : decode b_MO_lineOf0 6 = .ok (.getfield 16, 3) := by decide +kernel
theorem d_MO_lineOf0_9 : decode b_MO_lineOf0 9 = .ok (.if_icmp .gt 7, 3) := by decide +kernel
theorem d_MO_lineOf0_12 : decode b_MO_lineOf0 12 = .ok (.iconst 1, 1) := by decide +kernel
theorem d_MO_lineOf0_13 : decode b_MO_lineOf0 13 = .ok (.goto 4, 3) := by decide +kernel
theorem d_MO_lineOf0_16 : decode b_MO_lineOf0 16 = .ok (.iconst 0, 1) := by decide +kernel
theorem d_MO_lineOf0_17 : decode b_MO_lineOf0 17 = .ok (.invokestatic 20, 3) := by decide +kernel
theorem d_MO_lineOf0_20 : decode b_MO_lineOf0 20 = .ok (.aload_n 0, 1) := by decide +kernel
theorem d_MO_lineOf0_21 : decode b_MO_lineOf0 21 = .ok (.iload_n 1, 1) := by decide +kernel
theorem d_MO_lineOf0_22 : decode b_MO_lineOf0 22 = .ok (.invokevirtual 30, 3) := by decide +kernel
theorem d_MO_lineOf0_25 : decode b_MO_lineOf0 25 = .ok (.ireturn, 1) := by decide +kernel
theorem d_MO_digest0_0 : decode b_MO_digest0 0 = .ok (.iconst 0, 1) := by decide +kernel
theorem d_MO_digest0_1 : decode b_MO_digest0 1 = .ok (.istore_n 1, 1) := by decide +kernel
theorem d_MO_digest0_2 : decode b_MO_digest0 2 = .ok (.iconst 0, 1) := by decide +kernel
theorem d_MO_digest0_3 : decode b_MO_digest0 3 = .ok (.istore_n 2, 1) := by decide +kernel
theorem d_MO_digest0_4 : decode b_MO_digest0 4 = .ok (.iload_n 2, 1) := by decide +kernel
theorem d_MO_digest0_5 : decode b_MO_digest0 5 = .ok (.aload_n 0, 1) := by decide +kernel
theorem d_MO_digest0_6 : decode b_MO_digest0 6 = .ok (.getfield 16, 3) := by decide +kernel
theorem d_MO_digest0_9 : decode b_MO_digest0 9 = .ok (.if_icmp .ge 22, 3) := by decide +kernel
theorem d_MO_digest0_12 : decode b_MO_digest0 12 = .ok (.iload_n 1, 1) := by decide +kernel
theorem d_MO_digest0_13 : decode b_MO_digest0 13 = .ok (.aload_n 0, 1) := by decide +kernel
theorem d_MO_digest0_14 : decode b_MO_digest0 14 = .ok (.getfield 9, 3) := by decide +kernel
theorem d_MO_digest0_17 : decode b_MO_digest0 17 = .ok (.iload_n 2, 1) := by decide +kernel
theorem d_MO_digest0_18 : decode b_MO_digest0 18 = .ok (.iaload, 1) := by decide +kernel
theorem d_MO_digest0_19 : decode b_MO_digest0 19 = .ok (.iload_n 2, 1) := by decide +kernel
theorem d_MO_digest0_20 : decode b_MO_digest0 20 = .ok (.iconst 1, 1) := by decide +kernel
theorem d_MO_digest0_21 : decode b_MO_digest0 21 = .ok (.iadd, 1) := by decide +kernel
theorem d_MO_digest0_22 : decode b_MO_digest0 22 = .ok (.imul, 1) := by decide +kernel
theorem d_MO_digest0_23 : decode b_MO_digest0 23 = .ok (.iadd, 1) := by decide +kernel
theorem d_MO_digest0_24 : decode b_MO_digest0 24 = .ok (.istore_n 1, 1) := by decide +kernel
theorem d_MO_digest0_25 : decode b_MO_digest0 25 = .ok (.iinc 2 1, 3) := by decide +kernel
theorem d_MO_digest0_28 : decode b_MO_digest0 28 = .ok (.goto (-24), 3) := by decide +kernel
theorem d_MO_digest0_31 : decode b_MO_digest0 31 = .ok (.iload_n 1, 1) := by decide +kernel
theorem d_MO_digest0_32 : decode b_MO_digest0 32 = .ok (.ireturn, 1) := by decide +kernel
theorem d_MO_thrown_0 : decode b_MO_thrown 0 = .ok (.aload_n 0, 1) := by decide +kernel
theorem d_MO_thrown_1 : decode b_MO_thrown 1 = .ok (.getfield 34, 3) := by decide +kernel
theorem d_MO_thrown_4 : decode b_MO_thrown 4 = .ok (.ireturn, 1) := by decide +kernel
theorem d_MO_insert_0 : decode b_MO_insert 0 = .ok (.aload_n 0, 1) := by decide +kernel
theorem d_MO_insert_1 : decode b_MO_insert 1 = .ok (.iconst 0, 1) := by decide +kernel
theorem d_MO_insert_2 : decode b_MO_insert 2 = .ok (.putfield 34, 3) := by decide +kernel
theorem d_MO_insert_5 : decode b_MO_insert 5 = .ok (.aload_n 0, 1) := by decide +kernel
theorem d_MO_insert_6 : decode b_MO_insert 6 = .ok (.iload_n 1, 1) := by decide +kernel
theorem d_MO_insert_7 : decode b_MO_insert 7 = .ok (.iload_n 2, 1) := by decide +kernel
theorem d_MO_insert_8 : decode b_MO_insert 8 = .ok (.iload_n 3, 1) := by decide +kernel
theorem d_MO_insert_9 : decode b_MO_insert 9 = .ok (.iload 4, 2) := by decide +kernel
theorem d_MO_insert_11 : decode b_MO_insert 11 = .ok (.invokevirtual 37, 3) := by decide +kernel
theorem d_MO_insert_14 : decode b_MO_insert 14 = .ok (.ireturn, 1) := by decide +kernel
theorem d_MO_insert_15 : decode b_MO_insert 15 = .ok (.astore 5, 2) := by decide +kernel
theorem d_MO_insert_17 : decode b_MO_insert 17 = .ok (.aload_n 0, 1) := by decide +kernel
theorem d_MO_insert_18 : decode b_MO_insert 18 = .ok (.iconst 1, 1) := by decide +kernel
theorem d_MO_insert_19 : decode b_MO_insert 19 = .ok (.putfield 34, 3) := by decide +kernel
theorem d_MO_insert_22 : decode b_MO_insert 22 = .ok (.goto 10, 3) := by decide +kernel
theorem d_MO_insert_25 : decode b_MO_insert 25 = .ok (.astore 5, 2) := by decide +kernel
theorem d_MO_insert_27 : decode b_MO_insert 27 = .ok (.aload_n 0, 1) := by decide +kernel
theorem d_MO_insert_28 : decode b_MO_insert 28 = .ok (.iconst 2, 1) := by decide +kernel
theorem d_MO_insert_29 : decode b_MO_insert 29 = .ok (.putfield 34, 3) := by decide +kernel
theorem d_MO_insert_32 : decode b_MO_insert 32 = .ok (.iconst 0, 1) := by decide +kernel
theorem d_MO_insert_33 : decode b_MO_insert 33 = .ok (.ireturn, 1) := by decide +kernel
theorem d_MO_delete_0 : decode b_MO_delete 0 = .ok (.aload_n 0, 1) := by decide +kernel
theorem d_MO_delete_1 : decode b_MO_delete 1 = .ok (.iconst 0, 1) := by decide +kernel
theorem d_MO_delete_2 : decode b_MO_delete 2 = .ok (.putfield 34, 3) := by decide +kernel
theorem d_MO_delete_5 : decode b_MO_delete 5 = .ok (.aload_n 0, 1) := by decide +kernel
theorem d_MO_delete_6 : decode b_MO_delete 6 = .ok (.iload_n 1, 1) := by decide +kernel
theorem d_MO_delete_7 : decode b_MO_delete 7 = .ok (.iload_n 2, 1) := by decide +kernel
theorem d_MO_delete_8 : decode b_MO_delete 8 = .ok (.invokevirtual 41, 3) := by decide +kernel
theorem d_MO_delete_11 : decode b_MO_delete 11 = .ok (.ireturn, 1) := by decide +kernel
theorem d_MO_delete_12 : decode b_MO_delete 12 = .ok (.astore_n 3, 1) := by decide +kernel
theorem d_MO_delete_13 : decode b_MO_delete 13 = .ok (.aload_n 0, 1) := by decide +kernel
theorem d_MO_delete_14 : decode b_MO_delete 14 = .ok (.iconst 1, 1) := by decide +kernel
theorem d_MO_delete_15 : decode b_MO_delete 15 = .ok (.putfield 34, 3) := by decide +kernel
theorem d_MO_delete_18 : decode b_MO_delete 18 = .ok (.iconst 0, 1) := by decide +kernel
theorem d_MO_delete_19 : decode b_MO_delete 19 = .ok (.ireturn, 1) := by decide +kernel
theorem d_MO_get_0 : decode b_MO_get 0 = .ok (.aload_n 0, 1) := by decide +kernel
theorem d_MO_get_1 : decode b_MO_get 1 = .ok (.iconst 0, 1) := by decide +kernel
theorem d_MO_get_2 : decode b_MO_get 2 = .ok (.putfield 34, 3) := by decide +kernel
theorem d_MO_get_5 : decode b_MO_get 5 = .ok (.aload_n 0, 1) := by decide +kernel
theorem d_MO_get_6 : decode b_MO_get 6 = .ok (.iload_n 1, 1) := by decide +kernel
theorem d_MO_get_7 : decode b_MO_get 7 = .ok (.invokevirtual 45, 3) := by decide +kernel
theorem d_MO_get_10 : decode b_MO_get 10 = .ok (.ireturn, 1) := by decide +kernel
theorem d_MO_get_11 : decode b_MO_get 11 = .ok (.astore_n 2, 1) := by decide +kernel
theorem d_MO_get_12 : decode b_MO_get 12 = .ok (.aload_n 0, 1) := by decide +kernel
theorem d_MO_get_13 : decode b_MO_get 13 = .ok (.iconst 1, 1) := by decide +kernel
theorem d_MO_get_14 : decode b_MO_get 14 = .ok (.putfield 34, 3) := by decide +kernel
theorem d_MO_get_17 : decode b_MO_get 17 = .ok (.iconst 0, 1) := by decide +kernel
theorem d_MO_get_18 : decode b_MO_get 18 = .ok (.ireturn, 1) := by decide +kernel
theorem d_MO_length_0 : decode b_MO_length 0 = .ok (.aload_n 0, 1) := by decide +kernel
theorem d_MO_length_1 : decode b_MO_length 1 = .ok (.iconst 0, 1) := by decide +kernel
theorem d_MO_length_2 : decode b_MO_length 2 = .ok (.putfield 34, 3) := by decide +kernel
theorem d_MO_length_5 : decode b_MO_length 5 = .ok (.aload_n 0, 1) := by decide +kernel
theorem d_MO_length_6 : decode b_MO_length 6 = .ok (.invokevirtual 48, 3) := by decide +kernel
theorem d_MO_length_9 : decode b_MO_length 9 = .ok (.ireturn, 1) := by decide +kernel
theorem d_MO_lines_0 : decode b_MO_lines 0 = .ok (.aload_n 0, 1) := by decide +kernel
theorem d_MO_lines_1 : decode b_MO_lines 1 = .ok (.iconst 0, 1) := by decide +kernel
theorem d_MO_lines_2 : decode b_MO_lines 2 = .ok (.putfield 34, 3) := by decide +kernel
theorem d_MO_lines_5 : decode b_MO_lines 5 = .ok (.aload_n 0, 1) := by decide +kernel
theorem d_MO_lines_6 : decode b_MO_lines 6 = .ok (.invokevirtual 52, 3) := by decide +kernel
theorem d_MO_lines_9 : decode b_MO_lines 9 = .ok (.ireturn, 1) := by decide +kernel
theorem d_MO_line_0 : decode b_MO_line 0 = .ok (.aload_n 0, 1) := by decide +kernel
theorem d_MO_line_1 : decode b_MO_line 1 = .ok (.iconst 0, 1) := by decide +kernel
theorem d_MO_line_2 : decode b_MO_line 2 = .ok (.putfield 34, 3) := by decide +kernel
theorem d_MO_line_5 : decode b_MO_line 5 = .ok (.aload_n 0, 1) := by decide +kernel
theorem d_MO_line_6 : decode b_MO_line 6 = .ok (.iload_n 1, 1) := by decide +kernel
theorem d_MO_line_7 : decode b_MO_line 7 = .ok (.invokevirtual 55, 3) := by decide +kernel
theorem d_MO_line_10 : decode b_MO_line 10 = .ok (.ireturn, 1) := by decide +kernel
theorem d_MO_line_11 : decode b_MO_line 11 = .ok (.astore_n 2, 1) := by decide +kernel
theorem d_MO_line_12 : decode b_MO_line 12 = .ok (.aload_n 0, 1) := by decide +kernel
theorem d_MO_line_13 : decode b_MO_line 13 = .ok (.iconst 1, 1) := by decide +kernel
theorem d_MO_line_14 : decode b_MO_line 14 = .ok (.putfield 34, 3) := by decide +kernel
theorem d_MO_line_17 : decode b_MO_line 17 = .ok (.iconst 0, 1) := by decide +kernel
theorem d_MO_line_18 : decode b_MO_line 18 = .ok (.ireturn, 1) := by decide +kernel
theorem d_MO_lineOf_0 : decode b_MO_lineOf 0 = .ok (.aload_n 0, 1) := by decide +kernel
theorem d_MO_lineOf_1 : decode b_MO_lineOf 1 = .ok (.iconst 0, 1) := by decide +kernel
theorem d_MO_lineOf_2 : decode b_MO_lineOf 2 = .ok (.putfield 34, 3) := by decide +kernel
theorem d_MO_lineOf_5 : decode b_MO_lineOf 5 = .ok (.aload_n 0, 1) := by decide +kernel
theorem d_MO_lineOf_6 : decode b_MO_lineOf 6 = .ok (.iload_n 1, 1) := by decide +kernel
theorem d_MO_lineOf_7 : decode b_MO_lineOf 7 = .ok (.invokevirtual 58, 3) := by decide +kernel
theorem d_MO_lineOf_10 : decode b_MO_lineOf 10 = .ok (.ireturn, 1) := by decide +kernel
theorem d_MO_lineOf_11 : decode b_MO_lineOf 11 = .ok (.astore_n 2, 1) := by decide +kernel
theorem d_MO_lineOf_12 : decode b_MO_lineOf 12 = .ok (.aload_n 0, 1) := by decide +kernel
theorem d_MO_lineOf_13 : decode b_MO_lineOf 13 = .ok (.iconst 1, 1) := by decide +kernel
theorem d_MO_lineOf_14 : decode b_MO_lineOf 14 = .ok (.putfield 34, 3) := by decide +kernel
theorem d_MO_lineOf_17 : decode b_MO_lineOf 17 = .ok (.iconst 0, 1) := by decide +kernel
theorem d_MO_lineOf_18 : decode b_MO_lineOf 18 = .ok (.ireturn, 1) := by decide +kernel
theorem d_MO_digest_0 : decode b_MO_digest 0 = .ok (.aload_n 0, 1) := by decide +kernel
theorem d_MO_digest_1 : decode b_MO_digest 1 = .ok (.iconst 0, 1) := by decide +kernel
theorem d_MO_digest_2 : decode b_MO_digest 2 = .ok (.putfield 34, 3) := by decide +kernel
theorem d_MO_digest_5 : decode b_MO_digest 5 = .ok (.aload_n 0, 1) := by decide +kernel
theorem d_MO_digest_6 : decode b_MO_digest 6 = .ok (.invokevirtual 61, 3) := by decide +kernel
theorem d_MO_digest_9 : decode b_MO_digest 9 = .ok (.ireturn, 1) := by decide +kernel
end
section
theorem d_LT_init_0 : decode b_LT_init 0 = .ok (.aload_n 0, 1) := by decide +kernel
theorem d_LT_init_1 : decode b_LT_init 1 = .ok (.invokespecial 1, 3) := by decide +kernel
theorem d_LT_init_4 : decode b_LT_init 4 = .ok (.aload_n 0, 1) := by decide +kernel
theorem d_LT_init_5 : decode b_LT_init 5 = .ok (.iconst 1, 1) := by decide +kernel
theorem d_LT_init_6 : decode b_LT_init 6 = .ok (.putfield 7, 3) := by decide +kernel
theorem d_LT_init_9 : decode b_LT_init 9 = .ok (.aload_n 0, 1) := by decide +kernel
theorem d_LT_init_10 : decode b_LT_init 10 = .ok (.iconst 1, 1) := by decide +kernel
theorem d_LT_init_11 : decode b_LT_init 11 = .ok (.putfield 13, 3) := by decide +kernel
theorem d_LT_init_14 : decode b_LT_init 14 = .ok (.iconst 2, 1) := by decide +kernel
theorem d_LT_init_15 : decode b_LT_init 15 = .ok (.iload_n 1, 1) := by decide +kernel
theorem d_LT_init_16 : decode b_LT_init 16 = .ok (.bipush 64, 2) := by decide +kernel
theorem d_LT_init_18 : decode b_LT_init 18 = .ok (.idiv, 1) := by decide +kernel
theorem d_LT_init_19 : decode b_LT_init 19 = .ok (.imul, 1) := by decide +kernel
theorem d_LT_init_20 : decode b_LT_init 20 = .ok (.iconst 4, 1) := by decide +kernel
theorem d_LT_init_21 : decode b_LT_init 21 = .ok (.iadd, 1) := by decide +kernel
theorem d_LT_init_22 : decode b_LT_init 22 = .ok (.istore_n 2, 1) := by decide +kernel
theorem d_LT_init_23 : decode b_LT_init 23 = .ok (.aload_n 0, 1) := by decide +kernel
theorem d_LT_init_24 : decode b_LT_init 24 = .ok (.sipush 128, 3) := by decide +kernel
theorem d_LT_init_27 : decode b_LT_init 27 = .ok (.iload_n 2, 1) := by decide +kernel
theorem d_LT_init_28 : decode b_LT_init 28 = .ok (.imul, 1) := by decide +kernel
theorem d_LT_init_29 : decode b_LT_init 29 = .ok (.newarray .int, 2) := by decide +kernel
theorem d_LT_init_31 : decode b_LT_init 31 = .ok (.putfield 16, 3) := by decide +kernel
theorem d_LT_init_34 : decode b_LT_init 34 = .ok (.aload_n 0, 1) := by decide +kernel
theorem d_LT_init_35 : decode b_LT_init 35 = .ok (.sipush 128, 3) := by decide +kernel
theorem d_LT_init_38 : decode b_LT_init 38 = .ok (.iload_n 2, 1) := by decide +kernel
theorem d_LT_init_39 : decode b_LT_init 39 = .ok (.imul, 1) := by decide +kernel
theorem d_LT_init_40 : decode b_LT_init 40 = .ok (.newarray .boolean, 2) := by decide +kernel
theorem d_LT_init_42 : decode b_LT_init 42 = .ok (.putfield 20, 3) := by decide +kernel
theorem d_LT_init_45 : decode b_LT_init 45 = .ok (.aload_n 0, 1) := by decide +kernel
theorem d_LT_init_46 : decode b_LT_init 46 = .ok (.iload_n 2, 1) := by decide +kernel
theorem d_LT_init_47 : decode b_LT_init 47 = .ok (.newarray .int, 2) := by decide +kernel
theorem d_LT_init_49 : decode b_LT_init 49 = .ok (.putfield 24, 3) := by decide +kernel
theorem d_LT_init_52 : decode b_LT_init 52 = .ok (.aload_n 0, 1) := by decide +kernel
theorem d_LT_init_53 : decode b_LT_init 53 = .ok (.iload_n 2, 1) := by decide +kernel
theorem d_LT_init_54 : decode b_LT_init 54 = .ok (.newarray .int, 2) := by decide +kernel
theorem d_LT_init_56 : decode b_LT_init 56 = .ok (.putfield 27, 3) := by decide +kernel
theorem d_LT_init_59 : decode b_LT_init 59 = .ok (.aload_n 0, 1) := by decide +kernel
theorem d_LT_init_60 : decode b_LT_init 60 = .ok (.iload_n 2, 1) := by decide +kernel
theorem d_LT_init_61 : decode b_LT_init 61 = .ok (.newarray .int, 2) := by decide +kernel
theorem d_LT_init_63 : decode b_LT_init 63 = .ok (.putfield 30, 3) := by decide +kernel
theorem d_LT_init_66 : decode b_LT_init 66 = .ok (.aload_n 0, 1) := by decide +kernel
theorem d_LT_init_67 : decode b_LT_init 67 = .ok (.iload_n 2, 1) := by decide +kernel
theorem d_LT_init_68 : decode b_LT_init 68 = .ok (.newarray .int, 2) := by decide +kernel
theorem d_LT_init_70 : decode b_LT_init 70 = .ok (.putfield 33, 3) := by decide +kernel
theorem d_LT_init_73 : decode b_LT_init 73 = .ok (.return_, 1) := by decide +kernel
theorem d_LT_seek_0 : decode b_LT_seek 0 = .ok (.aload_n 0, 1) := by decide +kernel
theorem d_LT_seek_1 : decode b_LT_seek 1 = .ok (.iconst 0, 1) := by decide +kernel
theorem d_LT_seek_2 : decode b_LT_seek 2 = .ok (.putfield 36, 3) := by decide +kernel
theorem d_LT_seek_5 : decode b_LT_seek 5 = .ok (.aload_n 0, 1) := by decide +kernel
theorem d_LT_seek_6 : decode b_LT_seek 6 = .ok (.iload_n 1, 1) := by decide +kernel
theorem d_LT_seek_7 : decode b_LT_seek 7 = .ok (.putfield 39, 3) := by decide +kernel
theorem d_LT_seek_10 : decode b_LT_seek 10 = .ok (.aload_n 0, 1) := by decide +kernel
theorem d_LT_seek_11 : decode b_LT_seek 11 = .ok (.getfield 36, 3) := by decide +kernel
theorem d_LT_seek_14 : decode b_LT_seek 14 = .ok (.aload_n 0, 1) := by decide +kernel
theorem d_LT_seek_15 : decode b_LT_seek 15 = .ok (.getfield 13, 3) := by decide +kernel
theorem d_LT_seek_18 : decode b_LT_seek 18 = .ok (.iconst 1, 1) := by decide +kernel
theorem d_LT_seek_19 : decode b_LT_seek 19 = .ok (.isub, 1) := by decide +kernel
theorem d_LT_seek_20 : decode b_LT_seek 20 = .ok (.if_icmp .ge 85, 3) := by decide +kernel
theorem d_LT_seek_23 : decode b_LT_seek 23 = .ok (.aload_n 0, 1) := by decide +kernel
theorem d_LT_seek_24 : decode b_LT_seek 24 = .ok (.getfield 39, 3) := by decide +kernel
theorem d_LT_seek_27 : decode b_LT_seek 27 = .ok (.aload_n 0, 1) := by decide +kernel
theorem d_LT_seek_28 : decode b_LT_seek 28 = .ok (.getfield 24, 3) := by decide +kernel
theorem d_LT_seek_31 : decode b_LT_seek 31 = .ok (.aload_n 0, 1) := by decide +kernel
theorem d_LT_seek_32 : decode b_LT_seek 32 = .ok (.getfield 30, 3) := by decide +kernel
theorem d_LT_seek_35 : decode b_LT_seek 35 = .ok (.aload_n 0, 1) := by decide +kernel
theorem d_LT_seek_36 : decode b_LT_seek 36 = .ok (.getfield 36, 3) := by decide +kernel
theorem d_LT_seek_39 : decode b_LT_seek 39 = .ok (.iaload, 1) := by decide +kernel
theorem d_LT_seek_40 : decode b_LT_seek 40 = .ok (.iaload, 1) := by decide +kernel
theorem d_LT_seek_41 : decode b_LT_seek 41 = .ok (.if_icmp .gt 28, 3) := by decide +kernel
theorem d_LT_seek_44 : decode b_LT_seek 44 = .ok (.aload_n 0, 1) := by decide +kernel
theorem d_LT_seek_45 : decode b_LT_seek 45 = .ok (.getfield 39, 3) := by decide +kernel
theorem d_LT_seek_48 : decode b_LT_seek 48 = .ok (.aload_n 0, 1) := by decide +kernel
theorem d_LT_seek_49 : decode b_LT_seek 49 = .ok (.getfield 24, 3) := by decide +kernel
theorem d_LT_seek_52 : decode b_LT_seek 52 = .ok (.aload_n 0, 1) := by decide +kernel
theorem d_LT_seek_53 : decode b_LT_seek 53 = .ok (.getfield 30, 3) := by decide +kernel
theorem d_LT_seek_56 : decode b_LT_seek 56 = .ok (.aload_n 0, 1) := by decide +kernel
theorem d_LT_seek_57 : decode b_LT_seek 57 = .ok (.getfield 36, 3) := by decide +kernel
theorem d_LT_seek_60 : decode b_LT_seek 60 = .ok (.iaload, 1) := by decide +kernel
theorem d_LT_seek_61 : decode b_LT_seek 61 = .ok (.iaload, 1) := by decide +kernel
theorem d_LT_seek_62 : decode b_LT_seek 62 = .ok (.if_icmp .ne 43, 3) := by decide +kernel
theorem d_LT_seek_65 : decode b_LT_seek 65 = .ok (.iload_n 2, 1) := by decide +kernel
theorem d_LT_seek_66 : decode b_LT_seek 66 = .ok (.ifCond .ne 39, 3) := by decide +kernel
theorem d_LT_seek_69 : decode b_LT_seek 69 = .ok (.aload_n 0, 1) := by decide +kernel
theorem d_LT_seek_70 : decode b_LT_seek 70 = .ok (.dup, 1) := by decide +kernel
theorem d_LT_seek_71 : decode b_LT_seek 71 = .ok (.getfield 39, 3) := by decide +kernel
theorem d_LT_seek_74 : decode b_LT_seek 74 = .ok (.aload_n 0, 1) := by decide +kernel
theorem d_LT_seek_75 : decode b_LT_seek 75 = .ok (.getfield 24, 3) := by decide +kernel
theorem d_LT_seek_78 : decode b_LT_seek 78 = .ok (.aload_n 0, 1) := by decide +kernel
theorem d_LT_seek_79 : decode b_LT_seek 79 = .ok (.getfield 30, 3) := by decide +kernel
theorem d_LT_seek_82 : decode b_LT_seek 82 = .ok (.aload_n 0, 1) := by decide +kernel
theorem d_LT_seek_83 : decode b_LT_seek 83 = .ok (.getfield 36, 3) := by decide +kernel
theorem d_LT_seek_86 : decode b_LT_seek 86 = .ok (.iaload, 1) := by decide +kernel
theorem d_LT_seek_87 : decode b_LT_seek 87 = .ok (.iaload, 1) := by decide +kernel
theorem d_LT_seek_88 : decode b_LT_seek 88 = .ok (.isub, 1) := by decide +kernel
theorem d_LT_seek_89 : decode b_LT_seek 89 = .ok (.putfield 39, 3) := by decide +kernel
theorem d_LT_seek_92 : decode b_LT_seek 92 = .ok (.aload_n 0, 1) := by decide +kernel
theorem d_LT_seek_93 : decode b_LT_seek 93 = .ok (.dup, 1) := by decide +kernel
theorem d_LT_seek_94 : decode b_LT_seek 94 = .ok (.getfield 36, 3) := by decide +kernel
theorem d_LT_seek_97 : decode b_LT_seek 97 = .ok (.iconst 1, 1) := by decide +kernel
theorem d_LT_seek_98 : decode b_LT_seek 98 = .ok (.iadd, 1) := by decide +kernel
theorem d_LT_seek_99 : decode b_LT_seek 99 = .ok (.putfield 36, 3) := by decide +kernel
theorem d_LT_seek_102 : decode b_LT_seek 102 = .ok (.goto (-92), 3) := by decide +kernel
theorem d_LT_seek_105 : decode b_LT_seek 105 = .ok (.return_, 1) := by decide +kernel
theorem d_LT_split_0 : decode b_LT_split 0 = .ok (.aload_n 0, 1) := by decide +kernel
theorem d_LT_split_1 : decode b_LT_split 1 = .ok (.getfield 30, 3) := by decide +kernel
theorem d_LT_split_4 : decode b_LT_split 4 = .ok (.iload_n 1, 1) := by decide +kernel
theorem d_LT_split_5 : decode b_LT_split 5 = .ok (.iaload, 1) := by decide +kernel
theorem d_LT_split_6 : decode b_LT_split 6 = .ok (.istore_n 2, 1) := by decide +kernel
theorem d_LT_split_7 : decode b_LT_split 7 = .ok (.aload_n 0, 1) := by decide +kernel
theorem d_LT_split_8 : decode b_LT_split 8 = .ok (.getfield 7, 3) := by decide +kernel
theorem d_LT_split_11 : decode b_LT_split 11 = .ok (.istore_n 3, 1) := by decide +kernel
theorem d_LT_split_12 : decode b_LT_split 12 = .ok (.aload_n 0, 1) := by decide +kernel
theorem d_LT_split_13 : decode b_LT_split 13 = .ok (.getfield 42, 3) := by decide +kernel
theorem d_LT_split_16 : decode b_LT_split 16 = .ok (.ifCond .le 26, 3) := by decide +kernel
theorem d_LT_split_19 : decode b_LT_split 19 = .ok (.aload_n 0, 1) := by decide +kernel
theorem d_LT_split_20 : decode b_LT_split 20 = .ok (.dup, 1) := by decide +kernel
theorem d_LT_split_21 : decode b_LT_split 21 = .ok (.getfield 42, 3) := by decide +kernel
theorem d_LT_split_24 : decode b_LT_split 24 = .ok (.iconst 1, 1) := by decide +kernel
theorem d_LT_split_25 : decode b_LT_split 25 = .ok (.isub, 1) := by decide +kernel
theorem d_LT_split_26 : decode b_LT_split 26 = .ok (.putfield 42, 3) := by decide +kernel
theorem d_LT_split_29 : decode b_LT_split 29 = .ok (.aload_n 0, 1) := by decide +kernel
theorem d_LT_split_30 : decode b_LT_split 30 = .ok (.getfield 33, 3) := by decide +kernel
theorem d_LT_split_33 : decode b_LT_split 33 = .ok (.aload_n 0, 1) := by decide +kernel
theorem d_LT_split_34 : decode b_LT_split 34 = .ok (.getfield 42, 3) := by decide +kernel
theorem d_LT_split_37 : decode b_LT_split 37 = .ok (.iaload, 1) := by decide +kernel
theorem d_LT_split_38 : decode b_LT_split 38 = .ok (.istore_n 3, 1) := by decide +kernel
theorem d_LT_split_39 : decode b_LT_split 39 = .ok (.goto 13, 3) := by decide +kernel
theorem d_LT_split_42 : decode b_LT_split 42 = .ok (.aload_n 0, 1) := by decide +kernel
theorem d_LT_split_43 : decode b_LT_split 43 = .ok (.dup, 1) := by decide +kernel
theorem d_LT_split_44 : decode b_LT_split 44 = .ok (.getfield 7, 3) := by decide +kernel
theorem d_LT_split_47 : decode b_LT_split 47 = .ok (.iconst 1, 1) := by decide +kernel
theorem d_LT_split_48 : decode b_LT_split 48 = .ok (.iadd, 1) := by decide +kernel
theorem d_LT_split_49 : decode b_LT_split 49 = .ok (.putfield 7, 3) := by decide +kernel
theorem d_LT_split_52 : decode b_LT_split 52 = .ok (.aload_n 0, 1) := by decide +kernel
theorem d_LT_split_53 : decode b_LT_split 53 = .ok (.getfield 24, 3) := by decide +kernel
theorem d_LT_split_56 : decode b_LT_split 56 = .ok (.iload_n 3, 1) := by decide +kernel
theorem d_LT_split_57 : decode b_LT_split 57 = .ok (.iconst 0, 1) := by decide +kernel
theorem d_LT_split_58 : decode b_LT_split 58 = .ok (.iastore, 1) := by decide +kernel
theorem d_LT_split_59 : decode b_LT_split 59 = .ok (.aload_n 0, 1) := by decide +kernel
theorem d_LT_split_60 : decode b_LT_split 60 = .ok (.getfield 27, 3) := by decide +kernel
theorem d_LT_split_63 : decode b_LT_split 63 = .ok (.iload_n 3, 1) := by decide +kernel
theorem d_LT_split_64 : decode b_LT_split 64 = .ok (.iconst 0, 1) := by decide +kernel
theorem d_LT_split_65 : decode b_LT_split 65 = .ok (.iastore, 1) := by decide +kernel
theorem d_LT_split_66 : decode b_LT_split 66 = .ok (.bipush 64, 2) := by decide +kernel
theorem d_LT_split_68 : decode b_LT_split 68 = .ok (.istore 4, 2) := by decide +kernel
theorem d_LT_split_70 : decode b_LT_split 70 = .ok (.iload 4, 2) := by decide +kernel
theorem d_LT_split_72 : decode b_LT_split 72 = .ok (.sipush 128, 3) := by decide +kernel
theorem d_LT_split_75 : decode b_LT_split 75 = .ok (.if_icmp .ge 105, 3) := by decide +kernel
theorem d_LT_split_78 : decode b_LT_split 78 = .ok (.aload_n 0, 1) := by decide +kernel
theorem d_LT_split_79 : decode b_LT_split 79 = .ok (.getfield 16, 3) := by decide +kernel
theorem d_LT_split_82 : decode b_LT_split 82 = .ok (.sipush 128, 3) := by decide +kernel
theorem d_LT_split_85 : decode b_LT_split 85 = .ok (.iload_n 3, 1) := by decide +kernel
theorem d_LT_split_86 : decode b_LT_split 86 = .ok (.imul, 1) := by decide +kernel
theorem d_LT_split_87 : decode b_LT_split 87 = .ok (.aload_n 0, 1) := by decide +kernel
theorem d_LT_split_88 : decode b_LT_split 88 = .ok (.getfield 24, 3) := by decide +kernel
theorem d_LT_split_91 : decode b_LT_split 91 = .ok (.iload_n 3, 1) := by decide +kernel
theorem d_LT_split_92 : decode b_LT_split 92 = .ok (.iaload, 1) := by decide +kernel
theorem d_LT_split_93 : decode b_LT_split 93 = .ok (.iadd, 1) := by decide +kernel
theorem d_LT_split_94 : decode b_LT_split 94 = .ok (.aload_n 0, 1) := by decide +kernel
theorem d_LT_split_95 : decode b_LT_split 95 = .ok (.getfield 16, 3) := by decide +kernel
theorem d_LT_split_98 : decode b_LT_split 98 = .ok (.sipush 128, 3) := by decide +kernel
theorem d_LT_split_101 : decode b_LT_split 101 = .ok (.iload_n 2, 1) := by decide +kernel
theorem d_LT_split_102 : decode b_LT_split 102 = .ok (.imul, 1) := by decide +kernel
theorem d_LT_split_103 : decode b_LT_split 103 = .ok (.iload 4, 2) := by decide +kernel
theorem d_LT_split_105 : decode b_LT_split 105 = .ok (.iadd, 1) := by decide +kernel
theorem d_LT_split_106 : decode b_LT_split 106 = .ok (.iaload, 1) := by decide +kernel
theorem d_LT_split_107 : decode b_LT_split 107 = .ok (.iastore, 1) := by decide +kernel
theorem d_LT_split_108 : decode b_LT_split 108 = .ok (.aload_n 0, 1) := by decide +kernel
theorem d_LT_split_109 : decode b_LT_split 109 = .ok (.getfield 20, 3) := by decide +kernel
theorem d_LT_split_112 : decode b_LT_split 112 = .ok (.sipush 128, 3) := by decide +kernel
theorem d_LT_split_115 : decode b_LT_split 115 = .ok (.iload_n 3, 1) := by decide +kernel
theorem d_LT_split_116 : decode b_LT_split 116 = .ok (.imul, 1) := by decide +kernel
theorem d_LT_split_117 : decode b_LT_split 117 = .ok (.aload_n 0, 1) := by decide +kernel
theorem d_LT_split_118 : decode b_LT_split 118 = .ok (.getfield 24, 3) := by decide +kernel
theorem d_LT_split_121 : decode b_LT_split 121 = .ok (.iload_n 3, 1) := by decide +kernel
theorem d_LT_split_122 : decode b_LT_split 122 = .ok (.iaload, 1) := by decide +kernel
theorem d_LT_split_123 : decode b_LT_split 123 = .ok (.iadd, 1) := by decide +kernel
theorem d_LT_split_124 : decode b_LT_split 124 = .ok (.aload_n 0, 1) := by decide +kernel
theorem d_LT_split_125 : decode b_LT_split 125 = .ok (.getfield 20, 3) := by decide +kernel
theorem d_LT_split_128 : decode b_LT_split 128 = .ok (.sipush 128, 3) := by decide +kernel
theorem d_LT_split_131 : decode b_LT_split 131 = .ok (.iload_n 2, 1) := by decide +kernel
theorem d_LT_split_132 : decode b_LT_split 132 = .ok (.imul, 1) := by decide +kernel
theorem d_LT_split_133 : decode b_LT_split 133 = .ok (.iload 4, 2) := by decide +kernel
theorem d_LT_split_135 : decode b_LT_split 135 = .ok (.iadd, 1) := by decide +kernel
theorem d_LT_split_136 : decode b_LT_split 136 = .ok (.baload, 1) := by decide +kernel
theorem d_LT_split_137 : decode b_LT_split 137 = .ok (.bastore, 1) := by decide +kernel
theorem d_LT_split_138 : decode b_LT_split 138 = .ok (.aload_n 0, 1) := by decide +kernel
theorem d_LT_split_139 : decode b_LT_split 139 = .ok (.getfield 20, 3) := by decide +kernel
theorem d_LT_split_142 : decode b_LT_split 142 = .ok (.sipush 128, 3) := by decide +kernel
theorem d_LT_split_145 : decode b_LT_split 145 = .ok (.iload_n 2, 1) := by decide +kernel
theorem d_LT_split_146 : decode b_LT_split 146 = .ok (.imul, 1) := by decide +kernel
theorem d_LT_split_147 : decode b_LT_split 147 = .ok (.iload 4, 2) := by decide +kernel
theorem d_LT_split_149 : decode b_LT_split 149 = .ok (.iadd, 1) := by decide +kernel
theorem d_LT_split_150 : decode b_LT_split 150 = .ok (.baload, 1) := by decide +kernel
theorem d_LT_split_151 : decode b_LT_split 151 = .ok (.ifCond .eq 13, 3) := by decide +kernel
theorem d_LT_split_154 : decode b_LT_split 154 = .ok (.aload_n 0, 1) := by decide +kernel
theorem d_LT_split_155 : decode b_LT_split 155 = .ok (.getfield 27, 3) := by decide +kernel
theorem d_LT_split_158 : decode b_LT_split 158 = .ok (.iload_n 3, 1) := by decide +kernel
theorem d_LT_split_159 : decode b_LT_split 159 = .ok (.dup2, 1) := by decide +kernel
theorem d_LT_split_160 : decode b_LT_split 160 = .ok (.iaload, 1) := by decide +kernel
theorem d_LT_split_161 : decode b_LT_split 161 = .ok (.iconst 1, 1) := by decide +kernel
theorem d_LT_split_162 : decode b_LT_split 162 = .ok (.iadd, 1) := by decide +kernel
theorem d_LT_split_163 : decode b_LT_split 163 = .ok (.iastore, 1) := by decide +kernel
theorem d_LT_split_164 : decode b_LT_split 164 = .ok (.aload_n 0, 1) := by decide +kernel
theorem d_LT_split_165 : decode b_LT_split 165 = .ok (.getfield 24, 3) := by decide +kernel
theorem d_LT_split_168 : decode b_LT_split 168 = .ok (.iload_n 3, 1) := by decide +kernel
theorem d_LT_split_169 : decode b_LT_split 169 = .ok (.dup2, 1) := by decide +kernel
theorem d_LT_split_170 : decode b_LT_split 170 = .ok (.iaload, 1) := by decide +kernel
theorem d_LT_split_171 : decode b_LT_split 171 = .ok (.iconst 1, 1) := by decide +kernel
theorem d_LT_split_172 : decode b_LT_split 172 = .ok (.iadd, 1) := by decide +kernel
theorem d_LT_split_173 : decode b_LT_split 173 = .ok (.iastore, 1) := by decide +kernel
theorem d_LT_split_174 : decode b_LT_split 174 = .ok (.iinc 4 1, 3) := by decide +kernel
theorem d_LT_split_177 : decode b_LT_split 177 = .ok (.goto (-107), 3) := by decide +kernel
theorem d_LT_split_180 : decode b_LT_split 180 = .ok (.aload_n 0, 1) := by decide +kernel
theorem d_LT_split_181 : decode b_LT_split 181 = .ok (.getfield 24, 3) := by decide +kernel
theorem d_LT_split_184 : decode b_LT_split 184 = .ok (.iload_n 2, 1) := by decide +kernel
theorem d_LT_split_185 : decode b_LT_split 185 = .ok (.bipush 64, 2) := by decide +kernel
theorem d_LT_split_187 : decode b_LT_split 187 = .ok (.iastore, 1) := by decide +kernel
theorem d_LT_split_188 : decode b_LT_split 188 = .ok (.aload_n 0, 1) := by decide +kernel
theorem d_LT_split_189 : decode b_LT_split 189 = .ok (.getfield 27, 3) := by decide +kernel
theorem d_LT_split_192 : decode b_LT_split 192 = .ok (.iload_n 2, 1) := by decide +kernel
theorem d_LT_split_193 : decode b_LT_split 193 = .ok (.dup2, 1) := by decide +kernel
theorem d_LT_split_194 : decode b_LT_split 194 = .ok (.iaload, 1) := by decide +kernel
theorem d_LT_split_195 : decode b_LT_split 195 = .ok (.aload_n 0, 1) := by decide +kernel
theorem d_LT_split_196 : decode b_LT_split 196 = .ok (.getfield 27, 3) := by decide +kernel
theorem d_LT_split_199 : decode b_LT_split 199 = .ok (.iload_n 3, 1) := by decide +kernel
theorem d_LT_split_200 : decode b_LT_split 200 = .ok (.iaload, 1) := by decide +kernel
theorem d_LT_split_201 : decode b_LT_split 201 = .ok (.isub, 1) := by decide +kernel
theorem d_LT_split_202 : decode b_LT_split 202 = .ok (.iastore, 1) := by decide +kernel
theorem d_LT_split_203 : decode b_LT_split 203 = .ok (.aload_n 0, 1) := by decide +kernel
theorem d_LT_split_204 : decode b_LT_split 204 = .ok (.getfield 13, 3) := by decide +kernel
theorem d_LT_split_207 : decode b_LT_split 207 = .ok (.istore 4, 2) := by decide +kernel
theorem d_LT_split_209 : decode b_LT_split 209 = .ok (.iload 4, 2) := by decide +kernel
theorem d_LT_split_211 : decode b_LT_split 211 = .ok (.iload_n 1, 1) := by decide +kernel
theorem d_LT_split_212 : decode b_LT_split 212 = .ok (.iconst 1, 1) := by decide +kernel
theorem d_LT_split_213 : decode b_LT_split 213 = .ok (.iadd, 1) := by decide +kernel
theorem d_LT_split_214 : decode b_LT_split 214 = .ok (.if_icmp .le 25, 3) := by decide +kernel
theorem d_LT_split_217 : decode b_LT_split 217 = .ok (.aload_n 0, 1) := by decide +kernel
theorem d_LT_split_218 : decode b_LT_split 218 = .ok (.getfield 30, 3) := by decide +kernel
theorem d_LT_split_221 : decode b_LT_split 221 = .ok (.iload 4, 2) := by decide +kernel
theorem d_LT_split_223 : decode b_LT_split 223 = .ok (.aload_n 0, 1) := by decide +kernel
theorem d_LT_split_224 : decode b_LT_split 224 = .ok (.getfield 30, 3) := by decide +kernel
theorem d_LT_split_227 : decode b_LT_split 227 = .ok (.iload 4, 2) := by decide +kernel
theorem d_LT_split_229 : decode b_LT_split 229 = .ok (.iconst 1, 1) := by decide +kernel
theorem d_LT_split_230 : decode b_LT_split 230 = .ok (.isub, 1) := by decide +kernel
theorem d_LT_split_231 : decode b_LT_split 231 = .ok (.iaload, 1) := by decide +kernel
theorem d_LT_split_232 : decode b_LT_split 232 = .ok (.iastore, 1) := by decide +kernel
theorem d_LT_split_233 : decode b_LT_split 233 = .ok (.iinc 4 (-1), 3) := by decide +kernel
theorem d_LT_split_236 : decode b_LT_split 236 = .ok (.goto (-27), 3) := by decide +kernel
theorem d_LT_split_239 : decode b_LT_split 239 = .ok (.aload_n 0, 1) := by decide +kernel
theorem d_LT_split_240 : decode b_LT_split 240 = .ok (.getfield 30, 3) := by decide +kernel
theorem d_LT_split_243 : decode b_LT_split 243 = .ok (.iload_n 1, 1) := by decide +kernel
theorem d_LT_split_244 : decode b_LT_split 244 = .ok (.iconst 1, 1) := by decide +kernel
theorem d_LT_split_245 : decode b_LT_split 245 = .ok (.iadd, 1) := by decide +kernel
theorem d_LT_split_246 : decode b_LT_split 246 = .ok (.iload_n 3, 1) := by decide +kernel
theorem d_LT_split_247 : decode b_LT_split 247 = .ok (.iastore, 1) := by decide +kernel
theorem d_LT_split_248 : decode b_LT_split 248 = .ok (.aload_n 0, 1) := by decide +kernel
theorem d_LT_split_249 : decode b_LT_split 249 = .ok (.dup, 1) := by decide +kernel
theorem d_LT_split_250 : decode b_LT_split 250 = .ok (.getfield 13, 3) := by decide +kernel
theorem d_LT_split_253 : decode b_LT_split 253 = .ok (.iconst 1, 1) := by decide +kernel
theorem d_LT_split_254 : decode b_LT_split 254 = .ok (.iadd, 1) := by decide +kernel
theorem d_LT_split_255 : decode b_LT_split 255 = .ok (.putfield 13, 3) := by decide +kernel
theorem d_LT_split_258 : decode b_LT_split 258 = .ok (.return_, 1) := by decide +kernel
theorem d_LT_insert_0 : decode b_LT_insert 0 = .ok (.aload_n 0, 1) := by decide +kernel
theorem d_LT_insert_1 : decode b_LT_insert 1 = .ok (.iload_n 1, 1) := by decide +kernel
theorem d_LT_insert_2 : decode b_LT_insert 2 = .ok (.iconst 1, 1) := by decide +kernel
theorem d_LT_insert_3 : decode b_LT_insert 3 = .ok (.invokevirtual 45, 3) := by decide +kernel
theorem d_LT_insert_6 : decode b_LT_insert 6 = .ok (.aload_n 0, 1) := by decide +kernel
theorem d_LT_insert_7 : decode b_LT_insert 7 = .ok (.getfield 24, 3) := by decide +kernel
theorem d_LT_insert_10 : decode b_LT_insert 10 = .ok (.aload_n 0, 1) := by decide +kernel
theorem d_LT_insert_11 : decode b_LT_insert 11 = .ok (.getfield 30, 3) := by decide +kernel
theorem d_LT_insert_14 : decode b_LT_insert 14 = .ok (.aload_n 0, 1) := by decide +kernel
theorem d_LT_insert_15 : decode b_LT_insert 15 = .ok (.getfield 36, 3) := by decide +kernel
theorem d_LT_insert_18 : decode b_LT_insert 18 = .ok (.iaload, 1) := by decide +kernel
theorem d_LT_insert_19 : decode b_LT_insert 19 = .ok (.iaload, 1) := by decide +kernel
theorem d_LT_insert_20 : decode b_LT_insert 20 = .ok (.sipush 128, 3) := by decide +kernel
theorem d_LT_insert_23 : decode b_LT_insert 23 = .ok (.if_icmp .ne 17, 3) := by decide +kernel
theorem d_LT_insert_26 : decode b_LT_insert 26 = .ok (.aload_n 0, 1) := by decide +kernel
theorem d_LT_insert_27 : decode b_LT_insert 27 = .ok (.aload_n 0, 1) := by decide +kernel
theorem d_LT_insert_28 : decode b_LT_insert 28 = .ok (.getfield 36, 3) := by decide +kernel
theorem d_LT_insert_31 : decode b_LT_insert 31 = .ok (.invokevirtual 49, 3) := by decide +kernel
theorem d_LT_insert_34 : decode b_LT_insert 34 = .ok (.aload_n 0, 1) := by decide +kernel
theorem d_LT_insert_35 : decode b_LT_insert 35 = .ok (.iload_n 1, 1) := by decide +kernel
theorem d_LT_insert_36 : decode b_LT_insert 36 = .ok (.iconst 1, 1) := by decide +kernel
theorem d_LT_insert_37 : decode b_LT_insert 37 = .ok (.invokevirtual 45, 3) := by decide +kernel
theorem d_LT_insert_40 : decode b_LT_insert 40 = .ok (.aload_n 0, 1) := by decide +kernel
theorem d_LT_insert_41 : decode b_LT_insert 41 = .ok (.getfield 30, 3) := by decide +kernel
theorem d_LT_insert_44 : decode b_LT_insert 44 = .ok (.aload_n 0, 1) := by decide +kernel
theorem d_LT_insert_45 : decode b_LT_insert 45 = .ok (.getfield 36, 3) := by decide +kernel
theorem d_LT_insert_48 : decode b_LT_insert 48 = .ok (.iaload, 1) := by decide +kernel
theorem d_LT_insert_49 : decode b_LT_insert 49 = .ok (.istore 4, 2) := by decide +kernel
theorem d_LT_insert_51 : decode b_LT_insert 51 = .ok (.aload_n 0, 1) := by decide +kernel
theorem d_LT_insert_52 : decode b_LT_insert 52 = .ok (.getfield 24, 3) := by decide +kernel
theorem d_LT_insert_55 : decode b_LT_insert 55 = .ok (.iload 4, 2) := by decide +kernel
theorem d_LT_insert_57 : decode b_LT_insert 57 = .ok (.iaload, 1) := by decide +kernel
theorem d_LT_insert_58 : decode b_LT_insert 58 = .ok (.istore 5, 2) := by decide +kernel
theorem d_LT_insert_60 : decode b_LT_insert 60 = .ok (.iload 5, 2) := by decide +kernel
theorem d_LT_insert_62 : decode b_LT_insert 62 = .ok (.aload_n 0, 1) := by decide +kernel
theorem d_LT_insert_63 : decode b_LT_insert 63 = .ok (.getfield 39, 3) := by decide +kernel
theorem d_LT_insert_66 : decode b_LT_insert 66 = .ok (.if_icmp .le 69, 3) := by decide +kernel
theorem d_LT_insert_69 : decode b_LT_insert 69 = .ok (.aload_n 0, 1) := by decide +kernel
theorem d_LT_insert_70 : decode b_LT_insert 70 = .ok (.getfield 16, 3) := by decide +kernel
theorem d_LT_insert_73 : decode b_LT_insert 73 = .ok (.sipush 128, 3) := by decide +kernel
theorem d_LT_insert_76 : decode b_LT_insert 76 = .ok (.iload 4, 2) := by decide +kernel
theorem d_LT_insert_78 : decode b_LT_insert 78 = .ok (.imul, 1) := by decide +kernel
theorem d_LT_insert_79 : decode b_LT_insert 79 = .ok (.iload 5, 2) := by decide +kernel
theorem d_LT_insert_81 : decode b_LT_insert 81 = .ok (.iadd, 1) := by decide +kernel
theorem d_LT_insert_82 : decode b_LT_insert 82 = .ok (.aload_n 0, 1) := by decide +kernel
theorem d_LT_insert_83 : decode b_LT_insert 83 = .ok (.getfield 16, 3) := by decide +kernel
theorem d_LT_insert_86 : decode b_LT_insert 86 = .ok (.sipush 128, 3) := by decide +kernel
theorem d_LT_insert_89 : decode b_LT_insert 89 = .ok (.iload 4, 2) := by decide +kernel
theorem d_LT_insert_91 : decode b_LT_insert 91 = .ok (.imul, 1) := by decide +kernel
theorem d_LT_insert_92 : decode b_LT_insert 92 = .ok (.iload 5, 2) := by decide +kernel
theorem d_LT_insert_94 : decode b_LT_insert 94 = .ok (.iadd, 1) := by decide +kernel
theorem d_LT_insert_95 : decode b_LT_insert 95 = .ok (.iconst 1, 1) := by decide +kernel
theorem d_LT_insert_96 : decode b_LT_insert 96 = .ok (.isub, 1) := by decide +kernel
theorem d_LT_insert_97 : decode b_LT_insert 97 = .ok (.iaload, 1) := by decide +kernel
theorem d_LT_insert_98 : decode b_LT_insert 98 = .ok (.iastore, 1) := by decide +kernel
theorem d_LT_insert_99 : decode b_LT_insert 99 = .ok (.aload_n 0, 1) := by decide +kernel
theorem d_LT_insert_100 : decode b_LT_insert 100 = .ok (.getfield 20, 3) := by decide +kernel
theorem d_LT_insert_103 : decode b_LT_insert 103 = .ok (.sipush 128, 3) := by decide +kernel
theorem d_LT_insert_106 : decode b_LT_insert 106 = .ok (.iload 4, 2) := by decide +kernel
theorem d_LT_insert_108 : decode b_LT_insert 108 = .ok (.imul, 1) := by decide +kernel
theorem d_LT_insert_109 : decode b_LT_insert 109 = .ok (.iload 5, 2) := by decide +kernel
theorem d_LT_insert_111 : decode b_LT_insert 111 = .ok (.iadd, 1) := by decide +kernel
theorem d_LT_insert_112 : decode b_LT_insert 112 = .ok (.aload_n 0, 1) := by decide +kernel
theorem d_LT_insert_113 : decode b_LT_insert 113 = .ok (.getfield 20, 3) := by decide +kernel
theorem d_LT_insert_116 : decode b_LT_insert 116 = .ok (.sipush 128, 3) := by decide +kernel
theorem d_LT_insert_119 : decode b_LT_insert 119 = .ok (.iload 4, 2) := by decide +kernel
theorem d_LT_insert_121 : decode b_LT_insert 121 = .ok (.imul, 1) := by decide +kernel
theorem d_LT_insert_122 : decode b_LT_insert 122 = .ok (.iload 5, 2) := by decide +kernel
theorem d_LT_insert_124 : decode b_LT_insert 124 = .ok (.iadd, 1) := by decide +kernel
theorem d_LT_insert_125 : decode b_LT_insert 125 = .ok (.iconst 1, 1) := by decide +kernel
theorem d_LT_insert_126 : decode b_LT_insert 126 = .ok (.isub, 1) := by decide +kernel
theorem d_LT_insert_127 : decode b_LT_insert 127 = .ok (.baload, 1) := by decide +kernel
theorem d_LT_insert_128 : decode b_LT_insert 128 = .ok (.bastore, 1) := by decide +kernel
theorem d_LT_insert_129 : decode b_LT_insert 129 = .ok (.iinc 5 (-1), 3) := by decide +kernel
theorem d_LT_insert_132 : decode b_LT_insert 132 = .ok (.goto (-72), 3) := by decide +kernel
theorem d_LT_insert_135 : decode b_LT_insert 135 = .ok (.aload_n 0, 1) := by decide +kernel
theorem d_LT_insert_136 : decode b_LT_insert 136 = .ok (.getfield 16, 3) := by decide +kernel
theorem d_LT_insert_139 : decode b_LT_insert 139 = .ok (.sipush 128, 3) := by decide +kernel
theorem d_LT_insert_142 : decode b_LT_insert 142 = .ok (.iload 4, 2) := by decide +kernel
theorem d_LT_insert_144 : decode b_LT_insert 144 = .ok (.imul, 1) := by decide +kernel
theorem d_LT_insert_145 : decode b_LT_insert 145 = .ok (.aload_n 0, 1) := by decide +kernel
theorem d_LT_insert_146 : decode b_LT_insert 146 = .ok (.getfield 39, 3) := by decide +kernel
theorem d_LT_insert_149 : decode b_LT_insert 149 = .ok (.iadd, 1) := by decide +kernel
theorem d_LT_insert_150 : decode b_LT_insert 150 = .ok (.iload_n 2, 1) := by decide +kernel
theorem d_LT_insert_151 : decode b_LT_insert 151 = .ok (.iastore, 1) := by decide +kernel
theorem d_LT_insert_152 : decode b_LT_insert 152 = .ok (.aload_n 0, 1) := by decide +kernel
theorem d_LT_insert_153 : decode b_LT_insert 153 = .ok (.getfield 20, 3) := by decide +kernel
theorem d_LT_insert_156 : decode b_LT_insert 156 = .ok (.sipush 128, 3) := by decide +kernel
theorem d_LT_insert_159 : decode b_LT_insert 159 = .ok (.iload 4, 2) := by decide +kernel
theorem d_LT_insert_161 : decode b_LT_insert 161 = .ok (.imul, 1) := by decide +kernel
theorem d_LT_insert_162 : decode b_LT_insert 162 = .ok (.aload_n 0, 1) := by decide +kernel
theorem d_LT_insert_163 : decode b_LT_insert 163 = .ok (.getfield 39, 3) := by decide +kernel
theorem d_LT_insert_166 : decode b_LT_insert 166 = .ok (.iadd, 1) := by decide +kernel
theorem d_LT_insert_167 : decode b_LT_insert 167 = .ok (.iload_n 3, 1) := by decide +kernel
theorem d_LT_insert_168 : decode b_LT_insert 168 = .ok (.bastore, 1) := by decide +kernel
theorem d_LT_insert_169 : decode b_LT_insert 169 = .ok (.aload_n 0, 1) := by decide +kernel
theorem d_LT_insert_170 : decode b_LT_insert 170 = .ok (.getfield 24, 3) := by decide +kernel
theorem d_LT_insert_173 : decode b_LT_insert 173 = .ok (.iload 4, 2) := by decide +kernel
theorem d_LT_insert_175 : decode b_LT_insert 175 = .ok (.dup2, 1) := by decide +kernel
theorem d_LT_insert_176 : decode b_LT_insert 176 = .ok (.iaload, 1) := by decide +kernel
theorem d_LT_insert_177 : decode b_LT_insert 177 = .ok (.iconst 1, 1) := by decide +kernel
theorem d_LT_insert_178 : decode b_LT_insert 178 = .ok (.iadd, 1) := by decide +kernel
theorem d_LT_insert_179 : decode b_LT_insert 179 = .ok (.iastore, 1) := by decide +kernel
theorem d_LT_insert_180 : decode b_LT_insert 180 = .ok (.aload_n 0, 1) := by decide +kernel
theorem d_LT_insert_181 : decode b_LT_insert 181 = .ok (.dup, 1) := by decide +kernel
theorem d_LT_insert_182 : decode b_LT_insert 182 = .ok (.getfield 53, 3) := by decide +kernel
theorem d_LT_insert_185 : decode b_LT_insert 185 = .ok (.iconst 1, 1) := by decide +kernel
theorem d_LT_insert_186 : decode b_LT_insert 186 = .ok (.iadd, 1) := by decide +kernel
theorem d_LT_insert_187 : decode b_LT_insert 187 = .ok (.putfield 53, 3) := by decide +kernel
theorem d_LT_insert_190 : decode b_LT_insert 190 = .ok (.iload_n 3, 1) := by decide +kernel
theorem d_LT_insert_191 : decode b_LT_insert 191 = .ok (.ifCond .ne 4, 3) := by decide +kernel
theorem d_LT_insert_194 : decode b_LT_insert 194 = .ok (.return_, 1) := by decide +kernel
theorem d_LT_insert_195 : decode b_LT_insert 195 = .ok (.aload_n 0, 1) := by decide +kernel
theorem d_LT_insert_196 : decode b_LT_insert 196 = .ok (.getfield 27, 3) := by decide +kernel
theorem d_LT_insert_199 : decode b_LT_insert 199 = .ok (.iload 4, 2) := by decide +kernel
theorem d_LT_insert_201 : decode b_LT_insert 201 = .ok (.dup2, 1) := by decide +kernel
theorem d_LT_insert_202 : decode b_LT_insert 202 = .ok (.iaload, 1) := by decide +kernel
theorem d_LT_insert_203 : decode b_LT_insert 203 = .ok (.iconst 1, 1) := by decide +kernel
theorem d_LT_insert_204 : decode b_LT_insert 204 = .ok (.iadd, 1) := by decide +kernel
theorem d_LT_insert_205 : decode b_LT_insert 205 = .ok (.iastore, 1) := by decide +kernel
theorem d_LT_insert_206 : decode b_LT_insert 206 = .ok (.aload_n 0, 1) := by decide +kernel
theorem d_LT_insert_207 : decode b_LT_insert 207 = .ok (.dup, 1) := by decide +kernel
theorem d_LT_insert_208 : decode b_LT_insert 208 = .ok (.getfield 56, 3) := by decide +kernel
theorem d_LT_insert_211 : decode b_LT_insert 211 = .ok (.iconst 1, 1) := by decide +kernel
theorem d_LT_insert_212 : decode b_LT_insert 212 = .ok (.iadd, 1) := by decide +kernel
theorem d_LT_insert_213 : decode b_LT_insert 213 = .ok (.putfield 56, 3) := by decide +kernel
theorem d_LT_insert_216 : decode b_LT_insert 216 = .ok (.return_, 1) := by decide +kernel
theorem d_LT_delete_0 : decode b_LT_delete 0 = .ok (.aload_n 0, 1) := by decide +kernel
theorem d_LT_delete_1 : decode b_LT_delete 1 = .ok (.iload_n 1, 1) := by decide +kernel
theorem d_LT_delete_2 : decode b_LT_delete 2 = .ok (.iconst 0, 1) := by decide +kernel
theorem d_LT_delete_3 : decode b_LT_delete 3 = .ok (.invokevirtual 45, 3) := by decide +kernel
theorem d_LT_delete_6 : decode b_LT_delete 6 = .ok (.aload_n 0, 1) := by decide +kernel
theorem d_LT_delete_7 : decode b_LT_delete 7 = .ok (.getfield 30, 3) := by decide +kernel
theorem d_LT_delete_10 : decode b_LT_delete 10 = .ok (.aload_n 0, 1) := by decide +kernel
theorem d_LT_delete_11 : decode b_LT_delete 11 = .ok (.getfield 36, 3) := by decide +kernel
theorem d_LT_delete_14 : decode b_LT_delete 14 = .ok (.iaload, 1) := by decide +kernel
theorem d_LT_delete_15 : decode b_LT_delete 15 = .ok (.istore_n 2, 1) := by decide +kernel
theorem d_LT_delete_16 : decode b_LT_delete 16 = .ok (.aload_n 0, 1) := by decide +kernel
theorem d_LT_delete_17 : decode b_LT_delete 17 = .ok (.getfield 20, 3) := by decide +kernel
theorem d_LT_delete_20 : decode b_LT_delete 20 = .ok (.sipush 128, 3) := by decide +kernel
theorem d_LT_delete_23 : decode b_LT_delete 23 = .ok (.iload_n 2, 1) := by decide +kernel
theorem d_LT_delete_24 : decode b_LT_delete 24 = .ok (.imul, 1) := by decide +kernel
theorem d_LT_delete_25 : decode b_LT_delete 25 = .ok (.aload_n 0, 1) := by decide +kernel
theorem d_LT_delete_26 : decode b_LT_delete 26 = .ok (.getfield 39, 3) := by decide +kernel
theorem d_LT_delete_29 : decode b_LT_delete 29 = .ok (.iadd, 1) := by decide +kernel
theorem d_LT_delete_30 : decode b_LT_delete 30 = .ok (.baload, 1) := by decide +kernel
theorem d_LT_delete_31 : decode b_LT_delete 31 = .ok (.ifCond .eq 23, 3) := by decide +kernel
theorem d_LT_delete_34 : decode b_LT_delete 34 = .ok (.aload_n 0, 1) := by decide +kernel
theorem d_LT_delete_35 : decode b_LT_delete 35 = .ok (.getfield 27, 3) := by decide +kernel
theorem d_LT_delete_38 : decode b_LT_delete 38 = .ok (.iload_n 2, 1) := by decide +kernel
theorem d_LT_delete_39 : decode b_LT_delete 39 = .ok (.dup2, 1) := by decide +kernel
theorem d_LT_delete_40 : decode b_LT_delete 40 = .ok (.iaload, 1) := by decide +kernel
theorem d_LT_delete_41 : decode b_LT_delete 41 = .ok (.iconst 1, 1) := by decide +kernel
theorem d_LT_delete_42 : decode b_LT_delete 42 = .ok (.isub, 1) := by decide +kernel
theorem d_LT_delete_43 : decode b_LT_delete 43 = .ok (.iastore, 1) := by decide +kernel
theorem d_LT_delete_44 : decode b_LT_delete 44 = .ok (.aload_n 0, 1) := by decide +kernel
theorem d_LT_delete_45 : decode b_LT_delete 45 = .ok (.dup, 1) := by decide +kernel
theorem d_LT_delete_46 : decode b_LT_delete 46 = .ok (.getfield 56, 3) := by decide +kernel
theorem d_LT_delete_49 : decode b_LT_delete 49 = .ok (.iconst 1, 1) := by decide +kernel
theorem d_LT_delete_50 : decode b_LT_delete 50 = .ok (.isub, 1) := by decide +kernel
theorem d_LT_delete_51 : decode b_LT_delete 51 = .ok (.putfield 56, 3) := by decide +kernel
theorem d_LT_delete_54 : decode b_LT_delete 54 = .ok (.aload_n 0, 1) := by decide +kernel
theorem d_LT_delete_55 : decode b_LT_delete 55 = .ok (.getfield 24, 3) := by decide +kernel
theorem d_LT_delete_58 : decode b_LT_delete 58 = .ok (.iload_n 2, 1) := by decide +kernel
theorem d_LT_delete_59 : decode b_LT_delete 59 = .ok (.dup2, 1) := by decide +kernel
theorem d_LT_delete_60 : decode b_LT_delete 60 = .ok (.iaload, 1) := by decide +kernel
theorem d_LT_delete_61 : decode b_LT_delete 61 = .ok (.iconst 1, 1) := by decide +kernel
theorem d_LT_delete_62 : decode b_LT_delete 62 = .ok (.isub, 1) := by decide +kernel
theorem d_LT_delete_63 : decode b_LT_delete 63 = .ok (.iastore, 1) := by decide +kernel
theorem d_LT_delete_64 : decode b_LT_delete 64 = .ok (.aload_n 0, 1) := by decide +kernel
theorem d_LT_delete_65 : decode b_LT_delete 65 = .ok (.dup, 1) := by decide +kernel
theorem d_LT_delete_66 : decode b_LT_delete 66 = .ok (.getfield 53, 3) := by decide +kernel
theorem d_LT_delete_69 : decode b_LT_delete 69 = .ok (.iconst 1, 1) := by decide +kernel
theorem d_LT_delete_70 : decode b_LT_delete 70 = .ok (.isub, 1) := by decide +kernel
theorem d_LT_delete_71 : decode b_LT_delete 71 = .ok (.putfield 53, 3) := by decide +kernel
theorem d_LT_delete_74 : decode b_LT_delete 74 = .ok (.aload_n 0, 1) := by decide +kernel
theorem d_LT_delete_75 : decode b_LT_delete 75 = .ok (.getfield 39, 3) := by decide +kernel
theorem d_LT_delete_78 : decode b_LT_delete 78 = .ok (.istore_n 3, 1) := by decide +kernel
theorem d_LT_delete_79 : decode b_LT_delete 79 = .ok (.iload_n 3, 1) := by decide +kernel
theorem d_LT_delete_80 : decode b_LT_delete 80 = .ok (.aload_n 0, 1) := by decide +kernel
theorem d_LT_delete_81 : decode b_LT_delete 81 = .ok (.getfield 24, 3) := by decide +kernel
theorem d_LT_delete_84 : decode b_LT_delete 84 = .ok (.iload_n 2, 1) := by decide +kernel
theorem d_LT_delete_85 : decode b_LT_delete 85 = .ok (.iaload, 1) := by decide +kernel
theorem d_LT_delete_86 : decode b_LT_delete 86 = .ok (.if_icmp .ge 61, 3) := by decide +kernel
theorem d_LT_delete_89 : decode b_LT_delete 89 = .ok (.aload_n 0, 1) := by decide +kernel
theorem d_LT_delete_90 : decode b_LT_delete 90 = .ok (.getfield 16, 3) := by decide +kernel
theorem d_LT_delete_93 : decode b_LT_delete 93 = .ok (.sipush 128, 3) := by decide +kernel
theorem d_LT_delete_96 : decode b_LT_delete 96 = .ok (.iload_n 2, 1) := by decide +kernel
theorem d_LT_delete_97 : decode b_LT_delete 97 = .ok (.imul, 1) := by decide +kernel
theorem d_LT_delete_98 : decode b_LT_delete 98 = .ok (.iload_n 3, 1) := by decide +kernel
theorem d_LT_delete_99 : decode b_LT_delete 99 = .ok (.iadd, 1) := by decide +kernel
theorem d_LT_delete_100 : decode b_LT_delete 100 = .ok (.aload_n 0, 1) := by decide +kernel
theorem d_LT_delete_101 : decode b_LT_delete 101 = .ok (.getfield 16, 3) := by decide +kernel
theorem d_LT_delete_104 : decode b_LT_delete 104 = .ok (.sipush 128, 3) := by decide +kernel
theorem d_LT_delete_107 : decode b_LT_delete 107 = .ok (.iload_n 2, 1) := by decide +kernel
theorem d_LT_delete_108 : decode b_LT_delete 108 = .ok (.imul, 1) := by decide +kernel
theorem d_LT_delete_109 : decode b_LT_delete 109 = .ok (.iload_n 3, 1) := by decide +kernel
theorem d_LT_delete_110 : decode b_LT_delete 110 = .ok (.iadd, 1) := by decide +kernel
theorem d_LT_delete_111 : decode b_LT_delete 111 = .ok (.iconst 1, 1) := by decide +kernel
theorem d_LT_delete_112 : decode b_LT_delete 112 = .ok (.iadd, 1) := by decide +kernel
theorem d_LT_delete_113 : decode b_LT_delete 113 = .ok (.iaload, 1) := by decide +kernel
theorem d_LT_delete_114 : decode b_LT_delete 114 = .ok (.iastore, 1) := by decide +kernel
theorem d_LT_delete_115 : decode b_LT_delete 115 = .ok (.aload_n 0, 1) := by decide +kernel
theorem d_LT_delete_116 : decode b_LT_delete 116 = .ok (.getfield 20, 3) := by decide +kernel
theorem d_LT_delete_119 : decode b_LT_delete 119 = .ok (.sipush 128, 3) := by decide +kernel
theorem d_LT_delete_122 : decode b_LT_delete 122 = .ok (.iload_n 2, 1) := by decide +kernel
theorem d_LT_delete_123 : decode b_LT_delete 123 = .ok (.imul, 1) := by decide +kernel
theorem d_LT_delete_124 : decode b_LT_delete 124 = .ok (.iload_n 3, 1) := by decide +kernel
theorem d_LT_delete_125 : decode b_LT_delete 125 = .ok (.iadd, 1) := by decide +kernel
theorem d_LT_delete_126 : decode b_LT_delete 126 = .ok (.aload_n 0, 1) := by decide +kernel
theorem d_LT_delete_127 : decode b_LT_delete 127 = .ok (.getfield 20, 3) := by decide +kernel
theorem d_LT_delete_130 : decode b_LT_delete 130 = .ok (.sipush 128, 3) := by decide +kernel
theorem d_LT_delete_133 : decode b_LT_delete 133 = .ok (.iload_n 2, 1) := by decide +kernel
theorem d_LT_delete_134 : decode b_LT_delete 134 = .ok (.imul, 1) := by decide +kernel
theorem d_LT_delete_135 : decode b_LT_delete 135 = .ok (.iload_n 3, 1) := by decide +kernel
theorem d_LT_delete_136 : decode b_LT_delete 136 = .ok (.iadd, 1) := by decide +kernel
theorem d_LT_delete_137 : decode b_LT_delete 137 = .ok (.iconst 1, 1) := by decide +kernel
theorem d_LT_delete_138 : decode b_LT_delete 138 = .ok (.iadd, 1) := by decide +kernel
theorem d_LT_delete_139 : decode b_LT_delete 139 = .ok (.baload, 1) := by decide +kernel
theorem d_LT_delete_140 : decode b_LT_delete 140 = .ok (.bastore, 1) := by decide +kernel
theorem d_LT_delete_141 : decode b_LT_delete 141 = .ok (.iinc 3 1, 3) := by decide +kernel
theorem d_LT_delete_144 : decode b_LT_delete 144 = .ok (.goto (-65), 3) := by decide +kernel
theorem d_LT_delete_147 : decode b_LT_delete 147 = .ok (.aload_n 0, 1) := by decide +kernel
theorem d_LT_delete_148 : decode b_LT_delete 148 = .ok (.getfield 36, 3) := by decide +kernel
theorem d_LT_delete_151 : decode b_LT_delete 151 = .ok (.istore_n 3, 1) := by decide +kernel
theorem d_LT_delete_152 : decode b_LT_delete 152 = .ok (.iload_n 3, 1) := by decide +kernel
theorem d_LT_delete_153 : decode b_LT_delete 153 = .ok (.iconst 1, 1) := by decide +kernel
theorem d_LT_delete_154 : decode b_LT_delete 154 = .ok (.iadd, 1) := by decide +kernel
theorem d_LT_delete_155 : decode b_LT_delete 155 = .ok (.aload_n 0, 1) := by decide +kernel
theorem d_LT_delete_156 : decode b_LT_delete 156 = .ok (.getfield 13, 3) := by decide +kernel
theorem d_LT_delete_159 : decode b_LT_delete 159 = .ok (.if_icmp .ge 16, 3) := by decide +kernel
theorem d_LT_delete_162 : decode b_LT_delete 162 = .ok (.aload_n 0, 1) := by decide +kernel
theorem d_LT_delete_163 : decode b_LT_delete 163 = .ok (.iload_n 3, 1) := by decide +kernel
theorem d_LT_delete_164 : decode b_LT_delete 164 = .ok (.invokevirtual 59, 3) := by decide +kernel
theorem d_LT_delete_167 : decode b_LT_delete 167 = .ok (.ifCond .eq 8, 3) := by decide +kernel
theorem d_LT_delete_170 : decode b_LT_delete 170 = .ok (.aload_n 0, 1) := by decide +kernel
theorem d_LT_delete_171 : decode b_LT_delete 171 = .ok (.iload_n 3, 1) := by decide +kernel
theorem d_LT_delete_172 : decode b_LT_delete 172 = .ok (.invokevirtual 63, 3) := by decide +kernel
theorem d_LT_delete_175 : decode b_LT_delete 175 = .ok (.iload_n 3, 1) := by decide +kernel
theorem d_LT_delete_176 : decode b_LT_delete 176 = .ok (.ifCond .le 20, 3) := by decide +kernel
theorem d_LT_delete_179 : decode b_LT_delete 179 = .ok (.aload_n 0, 1) := by decide +kernel
theorem d_LT_delete_180 : decode b_LT_delete 180 = .ok (.iload_n 3, 1) := by decide +kernel
theorem d_LT_delete_181 : decode b_LT_delete 181 = .ok (.iconst 1, 1) := by decide +kernel
theorem d_LT_delete_182 : decode b_LT_delete 182 = .ok (.isub, 1) := by decide +kernel
theorem d_LT_delete_183 : decode b_LT_delete 183 = .ok (.invokevirtual 59, 3) := by decide +kernel
theorem d_LT_delete_186 : decode b_LT_delete 186 = .ok (.ifCond .eq 10, 3) := by decide +kernel
theorem d_LT_delete_189 : decode b_LT_delete 189 = .ok (.aload_n 0, 1) := by decide +kernel
theorem d_LT_delete_190 : decode b_LT_delete 190 = .ok (.iload_n 3, 1) := by decide +kernel
theorem d_LT_delete_191 : decode b_LT_delete 191 = .ok (.iconst 1, 1) := by decide +kernel
theorem d_LT_delete_192 : decode b_LT_delete 192 = .ok (.isub, 1) := by decide +kernel
theorem d_LT_delete_193 : decode b_LT_delete 193 = .ok (.invokevirtual 63, 3) := by decide +kernel
theorem d_LT_delete_196 : decode b_LT_delete 196 = .ok (.return_, 1) := by decide +kernel
theorem d_LT_isLittle_0 : decode b_LT_isLittle 0 = .ok (.aload_n 0, 1) := by decide +kernel
theorem d_LT_isLittle_1 : decode b_LT_isLittle 1 = .ok (.getfield 24, 3) := by decide +kernel
theorem d_LT_isLittle_4 : decode b_LT_isLittle 4 = .ok (.aload_n 0, 1) := by decide +kernel
theorem d_LT_isLittle_5 : decode b_LT_isLittle 5 = .ok (.getfield 30, 3) := by decide +kernel
theorem d_LT_isLittle_8 : decode b_LT_isLittle 8 = .ok (.iload_n 1, 1) := by decide +kernel
theorem d_LT_isLittle_9 : decode b_LT_isLittle 9 = .ok (.iaload, 1) := by decide +kernel
theorem d_LT_isLittle_10 : decode b_LT_isLittle 10 = .ok (.iaload, 1) := by decide +kernel
theorem d_LT_isLittle_11 : decode b_LT_isLittle 11 = .ok (.aload_n 0, 1) := by decide +kernel
theorem d_LT_isLittle_12 : decode b_LT_isLittle 12 = .ok (.getfield 24, 3) := by decide +kernel
theorem d_LT_isLittle_15 : decode b_LT_isLittle 15 = .ok (.aload_n 0, 1) := by decide +kernel
theorem d_LT_isLittle_16 : decode b_LT_isLittle 16 = .ok (.getfield 30, 3) := by decide +kernel
theorem d_LT_isLittle_19 : decode b_LT_isLittle 19 = .ok (.iload_n 1, 1) := by decide +kernel
theorem d_LT_isLittle_20 : decode b_LT_isLittle 20 = .ok (.iconst 1, 1) := by decide +kernel
theorem d_LT_isLittle_21 : decode b_LT_isLittle 21 = .ok (.iadd, 1) := by decide +kernel
theorem d_LT_isLittle_22 : decode b_LT_isLittle 22 = .ok (.iaload, 1) := by decide +kernel
theorem d_LT_isLittle_23 : decode b_LT_isLittle 23 = .ok (.iaload, 1) := by decide +kernel
theorem d_LT_isLittle_24 : decode b_LT_isLittle 24 = .ok (.iadd, 1) := by decide +kernel
theorem d_LT_isLittle_25 : decode b_LT_isLittle 25 = .ok (.bipush 64, 2) := by decide +kernel
theorem d_LT_isLittle_27 : decode b_LT_isLittle 27 = .ok (.if_icmp .gt 7, 3) := by decide +kernel
theorem d_LT_isLittle_30 : decode b_LT_isLittle 30 = .ok (.iconst 1, 1) := by decide +kernel
theorem d_LT_isLittle_31 : decode b_LT_isLittle 31 = .ok (.goto 4, 3) := by decide +kernel
theorem d_LT_isLittle_34 : decode b_LT_isLittle 34 = .ok (.iconst 0, 1) := by decide +kernel
theorem d_LT_isLittle_35 : decode b_LT_isLittle 35 = .ok (.ireturn, 1) := by decide +kernel
theorem d_LT_join_0 : decode b_LT_join 0 = .ok (.aload_n 0, 1) := by decide +kernel
theorem d_LT_join_1 : decode b_LT_join 1 = .ok (.getfield 30, 3) := by decide +kernel
theorem d_LT_join_4 : decode b_LT_join 4 = .ok (.iload_n 1, 1) := by decide +kernel
theorem d_LT_join_5 : decode b_LT_join 5 = .ok (.iaload, 1) := by decide +kernel
theorem d_LT_join_6 : decode b_LT_join 6 = .ok (.istore_n 2, 1) := by decide +kernel
theorem d_LT_join_7 : decode b_LT_join 7 = .ok (.aload_n 0, 1) := by decide +kernel
theorem d_LT_join_8 : decode b_LT_join 8 = .ok (.getfield 30, 3) := by decide +kernel
theorem d_LT_join_11 : decode b_LT_join 11 = .ok (.iload_n 1, 1) := by decide +kernel
theorem d_LT_join_12 : decode b_LT_join 12 = .ok (.iconst 1, 1) := by decide +kernel
theorem d_LT_join_13 : decode b_LT_join 13 = .ok (.iadd, 1) := by decide +kernel
theorem d_LT_join_14 : decode b_LT_join 14 = .ok (.iaload, 1) := by decide +kernel
theorem d_LT_join_15 : decode b_LT_join 15 = .ok (.istore_n 3, 1) := by decide +kernel
theorem d_LT_join_16 : decode b_LT_join 16 = .ok (.iconst 0, 1) := by decide +kernel
theorem d_LT_join_17 : decode b_LT_join 17 = .ok (.istore 4, 2) := by decide +kernel
theorem d_LT_join_19 : decode b_LT_join 19 = .ok (.iload 4, 2) := by decide +kernel
theorem d_LT_join_21 : decode b_LT_join 21 = .ok (.aload_n 0, 1) := by decide +kernel
theorem d_LT_join_22 : decode b_LT_join 22 = .ok (.getfield 24, 3) := by decide +kernel
theorem d_LT_join_25 : decode b_LT_join 25 = .ok (.iload_n 3, 1) := by decide +kernel
theorem d_LT_join_26 : decode b_LT_join 26 = .ok (.iaload, 1) := by decide +kernel
theorem d_LT_join_27 : decode b_LT_join 27 = .ok (.if_icmp .ge 79, 3) := by decide +kernel
theorem d_LT_join_30 : decode b_LT_join 30 = .ok (.aload_n 0, 1) := by decide +kernel
theorem d_LT_join_31 : decode b_LT_join 31 = .ok (.getfield 16, 3) := by decide +kernel
theorem d_LT_join_34 : decode b_LT_join 34 = .ok (.sipush 128, 3) := by decide +kernel
theorem d_LT_join_37 : decode b_LT_join 37 = .ok (.iload_n 2, 1) := by decide +kernel
theorem d_LT_join_38 : decode b_LT_join 38 = .ok (.imul, 1) := by decide +kernel
theorem d_LT_join_39 : decode b_LT_join 39 = .ok (.aload_n 0, 1) := by decide +kernel
theorem d_LT_join_40 : decode b_LT_join 40 = .ok (.getfield 24, 3) := by decide +kernel
theorem d_LT_join_43 : decode b_LT_join 43 = .ok (.iload_n 2, 1) := by decide +kernel
theorem d_LT_join_44 : decode b_LT_join 44 = .ok (.iaload, 1) := by decide +kernel
theorem d_LT_join_45 : decode b_LT_join 45 = .ok (.iadd, 1) := by decide +kernel
theorem d_LT_join_46 : decode b_LT_join 46 = .ok (.aload_n 0, 1) := by decide +kernel
theorem d_LT_join_47 : decode b_LT_join 47 = .ok (.getfield 16, 3) := by decide +kernel
theorem d_LT_join_50 : decode b_LT_join 50 = .ok (.sipush 128, 3) := by decide +kernel
theorem d_LT_join_53 : decode b_LT_join 53 = .ok (.iload_n 3, 1) := by decide +kernel
theorem d_LT_join_54 : decode b_LT_join 54 = .ok (.imul, 1) := by decide +kernel
theorem d_LT_join_55 : decode b_LT_join 55 = .ok (.iload 4, 2) := by decide +kernel
theorem d_LT_join_57 : decode b_LT_join 57 = .ok (.iadd, 1) := by decide +kernel
theorem d_LT_join_58 : decode b_LT_join 58 = .ok (.iaload, 1) := by decide +kernel
theorem d_LT_join_59 : decode b_LT_join 59 = .ok (.iastore, 1) := by decide +kernel
theorem d_LT_join_60 : decode b_LT_join 60 = .ok (.aload_n 0, 1) := by decide +kernel
theorem d_LT_join_61 : decode b_LT_join 61 = .ok (.getfield 20, 3) := by decide +kernel
theorem d_LT_join_64 : decode b_LT_join 64 = .ok (.sipush 128, 3) := by decide +kernel
theorem d_LT_join_67 : decode b_LT_join 67 = .ok (.iload_n 2, 1) := by decide +kernel
theorem d_LT_join_68 : decode b_LT_join 68 = .ok (.imul, 1) := by decide +kernel
theorem d_LT_join_69 : decode b_LT_join 69 = .ok (.aload_n 0, 1) := by decide +kernel
theorem d_LT_join_70 : decode b_LT_join 70 = .ok (.getfield 24, 3) := by decide +kernel
theorem d_LT_join_73 : decode b_LT_join 73 = .ok (.iload_n 2, 1) := by decide +kernel
theorem d_LT_join_74 : decode b_LT_join 74 = .ok (.iaload, 1) := by decide +kernel
theorem d_LT_join_75 : decode b_LT_join 75 = .ok (.iadd, 1) := by decide +kernel
theorem d_LT_join_76 : decode b_LT_join 76 = .ok (.aload_n 0, 1) := by decide +kernel
theorem d_LT_join_77 : decode b_LT_join 77 = .ok (.getfield 20, 3) := by decide +kernel
theorem d_LT_join_80 : decode b_LT_join 80 = .ok (.sipush 128, 3) := by decide +kernel
theorem d_LT_join_83 : decode b_LT_join 83 = .ok (.iload_n 3, 1) := by decide +kernel
theorem d_LT_join_84 : decode b_LT_join 84 = .ok (.imul, 1) := by decide +kernel
theorem d_LT_join_85 : decode b_LT_join 85 = .ok (.iload 4, 2) := by decide +kernel
theorem d_LT_join_87 : decode b_LT_join 87 = .ok (.iadd, 1) := by decide +kernel
theorem d_LT_join_88 : decode b_LT_join 88 = .ok (.baload, 1) := by decide +kernel
theorem d_LT_join_89 : decode b_LT_join 89 = .ok (.bastore, 1) := by decide +kernel
theorem d_LT_join_90 : decode b_LT_join 90 = .ok (.aload_n 0, 1) := by decide +kernel
theorem d_LT_join_91 : decode b_LT_join 91 = .ok (.getfield 24, 3) := by decide +kernel
theorem d_LT_join_94 : decode b_LT_join 94 = .ok (.iload_n 2, 1) := by decide +kernel
theorem d_LT_join_95 : decode b_LT_join 95 = .ok (.dup2, 1) := by decide +kernel
theorem d_LT_join_96 : decode b_LT_join 96 = .ok (.iaload, 1) := by decide +kernel
theorem d_LT_join_97 : decode b_LT_join 97 = .ok (.iconst 1, 1) := by decide +kernel
theorem d_LT_join_98 : decode b_LT_join 98 = .ok (.iadd, 1) := by decide +kernel
theorem d_LT_join_99 : decode b_LT_join 99 = .ok (.iastore, 1) := by decide +kernel
theorem d_LT_join_100 : decode b_LT_join 100 = .ok (.iinc 4 1, 3) := by decide +kernel
theorem d_LT_join_103 : decode b_LT_join 103 = .ok (.goto (-84), 3) := by decide +kernel
theorem d_LT_join_106 : decode b_LT_join 106 = .ok (.aload_n 0, 1) := by decide +kernel
theorem d_LT_join_107 : decode b_LT_join 107 = .ok (.getfield 27, 3) := by decide +kernel
theorem d_LT_join_110 : decode b_LT_join 110 = .ok (.iload_n 2, 1) := by decide +kernel
theorem d_LT_join_111 : decode b_LT_join 111 = .ok (.dup2, 1) := by decide +kernel
theorem d_LT_join_112 : decode b_LT_join 112 = .ok (.iaload, 1) := by decide +kernel
theorem d_LT_join_113 : decode b_LT_join 113 = .ok (.aload_n 0, 1) := by decide +kernel
theorem d_LT_join_114 : decode b_LT_join 114 = .ok (.getfield 27, 3) := by decide +kernel
theorem d_LT_join_117 : decode b_LT_join 117 = .ok (.iload_n 3, 1) := by decide +kernel
theorem d_LT_join_118 : decode b_LT_join 118 = .ok (.iaload, 1) := by decide +kernel
theorem d_LT_join_119 : decode b_LT_join 119 = .ok (.iadd, 1) := by decide +kernel
theorem d_LT_join_120 : decode b_LT_join 120 = .ok (.iastore, 1) := by decide +kernel
theorem d_LT_join_121 : decode b_LT_join 121 = .ok (.aload_n 0, 1) := by decide +kernel
theorem d_LT_join_122 : decode b_LT_join 122 = .ok (.dup, 1) := by decide +kernel
theorem d_LT_join_123 : decode b_LT_join 123 = .ok (.getfield 13, 3) := by decide +kernel
theorem d_LT_join_126 : decode b_LT_join 126 = .ok (.iconst 1, 1) := by decide +kernel
theorem d_LT_join_127 : decode b_LT_join 127 = .ok (.isub, 1) := by decide +kernel
theorem d_LT_join_128 : decode b_LT_join 128 = .ok (.putfield 13, 3) := by decide +kernel
theorem d_LT_join_131 : decode b_LT_join 131 = .ok (.iload_n 1, 1) := by decide +kernel
theorem d_LT_join_132 : decode b_LT_join 132 = .ok (.iconst 1, 1) := by decide +kernel
theorem d_LT_join_133 : decode b_LT_join 133 = .ok (.iadd, 1) := by decide +kernel
theorem d_LT_join_134 : decode b_LT_join 134 = .ok (.istore 4, 2) := by decide +kernel
theorem d_LT_join_136 : decode b_LT_join 136 = .ok (.iload 4, 2) := by decide +kernel
theorem d_LT_join_138 : decode b_LT_join 138 = .ok (.aload_n 0, 1) := by decide +kernel
theorem d_LT_join_139 : decode b_LT_join 139 = .ok (.getfield 13, 3) := by decide +kernel
theorem d_LT_join_142 : decode b_LT_join 142 = .ok (.if_icmp .ge 25, 3) := by decide +kernel
theorem d_LT_join_145 : decode b_LT_join 145 = .ok (.aload_n 0, 1) := by decide +kernel
theorem d_LT_join_146 : decode b_LT_join 146 = .ok (.getfield 30, 3) := by decide +kernel
theorem d_LT_join_149 : decode b_LT_join 149 = .ok (.iload 4, 2) := by decide +kernel
theorem d_LT_join_151 : decode b_LT_join 151 = .ok (.aload_n 0, 1) := by decide +kernel
theorem d_LT_join_152 : decode b_LT_join 152 = .ok (.getfield 30, 3) := by decide +kernel
theorem d_LT_join_155 : decode b_LT_join 155 = .ok (.iload 4, 2) := by decide +kernel
theorem d_LT_join_157 : decode b_LT_join 157 = .ok (.iconst 1, 1) := by decide +kernel
theorem d_LT_join_158 : decode b_LT_join 158 = .ok (.iadd, 1) := by decide +kernel
theorem d_LT_join_159 : decode b_LT_join 159 = .ok (.iaload, 1) := by decide +kernel
theorem d_LT_join_160 : decode b_LT_join 160 = .ok (.iastore, 1) := by decide +kernel
theorem d_LT_join_161 : decode b_LT_join 161 = .ok (.iinc 4 1, 3) := by decide +kernel
theorem d_LT_join_164 : decode b_LT_join 164 = .ok (.goto (-28), 3) := by decide +kernel
theorem d_LT_join_167 : decode b_LT_join 167 = .ok (.aload_n 0, 1) := by decide +kernel
theorem d_LT_join_168 : decode b_LT_join 168 = .ok (.getfield 33, 3) := by decide +kernel
theorem d_LT_join_171 : decode b_LT_join 171 = .ok (.aload_n 0, 1) := by decide +kernel
theorem d_LT_join_172 : decode b_LT_join 172 = .ok (.getfield 42, 3) := by decide +kernel
theorem d_LT_join_175 : decode b_LT_join 175 = .ok (.iload_n 3, 1) := by decide +kernel
theorem d_LT_join_176 : decode b_LT_join 176 = .ok (.iastore, 1) := by decide +kernel
theorem d_LT_join_177 : decode b_LT_join 177 = .ok (.aload_n 0, 1) := by decide +kernel
theorem d_LT_join_178 : decode b_LT_join 178 = .ok (.dup, 1) := by decide +kernel
theorem d_LT_join_179 : decode b_LT_join 179 = .ok (.getfield 42, 3) := by decide +kernel
theorem d_LT_join_182 : decode b_LT_join 182 = .ok (.iconst 1, 1) := by decide +kernel
theorem d_LT_join_183 : decode b_LT_join 183 = .ok (.iadd, 1) := by decide +kernel
theorem d_LT_join_184 : decode b_LT_join 184 = .ok (.putfield 42, 3) := by decide +kernel
theorem d_LT_join_187 : decode b_LT_join 187 = .ok (.return_, 1) := by decide +kernel
theorem d_LT_get_0 : decode b_LT_get 0 = .ok (.aload_n 0, 1) := by decide +kernel
theorem d_LT_get_1 : decode b_LT_get 1 = .ok (.iload_n 1, 1) := by decide +kernel
theorem d_LT_get_2 : decode b_LT_get 2 = .ok (.iconst 0, 1) := by decide +kernel
theorem d_LT_get_3 : decode b_LT_get 3 = .ok (.invokevirtual 45, 3) := by decide +kernel
theorem d_LT_get_6 : decode b_LT_get 6 = .ok (.aload_n 0, 1) := by decide +kernel
theorem d_LT_get_7 : decode b_LT_get 7 = .ok (.getfield 16, 3) := by decide +kernel
theorem d_LT_get_10 : decode b_LT_get 10 = .ok (.sipush 128, 3) := by decide +kernel
theorem d_LT_get_13 : decode b_LT_get 13 = .ok (.aload_n 0, 1) := by decide +kernel
theorem d_LT_get_14 : decode b_LT_get 14 = .ok (.getfield 30, 3) := by decide +kernel
theorem d_LT_get_17 : decode b_LT_get 17 = .ok (.aload_n 0, 1) := by decide +kernel
theorem d_LT_get_18 : decode b_LT_get 18 = .ok (.getfield 36, 3) := by decide +kernel
theorem d_LT_get_21 : decode b_LT_get 21 = .ok (.iaload, 1) := by decide +kernel
theorem d_LT_get_22 : decode b_LT_get 22 = .ok (.imul, 1) := by decide +kernel
theorem d_LT_get_23 : decode b_LT_get 23 = .ok (.aload_n 0, 1) := by decide +kernel
theorem d_LT_get_24 : decode b_LT_get 24 = .ok (.getfield 39, 3) := by decide +kernel
theorem d_LT_get_27 : decode b_LT_get 27 = .ok (.iadd, 1) := by decide +kernel
theorem d_LT_get_28 : decode b_LT_get 28 = .ok (.iaload, 1) := by decide +kernel
theorem d_LT_get_29 : decode b_LT_get 29 = .ok (.ireturn, 1) := by decide +kernel
theorem d_LT_behindEnd_0 : decode b_LT_behindEnd 0 = .ok (.iload_n 1, 1) := by decide +kernel
theorem d_LT_behindEnd_1 : decode b_LT_behindEnd 1 = .ok (.istore_n 2, 1) := by decide +kernel
theorem d_LT_behindEnd_2 : decode b_LT_behindEnd 2 = .ok (.iconst 0, 1) := by decide +kernel
theorem d_LT_behindEnd_3 : decode b_LT_behindEnd 3 = .ok (.istore_n 3, 1) := by decide +kernel
theorem d_LT_behindEnd_4 : decode b_LT_behindEnd 4 = .ok (.iconst 0, 1) := by decide +kernel
theorem d_LT_behindEnd_5 : decode b_LT_behindEnd 5 = .ok (.istore 4, 2) := by decide +kernel
theorem d_LT_behindEnd_7 : decode b_LT_behindEnd 7 = .ok (.iload_n 2, 1) := by decide +kernel
theorem d_LT_behindEnd_8 : decode b_LT_behindEnd 8 = .ok (.aload_n 0, 1) := by decide +kernel
theorem d_LT_behindEnd_9 : decode b_LT_behindEnd 9 = .ok (.getfield 27, 3) := by decide +kernel
theorem d_LT_behindEnd_12 : decode b_LT_behindEnd 12 = .ok (.aload_n 0, 1) := by decide +kernel
theorem d_LT_behindEnd_13 : decode b_LT_behindEnd 13 = .ok (.getfield 30, 3) := by decide +kernel
theorem d_LT_behindEnd_16 : decode b_LT_behindEnd 16 = .ok (.iload 4, 2) := by decide +kernel
theorem d_LT_behindEnd_18 : decode b_LT_behindEnd 18 = .ok (.iaload, 1) := by decide +kernel
theorem d_LT_behindEnd_19 : decode b_LT_behindEnd 19 = .ok (.iaload, 1) := by decide +kernel
theorem d_LT_behindEnd_20 : decode b_LT_behindEnd 20 = .ok (.if_icmp .le 39, 3) := by decide +kernel
theorem d_LT_behindEnd_23 : decode b_LT_behindEnd 23 = .ok (.iload_n 2, 1) := by decide +kernel
theorem d_LT_behindEnd_24 : decode b_LT_behindEnd 24 = .ok (.aload_n 0, 1) := by decide +kernel
theorem d_LT_behindEnd_25 : decode b_LT_behindEnd 25 = .ok (.getfield 27, 3) := by decide +kernel
theorem d_LT_behindEnd_28 : decode b_LT_behindEnd 28 = .ok (.aload_n 0, 1) := by decide +kernel
theorem d_LT_behindEnd_29 : decode b_LT_behindEnd 29 = .ok (.getfield 30, 3) := by decide +kernel
theorem d_LT_behindEnd_32 : decode b_LT_behindEnd 32 = .ok (.iload 4, 2) := by decide +kernel
theorem d_LT_behindEnd_34 : decode b_LT_behindEnd 34 = .ok (.iaload, 1) := by decide +kernel
theorem d_LT_behindEnd_35 : decode b_LT_behindEnd 35 = .ok (.iaload, 1) := by decide +kernel
theorem d_LT_behindEnd_36 : decode b_LT_behindEnd 36 = .ok (.isub, 1) := by decide +kernel
theorem d_LT_behindEnd_37 : decode b_LT_behindEnd 37 = .ok (.istore_n 2, 1) := by decide +kernel
theorem d_LT_behindEnd_38 : decode b_LT_behindEnd 38 = .ok (.iload_n 3, 1) := by decide +kernel
theorem d_LT_behindEnd_39 : decode b_LT_behindEnd 39 = .ok (.aload_n 0, 1) := by decide +kernel
theorem d_LT_behindEnd_40 : decode b_LT_behindEnd 40 = .ok (.getfield 24, 3) := by decide +kernel
theorem d_LT_behindEnd_43 : decode b_LT_behindEnd 43 = .ok (.aload_n 0, 1) := by decide +kernel
theorem d_LT_behindEnd_44 : decode b_LT_behindEnd 44 = .ok (.getfield 30, 3) := by decide +kernel
theorem d_LT_behindEnd_47 : decode b_LT_behindEnd 47 = .ok (.iload 4, 2) := by decide +kernel
theorem d_LT_behindEnd_49 : decode b_LT_behindEnd 49 = .ok (.iaload, 1) := by decide +kernel
theorem d_LT_behindEnd_50 : decode b_LT_behindEnd 50 = .ok (.iaload, 1) := by decide +kernel
theorem d_LT_behindEnd_51 : decode b_LT_behindEnd 51 = .ok (.iadd, 1) := by decide +kernel
theorem d_LT_behindEnd_52 : decode b_LT_behindEnd 52 = .ok (.istore_n 3, 1) := by decide +kernel
theorem d_LT_behindEnd_53 : decode b_LT_behindEnd 53 = .ok (.iinc 4 1, 3) := by decide +kernel
theorem d_LT_behindEnd_56 : decode b_LT_behindEnd 56 = .ok (.goto (-49), 3) := by decide +kernel
theorem d_LT_behindEnd_59 : decode b_LT_behindEnd 59 = .ok (.iconst 0, 1) := by decide +kernel
theorem d_LT_behindEnd_60 : decode b_LT_behindEnd 60 = .ok (.istore 5, 2) := by decide +kernel
theorem d_LT_behindEnd_62 : decode b_LT_behindEnd 62 = .ok (.iload_n 2, 1) := by decide +kernel
theorem d_LT_behindEnd_63 : decode b_LT_behindEnd 63 = .ok (.ifCond .le 34, 3) := by decide +kernel
theorem d_LT_behindEnd_66 : decode b_LT_behindEnd 66 = .ok (.aload_n 0, 1) := by decide +kernel
theorem d_LT_behindEnd_67 : decode b_LT_behindEnd 67 = .ok (.getfield 20, 3) := by decide +kernel
theorem d_LT_behindEnd_70 : decode b_LT_behindEnd 70 = .ok (.sipush 128, 3) := by decide +kernel
theorem d_LT_behindEnd_73 : decode b_LT_behindEnd 73 = .ok (.aload_n 0, 1) := by decide +kernel
theorem d_LT_behindEnd_74 : decode b_LT_behindEnd 74 = .ok (.getfield 30, 3) := by decide +kernel
theorem d_LT_behindEnd_77 : decode b_LT_behindEnd 77 = .ok (.iload 4, 2) := by decide +kernel
theorem d_LT_behindEnd_79 : decode b_LT_behindEnd 79 = .ok (.iaload, 1) := by decide +kernel
theorem d_LT_behindEnd_80 : decode b_LT_behindEnd 80 = .ok (.imul, 1) := by decide +kernel
theorem d_LT_behindEnd_81 : decode b_LT_behindEnd 81 = .ok (.iload 5, 2) := by decide +kernel
theorem d_LT_behindEnd_83 : decode b_LT_behindEnd 83 = .ok (.iadd, 1) := by decide +kernel
theorem d_LT_behindEnd_84 : decode b_LT_behindEnd 84 = .ok (.baload, 1) := by decide +kernel
theorem d_LT_behindEnd_85 : decode b_LT_behindEnd 85 = .ok (.ifCond .eq 6, 3) := by decide +kernel
theorem d_LT_behindEnd_88 : decode b_LT_behindEnd 88 = .ok (.iinc 2 (-1), 3) := by decide +kernel
theorem d_LT_behindEnd_91 : decode b_LT_behindEnd 91 = .ok (.iinc 5 1, 3) := by decide +kernel
theorem d_LT_behindEnd_94 : decode b_LT_behindEnd 94 = .ok (.goto (-32), 3) := by decide +kernel
theorem d_LT_behindEnd_97 : decode b_LT_behindEnd 97 = .ok (.iload_n 3, 1) := by decide +kernel
theorem d_LT_behindEnd_98 : decode b_LT_behindEnd 98 = .ok (.iload 5, 2) := by decide +kernel
theorem d_LT_behindEnd_100 : decode b_LT_behindEnd 100 = .ok (.iadd, 1) := by decide +kernel
theorem d_LT_behindEnd_101 : decode b_LT_behindEnd 101 = .ok (.ireturn, 1) := by decide +kernel
theorem d_LT_copy_0 : decode b_LT_copy 0 = .ok (.iconst 0, 1) := by decide +kernel
theorem d_LT_copy_1 : decode b_LT_copy 1 = .ok (.istore_n 2, 1) := by decide +kernel
theorem d_LT_copy_2 : decode b_LT_copy 2 = .ok (.iconst 0, 1) := by decide +kernel
theorem d_LT_copy_3 : decode b_LT_copy 3 = .ok (.istore_n 3, 1) := by decide +kernel
theorem d_LT_copy_4 : decode b_LT_copy 4 = .ok (.iload_n 3, 1) := by decide +kernel
theorem d_LT_copy_5 : decode b_LT_copy 5 = .ok (.aload_n 0, 1) := by decide +kernel
theorem d_LT_copy_6 : decode b_LT_copy 6 = .ok (.getfield 13, 3) := by decide +kernel
theorem d_LT_copy_9 : decode b_LT_copy 9 = .ok (.if_icmp .ge 58, 3) := by decide +kernel
theorem d_LT_copy_12 : decode b_LT_copy 12 = .ok (.aload_n 0, 1) := by decide +kernel
theorem d_LT_copy_13 : decode b_LT_copy 13 = .ok (.getfield 30, 3) := by decide +kernel
theorem d_LT_copy_16 : decode b_LT_copy 16 = .ok (.iload_n 3, 1) := by decide +kernel
theorem d_LT_copy_17 : decode b_LT_copy 17 = .ok (.iaload, 1) := by decide +kernel
theorem d_LT_copy_18 : decode b_LT_copy 18 = .ok (.istore 4, 2) := by decide +kernel
theorem d_LT_copy_20 : decode b_LT_copy 20 = .ok (.iconst 0, 1) := by decide +kernel
theorem d_LT_copy_21 : decode b_LT_copy 21 = .ok (.istore 5, 2) := by decide +kernel
theorem d_LT_copy_23 : decode b_LT_copy 23 = .ok (.iload 5, 2) := by decide +kernel
theorem d_LT_copy_25 : decode b_LT_copy 25 = .ok (.aload_n 0, 1) := by decide +kernel
theorem d_LT_copy_26 : decode b_LT_copy 26 = .ok (.getfield 24, 3) := by decide +kernel
theorem d_LT_copy_29 : decode b_LT_copy 29 = .ok (.iload 4, 2) := by decide +kernel
theorem d_LT_copy_31 : decode b_LT_copy 31 = .ok (.iaload, 1) := by decide +kernel
theorem d_LT_copy_32 : decode b_LT_copy 32 = .ok (.if_icmp .ge 29, 3) := by decide +kernel
theorem d_LT_copy_35 : decode b_LT_copy 35 = .ok (.aload_n 1, 1) := by decide +kernel
theorem d_LT_copy_36 : decode b_LT_copy 36 = .ok (.iload_n 2, 1) := by decide +kernel
theorem d_LT_copy_37 : decode b_LT_copy 37 = .ok (.aload_n 0, 1) := by decide +kernel
theorem d_LT_copy_38 : decode b_LT_copy 38 = .ok (.getfield 16, 3) := by decide +kernel
theorem d_LT_copy_41 : decode b_LT_copy 41 = .ok (.sipush 128, 3) := by decide +kernel
theorem d_LT_copy_44 : decode b_LT_copy 44 = .ok (.iload 4, 2) := by decide +kernel
theorem d_LT_copy_46 : decode b_LT_copy 46 = .ok (.imul, 1) := by decide +kernel
theorem d_LT_copy_47 : decode b_LT_copy 47 = .ok (.iload 5, 2) := by decide +kernel
theorem d_LT_copy_49 : decode b_LT_copy 49 = .ok (.iadd, 1) := by decide +kernel
theorem d_LT_copy_50 : decode b_LT_copy 50 = .ok (.iaload, 1) := by decide +kernel
theorem d_LT_copy_51 : decode b_LT_copy 51 = .ok (.iastore, 1) := by decide +kernel
theorem d_LT_copy_52 : decode b_LT_copy 52 = .ok (.iinc 2 1, 3) := by decide +kernel
theorem d_LT_copy_55 : decode b_LT_copy 55 = .ok (.iinc 5 1, 3) := by decide +kernel
theorem d_LT_copy_58 : decode b_LT_copy 58 = .ok (.goto (-35), 3) := by decide +kernel
theorem d_LT_copy_61 : decode b_LT_copy 61 = .ok (.iinc 3 1, 3) := by decide +kernel
theorem d_LT_copy_64 : decode b_LT_copy 64 = .ok (.goto (-60), 3) := by decide +kernel
theorem d_LT_copy_67 : decode b_LT_copy 67 = .ok (.return_, 1) := by decide +kernel
end
section
theorem d_LC_init_0 : decode b_LC_init 0 = .ok (.aload_n 0, 1) := by decide +kernel
theorem d_LC_init_1 : decode b_LC_init 1 = .ok (.invokespecial 1, 3) := by decide +kernel
theorem d_LC_init_4 : decode b_LC_init 4 = .ok (.aload_n 0, 1) := by decide +kernel
theorem d_LC_init_5 : decode b_LC_init 5 = .ok (.new 7, 3) := by decide +kernel
theorem d_LC_init_8 : decode b_LC_init 8 = .ok (.dup, 1) := by decide +kernel
theorem d_LC_init_9 : decode b_LC_init 9 = .ok (.sipush 20000, 3) := by decide +kernel
theorem d_LC_init_12 : decode b_LC_init 12 = .ok (.invokespecial 11, 3) := by decide +kernel
theorem d_LC_init_15 : decode b_LC_init 15 = .ok (.putfield 14, 3) := by decide +kernel
theorem d_LC_init_18 : decode b_LC_init 18 = .ok (.aload_n 0, 1) := by decide +kernel
theorem d_LC_init_19 : decode b_LC_init 19 = .ok (.bipush 64, 2) := by decide +kernel
theorem d_LC_init_21 : decode b_LC_init 21 = .ok (.newarray .int, 2) := by decide +kernel
theorem d_LC_init_23 : decode b_LC_init 23 = .ok (.putfield 18, 3) := by decide +kernel
theorem d_LC_init_26 : decode b_LC_init 26 = .ok (.return_, 1) := by decide +kernel
theorem d_LC_need_0 : decode b_LC_need 0 = .ok (.iload_n 0, 1) := by decide +kernel
theorem d_LC_need_1 : decode b_LC_need 1 = .ok (.ifCond .ne 11, 3) := by decide +kernel
theorem d_LC_need_4 : decode b_LC_need 4 = .ok (.new 22, 3) := by decide +kernel
theorem d_LC_need_7 : decode b_LC_need 7 = .ok (.dup, 1) := by decide +kernel
theorem d_LC_need_8 : decode b_LC_need 8 = .ok (.invokespecial 24, 3) := by decide +kernel
theorem d_LC_need_11 : decode b_LC_need 11 = .ok (.athrow, 1) := by decide +kernel
theorem d_LC_need_12 : decode b_LC_need 12 = .ok (.return_, 1) := by decide +kernel
theorem d_LC_there_0 : decode b_LC_there 0 = .ok (.iload_n 0, 1) := by decide +kernel
theorem d_LC_there_1 : decode b_LC_there 1 = .ok (.ifCond .ne 11, 3) := by decide +kernel
theorem d_LC_there_4 : decode b_LC_there 4 = .ok (.new 25, 3) := by decide +kernel
theorem d_LC_there_7 : decode b_LC_there 7 = .ok (.dup, 1) := by decide +kernel
theorem d_LC_there_8 : decode b_LC_there 8 = .ok (.invokespecial 27, 3) := by decide +kernel
theorem d_LC_there_11 : decode b_LC_there 11 = .ok (.athrow, 1) := by decide +kernel
theorem d_LC_there_12 : decode b_LC_there 12 = .ok (.return_, 1) := by decide +kernel
theorem d_LC_insert_0 : decode b_LC_insert 0 = .ok (.iload_n 1, 1) := by decide +kernel
theorem d_LC_insert_1 : decode b_LC_insert 1 = .ok (.ifCond .lt 32, 3) := by decide +kernel
theorem d_LC_insert_4 : decode b_LC_insert 4 = .ok (.iload_n 1, 1) := by decide +kernel
theorem d_LC_insert_5 : decode b_LC_insert 5 = .ok (.aload_n 0, 1) := by decide +kernel
theorem d_LC_insert_6 : decode b_LC_insert 6 = .ok (.getfield 14, 3) := by decide +kernel
theorem d_LC_insert_9 : decode b_LC_insert 9 = .ok (.getfield 28, 3) := by decide +kernel
theorem d_LC_insert_12 : decode b_LC_insert 12 = .ok (.if_icmp .gt 21, 3) := by decide +kernel
theorem d_LC_insert_15 : decode b_LC_insert 15 = .ok (.iload 4, 2) := by decide +kernel
theorem d_LC_insert_17 : decode b_LC_insert 17 = .ok (.iconst 1, 1) := by decide +kernel
theorem d_LC_insert_18 : decode b_LC_insert 18 = .ok (.if_icmp .lt 15, 3) := by decide +kernel
theorem d_LC_insert_21 : decode b_LC_insert 21 = .ok (.iload 4, 2) := by decide +kernel
theorem d_LC_insert_23 : decode b_LC_insert 23 = .ok (.sipush 500, 3) := by decide +kernel
theorem d_LC_insert_26 : decode b_LC_insert 26 = .ok (.if_icmp .gt 7, 3) := by decide +kernel
theorem d_LC_insert_29 : decode b_LC_insert 29 = .ok (.iconst 1, 1) := by decide +kernel
theorem d_LC_insert_30 : decode b_LC_insert 30 = .ok (.goto 4, 3) := by decide +kernel
theorem d_LC_insert_33 : decode b_LC_insert 33 = .ok (.iconst 0, 1) := by decide +kernel
theorem d_LC_insert_34 : decode b_LC_insert 34 = .ok (.invokestatic 32, 3) := by decide +kernel
theorem d_LC_insert_37 : decode b_LC_insert 37 = .ok (.aload_n 0, 1) := by decide +kernel
theorem d_LC_insert_38 : decode b_LC_insert 38 = .ok (.getfield 14, 3) := by decide +kernel
theorem d_LC_insert_41 : decode b_LC_insert 41 = .ok (.getfield 28, 3) := by decide +kernel
theorem d_LC_insert_44 : decode b_LC_insert 44 = .ok (.iload 4, 2) := by decide +kernel
theorem d_LC_insert_46 : decode b_LC_insert 46 = .ok (.iadd, 1) := by decide +kernel
theorem d_LC_insert_47 : decode b_LC_insert 47 = .ok (.sipush 20000, 3) := by decide +kernel
theorem d_LC_insert_50 : decode b_LC_insert 50 = .ok (.if_icmp .le 11, 3) := by decide +kernel
theorem d_LC_insert_53 : decode b_LC_insert 53 = .ok (.new 36, 3) := by decide +kernel
theorem d_LC_insert_56 : decode b_LC_insert 56 = .ok (.dup, 1) := by decide +kernel
theorem d_LC_insert_57 : decode b_LC_insert 57 = .ok (.invokespecial 38, 3) := by decide +kernel
theorem d_LC_insert_60 : decode b_LC_insert 60 = .ok (.athrow, 1) := by decide +kernel
theorem d_LC_insert_61 : decode b_LC_insert 61 = .ok (.iload_n 2, 1) := by decide +kernel
theorem d_LC_insert_62 : decode b_LC_insert 62 = .ok (.istore 5, 2) := by decide +kernel
theorem d_LC_insert_64 : decode b_LC_insert 64 = .ok (.iconst 0, 1) := by decide +kernel
theorem d_LC_insert_65 : decode b_LC_insert 65 = .ok (.istore 6, 2) := by decide +kernel
theorem d_LC_insert_67 : decode b_LC_insert 67 = .ok (.iload 6, 2) := by decide +kernel
theorem d_LC_insert_69 : decode b_LC_insert 69 = .ok (.iload 4, 2) := by decide +kernel
theorem d_LC_insert_71 : decode b_LC_insert 71 = .ok (.if_icmp .ge 40, 3) := by decide +kernel
theorem d_LC_insert_74 : decode b_LC_insert 74 = .ok (.aload_n 0, 1) := by decide +kernel
theorem d_LC_insert_75 : decode b_LC_insert 75 = .ok (.getfield 14, 3) := by decide +kernel
theorem d_LC_insert_78 : decode b_LC_insert 78 = .ok (.iload_n 1, 1) := by decide +kernel
theorem d_LC_insert_79 : decode b_LC_insert 79 = .ok (.iload 6, 2) := by decide +kernel
theorem d_LC_insert_81 : decode b_LC_insert 81 = .ok (.iadd, 1) := by decide +kernel
theorem d_LC_insert_82 : decode b_LC_insert 82 = .ok (.iload 5, 2) := by decide +kernel
theorem d_LC_insert_84 : decode b_LC_insert 84 = .ok (.iload 5, 2) := by decide +kernel
theorem d_LC_insert_86 : decode b_LC_insert 86 = .ok (.bipush 10, 2) := by decide +kernel
theorem d_LC_insert_88 : decode b_LC_insert 88 = .ok (.if_icmp .ne 7, 3) := by decide +kernel
theorem d_LC_insert_91 : decode b_LC_insert 91 = .ok (.iconst 1, 1) := by decide +kernel
theorem d_LC_insert_92 : decode b_LC_insert 92 = .ok (.goto 4, 3) := by decide +kernel
theorem d_LC_insert_95 : decode b_LC_insert 95 = .ok (.iconst 0, 1) := by decide +kernel
theorem d_LC_insert_96 : decode b_LC_insert 96 = .ok (.invokevirtual 39, 3) := by decide +kernel
theorem d_LC_insert_99 : decode b_LC_insert 99 = .ok (.iload 5, 2) := by decide +kernel
theorem d_LC_insert_101 : decode b_LC_insert 101 = .ok (.iload_n 3, 1) := by decide +kernel
theorem d_LC_insert_102 : decode b_LC_insert 102 = .ok (.iadd, 1) := by decide +kernel
theorem d_LC_insert_103 : decode b_LC_insert 103 = .ok (.istore 5, 2) := by decide +kernel
theorem d_LC_insert_105 : decode b_LC_insert 105 = .ok (.iinc 6 1, 3) := by decide +kernel
theorem d_LC_insert_108 : decode b_LC_insert 108 = .ok (.goto (-41), 3) := by decide +kernel
theorem d_LC_insert_111 : decode b_LC_insert 111 = .ok (.aload_n 0, 1) := by decide +kernel
theorem d_LC_insert_112 : decode b_LC_insert 112 = .ok (.getfield 14, 3) := by decide +kernel
theorem d_LC_insert_115 : decode b_LC_insert 115 = .ok (.getfield 28, 3) := by decide +kernel
theorem d_LC_insert_118 : decode b_LC_insert 118 = .ok (.ireturn, 1) := by decide +kernel
theorem d_LC_delete_0 : decode b_LC_delete 0 = .ok (.iload_n 2, 1) := by decide +kernel
theorem d_LC_delete_1 : decode b_LC_delete 1 = .ok (.iconst 1, 1) := by decide +kernel
theorem d_LC_delete_2 : decode b_LC_delete 2 = .ok (.if_icmp .lt 24, 3) := by decide +kernel
theorem d_LC_delete_5 : decode b_LC_delete 5 = .ok (.iload_n 1, 1) := by decide +kernel
theorem d_LC_delete_6 : decode b_LC_delete 6 = .ok (.ifCond .lt 20, 3) := by decide +kernel
theorem d_LC_delete_9 : decode b_LC_delete 9 = .ok (.iload_n 1, 1) := by decide +kernel
theorem d_LC_delete_10 : decode b_LC_delete 10 = .ok (.aload_n 0, 1) := by decide +kernel
theorem d_LC_delete_11 : decode b_LC_delete 11 = .ok (.getfield 14, 3) := by decide +kernel
theorem d_LC_delete_14 : decode b_LC_delete 14 = .ok (.getfield 28, 3) := by decide +kernel
theorem d_LC_delete_17 : decode b_LC_delete 17 = .ok (.iload_n 2, 1) := by decide +kernel
theorem d_LC_delete_18 : decode b_LC_delete 18 = .ok (.isub, 1) := by decide +kernel
theorem d_LC_delete_19 : decode b_LC_delete 19 = .ok (.if_icmp .gt 7, 3) := by decide +kernel
theorem d_LC_delete_22 : decode b_LC_delete 22 = .ok (.iconst 1, 1) := by decide +kernel
theorem d_LC_delete_23 : decode b_LC_delete 23 = .ok (.goto 4, 3) := by decide +kernel
theorem d_LC_delete_26 : decode b_LC_delete 26 = .ok (.iconst 0, 1) := by decide +kernel
theorem d_LC_delete_27 : decode b_LC_delete 27 = .ok (.invokestatic 32, 3) := by decide +kernel
theorem d_LC_delete_30 : decode b_LC_delete 30 = .ok (.iconst 0, 1) := by decide +kernel
theorem d_LC_delete_31 : decode b_LC_delete 31 = .ok (.istore_n 3, 1) := by decide +kernel
theorem d_LC_delete_32 : decode b_LC_delete 32 = .ok (.iload_n 3, 1) := by decide +kernel
theorem d_LC_delete_33 : decode b_LC_delete 33 = .ok (.iload_n 2, 1) := by decide +kernel
theorem d_LC_delete_34 : decode b_LC_delete 34 = .ok (.if_icmp .ge 17, 3) := by decide +kernel
theorem d_LC_delete_37 : decode b_LC_delete 37 = .ok (.aload_n 0, 1) := by decide +kernel
theorem d_LC_delete_38 : decode b_LC_delete 38 = .ok (.getfield 14, 3) := by decide +kernel
theorem d_LC_delete_41 : decode b_LC_delete 41 = .ok (.iload_n 1, 1) := by decide +kernel
theorem d_LC_delete_42 : decode b_LC_delete 42 = .ok (.invokevirtual 43, 3) := by decide +kernel
theorem d_LC_delete_45 : decode b_LC_delete 45 = .ok (.iinc 3 1, 3) := by decide +kernel
theorem d_LC_delete_48 : decode b_LC_delete 48 = .ok (.goto (-16), 3) := by decide +kernel
theorem d_LC_delete_51 : decode b_LC_delete 51 = .ok (.aload_n 0, 1) := by decide +kernel
theorem d_LC_delete_52 : decode b_LC_delete 52 = .ok (.getfield 14, 3) := by decide +kernel
theorem d_LC_delete_55 : decode b_LC_delete 55 = .ok (.getfield 28, 3) := by decide +kernel
theorem d_LC_delete_58 : decode b_LC_delete 58 = .ok (.ireturn, 1) := by decide +kernel
theorem d_LC_get_0 : decode b_LC_get 0 = .ok (.iload_n 1, 1) := by decide +kernel
theorem d_LC_get_1 : decode b_LC_get 1 = .ok (.ifCond .lt 18, 3) := by decide +kernel
theorem d_LC_get_4 : decode b_LC_get 4 = .ok (.iload_n 1, 1) := by decide +kernel
theorem d_LC_get_5 : decode b_LC_get 5 = .ok (.aload_n 0, 1) := by decide +kernel
theorem d_LC_get_6 : decode b_LC_get 6 = .ok (.getfield 14, 3) := by decide +kernel
theorem d_LC_get_9 : decode b_LC_get 9 = .ok (.getfield 28, 3) := by decide +kernel
theorem d_LC_get_12 : decode b_LC_get 12 = .ok (.if_icmp .ge 7, 3) := by decide +kernel
theorem d_LC_get_15 : decode b_LC_get 15 = .ok (.iconst 1, 1) := by decide +kernel
theorem d_LC_get_16 : decode b_LC_get 16 = .ok (.goto 4, 3) := by decide +kernel
theorem d_LC_get_19 : decode b_LC_get 19 = .ok (.iconst 0, 1) := by decide +kernel
theorem d_LC_get_20 : decode b_LC_get 20 = .ok (.invokestatic 46, 3) := by decide +kernel
theorem d_LC_get_23 : decode b_LC_get 23 = .ok (.aload_n 0, 1) := by decide +kernel
theorem d_LC_get_24 : decode b_LC_get 24 = .ok (.getfield 14, 3) := by decide +kernel
theorem d_LC_get_27 : decode b_LC_get 27 = .ok (.iload_n 1, 1) := by decide +kernel
theorem d_LC_get_28 : decode b_LC_get 28 = .ok (.invokevirtual 49, 3) := by decide +kernel
theorem d_LC_get_31 : decode b_LC_get 31 = .ok (.ireturn, 1) := by decide +kernel
theorem d_LC_length_0 : decode b_LC_length 0 = .ok (.aload_n 0, 1) := by decide +kernel
theorem d_LC_length_1 : decode b_LC_length 1 = .ok (.getfield 14, 3) := by decide +kernel
theorem d_LC_length_4 : decode b_LC_length 4 = .ok (.getfield 28, 3) := by decide +kernel
theorem d_LC_length_7 : decode b_LC_length 7 = .ok (.ireturn, 1) := by decide +kernel
theorem d_LC_lines_0 : decode b_LC_lines 0 = .ok (.aload_n 0, 1) := by decide +kernel
theorem d_LC_lines_1 : decode b_LC_lines 1 = .ok (.getfield 14, 3) := by decide +kernel
theorem d_LC_lines_4 : decode b_LC_lines 4 = .ok (.getfield 53, 3) := by decide +kernel
theorem d_LC_lines_7 : decode b_LC_lines 7 = .ok (.iconst 1, 1) := by decide +kernel
theorem d_LC_lines_8 : decode b_LC_lines 8 = .ok (.iadd, 1) := by decide +kernel
theorem d_LC_lines_9 : decode b_LC_lines 9 = .ok (.ireturn, 1) := by decide +kernel
theorem d_LC_begin_0 : decode b_LC_begin 0 = .ok (.iload_n 1, 1) := by decide +kernel
theorem d_LC_begin_1 : decode b_LC_begin 1 = .ok (.ifCond .ne 7, 3) := by decide +kernel
theorem d_LC_begin_4 : decode b_LC_begin 4 = .ok (.iconst 0, 1) := by decide +kernel
theorem d_LC_begin_5 : decode b_LC_begin 5 = .ok (.goto 11, 3) := by decide +kernel
theorem d_LC_begin_8 : decode b_LC_begin 8 = .ok (.aload_n 0, 1) := by decide +kernel
theorem d_LC_begin_9 : decode b_LC_begin 9 = .ok (.getfield 14, 3) := by decide +kernel
theorem d_LC_begin_12 : decode b_LC_begin 12 = .ok (.iload_n 1, 1) := by decide +kernel
theorem d_LC_begin_13 : decode b_LC_begin 13 = .ok (.invokevirtual 56, 3) := by decide +kernel
theorem d_LC_begin_16 : decode b_LC_begin 16 = .ok (.ireturn, 1) := by decide +kernel
theorem d_LC_line_0 : decode b_LC_line 0 = .ok (.iload_n 1, 1) := by decide +kernel
theorem d_LC_line_1 : decode b_LC_line 1 = .ok (.ifCond .lt 18, 3) := by decide +kernel
theorem d_LC_line_4 : decode b_LC_line 4 = .ok (.iload_n 1, 1) := by decide +kernel
theorem d_LC_line_5 : decode b_LC_line 5 = .ok (.aload_n 0, 1) := by decide +kernel
theorem d_LC_line_6 : decode b_LC_line 6 = .ok (.getfield 14, 3) := by decide +kernel
theorem d_LC_line_9 : decode b_LC_line 9 = .ok (.getfield 53, 3) := by decide +kernel
theorem d_LC_line_12 : decode b_LC_line 12 = .ok (.if_icmp .gt 7, 3) := by decide +kernel
theorem d_LC_line_15 : decode b_LC_line 15 = .ok (.iconst 1, 1) := by decide +kernel
theorem d_LC_line_16 : decode b_LC_line 16 = .ok (.goto 4, 3) := by decide +kernel
theorem d_LC_line_19 : decode b_LC_line 19 = .ok (.iconst 0, 1) := by decide +kernel
theorem d_LC_line_20 : decode b_LC_line 20 = .ok (.invokestatic 46, 3) := by decide +kernel
theorem d_LC_line_23 : decode b_LC_line 23 = .ok (.aload_n 0, 1) := by decide +kernel
theorem d_LC_line_24 : decode b_LC_line 24 = .ok (.iload_n 1, 1) := by decide +kernel
theorem d_LC_line_25 : decode b_LC_line 25 = .ok (.invokevirtual 59, 3) := by decide +kernel
theorem d_LC_line_28 : decode b_LC_line 28 = .ok (.ireturn, 1) := by decide +kernel
theorem d_LC_lineOf_0 : decode b_LC_lineOf 0 = .ok (.iload_n 1, 1) := by decide +kernel
theorem d_LC_lineOf_1 : decode b_LC_lineOf 1 = .ok (.ifCond .lt 18, 3) := by decide +kernel
theorem d_LC_lineOf_4 : decode b_LC_lineOf 4 = .ok (.iload_n 1, 1) := by decide +kernel
theorem d_LC_lineOf_5 : decode b_LC_lineOf 5 = .ok (.aload_n 0, 1) := by decide +kernel
theorem d_LC_lineOf_6 : decode b_LC_lineOf 6 = .ok (.getfield 14, 3) := by decide +kernel
theorem d_LC_lineOf_9 : decode b_LC_lineOf 9 = .ok (.getfield 28, 3) := by decide +kernel
theorem d_LC_lineOf_12 : decode b_LC_lineOf 12 = .ok (.if_icmp .gt 7, 3) := by decide +kernel
theorem d_LC_lineOf_15 : decode b_LC_lineOf 15 = .ok (.iconst 1, 1) := by decide +kernel
theorem d_LC_lineOf_16 : decode b_LC_lineOf 16 = .ok (.goto 4, 3) := by decide +kernel
theorem d_LC_lineOf_19 : decode b_LC_lineOf 19 = .ok (.iconst 0, 1) := by decide +kernel
theorem d_LC_lineOf_20 : decode b_LC_lineOf 20 = .ok (.invokestatic 32, 3) := by decide +kernel
theorem d_LC_lineOf_23 : decode b_LC_lineOf 23 = .ok (.iconst 0, 1) := by decide +kernel
theorem d_LC_lineOf_24 : decode b_LC_lineOf 24 = .ok (.istore_n 2, 1) := by decide +kernel
theorem d_LC_lineOf_25 : decode b_LC_lineOf 25 = .ok (.aload_n 0, 1) := by decide +kernel
theorem d_LC_lineOf_26 : decode b_LC_lineOf 26 = .ok (.getfield 14, 3) := by decide +kernel
theorem d_LC_lineOf_29 : decode b_LC_lineOf 29 = .ok (.getfield 53, 3) := by decide +kernel
theorem d_LC_lineOf_32 : decode b_LC_lineOf 32 = .ok (.istore_n 3, 1) := by decide +kernel
theorem d_LC_lineOf_33 : decode b_LC_lineOf 33 = .ok (.iload_n 2, 1) := by decide +kernel
theorem d_LC_lineOf_34 : decode b_LC_lineOf 34 = .ok (.iload_n 3, 1) := by decide +kernel
theorem d_LC_lineOf_35 : decode b_LC_lineOf 35 = .ok (.if_icmp .ge 36, 3) := by decide +kernel
theorem d_LC_lineOf_38 : decode b_LC_lineOf 38 = .ok (.iload_n 2, 1) := by decide +kernel
theorem d_LC_lineOf_39 : decode b_LC_lineOf 39 = .ok (.iload_n 3, 1) := by decide +kernel
theorem d_LC_lineOf_40 : decode b_LC_lineOf 40 = .ok (.iadd, 1) := by decide +kernel
theorem d_LC_lineOf_41 : decode b_LC_lineOf 41 = .ok (.iconst 1, 1) := by decide +kernel
theorem d_LC_lineOf_42 : decode b_LC_lineOf 42 = .ok (.iadd, 1) := by decide +kernel
theorem d_LC_lineOf_43 : decode b_LC_lineOf 43 = .ok (.iconst 2, 1) := by decide +kernel
theorem d_LC_lineOf_44 : decode b_LC_lineOf 44 = .ok (.idiv, 1) := by decide +kernel
theorem d_LC_lineOf_45 : decode b_LC_lineOf 45 = .ok (.istore 4, 2) := by decide +kernel
theorem d_LC_lineOf_47 : decode b_LC_lineOf 47 = .ok (.aload_n 0, 1) := by decide +kernel
theorem d_LC_lineOf_48 : decode b_LC_lineOf 48 = .ok (.iload 4, 2) := by decide +kernel
theorem d_LC_lineOf_50 : decode b_LC_lineOf 50 = .ok (.invokevirtual 59, 3) := by decide +kernel
theorem d_LC_lineOf_53 : decode b_LC_lineOf 53 = .ok (.iload_n 1, 1) := by decide +kernel
theorem d_LC_lineOf_54 : decode b_LC_lineOf 54 = .ok (.if_icmp .gt 9, 3) := by decide +kernel
theorem d_LC_lineOf_57 : decode b_LC_lineOf 57 = .ok (.iload 4, 2) := by decide +kernel
theorem d_LC_lineOf_59 : decode b_LC_lineOf 59 = .ok (.istore_n 2, 1) := by decide +kernel
theorem d_LC_lineOf_60 : decode b_LC_lineOf 60 = .ok (.goto 8, 3) := by decide +kernel
theorem d_LC_lineOf_63 : decode b_LC_lineOf 63 = .ok (.iload 4, 2) := by decide +kernel
theorem d_LC_lineOf_65 : decode b_LC_lineOf 65 = .ok (.iconst 1, 1) := by decide +kernel
theorem d_LC_lineOf_66 : decode b_LC_lineOf 66 = .ok (.isub, 1) := by decide +kernel
theorem d_LC_lineOf_67 : decode b_LC_lineOf 67 = .ok (.istore_n 3, 1) := by decide +kernel
theorem d_LC_lineOf_68 : decode b_LC_lineOf 68 = .ok (.goto (-35), 3) := by decide +kernel
theorem d_LC_lineOf_71 : decode b_LC_lineOf 71 = .ok (.iload_n 2, 1) := by decide +kernel
theorem d_LC_lineOf_72 : decode b_LC_lineOf 72 = .ok (.ireturn, 1) := by decide +kernel
theorem d_LC_digest_0 : decode b_LC_digest 0 = .ok (.aload_n 0, 1) := by decide +kernel
theorem d_LC_digest_1 : decode b_LC_digest 1 = .ok (.getfield 18, 3) := by decide +kernel
theorem d_LC_digest_4 : decode b_LC_digest 4 = .ok (.arraylength, 1) := by decide +kernel
theorem d_LC_digest_5 : decode b_LC_digest 5 = .ok (.aload_n 0, 1) := by decide +kernel
theorem d_LC_digest_6 : decode b_LC_digest 6 = .ok (.getfield 14, 3) := by decide +kernel
theorem d_LC_digest_9 : decode b_LC_digest 9 = .ok (.getfield 28, 3) := by decide +kernel
theorem d_LC_digest_12 : decode b_LC_digest 12 = .ok (.if_icmp .ge 19, 3) := by decide +kernel
theorem d_LC_digest_15 : decode b_LC_digest 15 = .ok (.aload_n 0, 1) := by decide +kernel
theorem d_LC_digest_16 : decode b_LC_digest 16 = .ok (.iconst 2, 1) := by decide +kernel
theorem d_LC_digest_17 : decode b_LC_digest 17 = .ok (.aload_n 0, 1) := by decide +kernel
theorem d_LC_digest_18 : decode b_LC_digest 18 = .ok (.getfield 18, 3) := by decide +kernel
theorem d_LC_digest_21 : decode b_LC_digest 21 = .ok (.arraylength, 1) := by decide +kernel
theorem d_LC_digest_22 : decode b_LC_digest 22 = .ok (.imul, 1) := by decide +kernel
theorem d_LC_digest_23 : decode b_LC_digest 23 = .ok (.newarray .int, 2) := by decide +kernel
theorem d_LC_digest_25 : decode b_LC_digest 25 = .ok (.putfield 18, 3) := by decide +kernel
theorem d_LC_digest_28 : decode b_LC_digest 28 = .ok (.goto (-28), 3) := by decide +kernel
theorem d_LC_digest_31 : decode b_LC_digest 31 = .ok (.aload_n 0, 1) := by decide +kernel
theorem d_LC_digest_32 : decode b_LC_digest 32 = .ok (.getfield 14, 3) := by decide +kernel
theorem d_LC_digest_35 : decode b_LC_digest 35 = .ok (.aload_n 0, 1) := by decide +kernel
theorem d_LC_digest_36 : decode b_LC_digest 36 = .ok (.getfield 18, 3) := by decide +kernel
theorem d_LC_digest_39 : decode b_LC_digest 39 = .ok (.invokevirtual 62, 3) := by decide +kernel
theorem d_LC_digest_42 : decode b_LC_digest 42 = .ok (.iconst 0, 1) := by decide +kernel
theorem d_LC_digest_43 : decode b_LC_digest 43 = .ok (.istore_n 1, 1) := by decide +kernel
theorem d_LC_digest_44 : decode b_LC_digest 44 = .ok (.iconst 0, 1) := by decide +kernel
theorem d_LC_digest_45 : decode b_LC_digest 45 = .ok (.istore_n 2, 1) := by decide +kernel
theorem d_LC_digest_46 : decode b_LC_digest 46 = .ok (.iload_n 2, 1) := by decide +kernel
theorem d_LC_digest_47 : decode b_LC_digest 47 = .ok (.aload_n 0, 1) := by decide +kernel
theorem d_LC_digest_48 : decode b_LC_digest 48 = .ok (.getfield 14, 3) := by decide +kernel
theorem d_LC_digest_51 : decode b_LC_digest 51 = .ok (.getfield 28, 3) := by decide +kernel
theorem d_LC_digest_54 : decode b_LC_digest 54 = .ok (.if_icmp .ge 22, 3) := by decide +kernel
theorem d_LC_digest_57 : decode b_LC_digest 57 = .ok (.iload_n 1, 1) := by decide +kernel
theorem d_LC_digest_58 : decode b_LC_digest 58 = .ok (.aload_n 0, 1) := by decide +kernel
theorem d_LC_digest_59 : decode b_LC_digest 59 = .ok (.getfield 18, 3) := by decide +kernel
theorem d_LC_digest_62 : decode b_LC_digest 62 = .ok (.iload_n 2, 1) := by decide +kernel
theorem d_LC_digest_63 : decode b_LC_digest 63 = .ok (.iaload, 1) := by decide +kernel
theorem d_LC_digest_64 : decode b_LC_digest 64 = .ok (.iload_n 2, 1) := by decide +kernel
theorem d_LC_digest_65 : decode b_LC_digest 65 = .ok (.iconst 1, 1) := by decide +kernel
theorem d_LC_digest_66 : decode b_LC_digest 66 = .ok (.iadd, 1) := by decide +kernel
theorem d_LC_digest_67 : decode b_LC_digest 67 = .ok (.imul, 1) := by decide +kernel
theorem d_LC_digest_68 : decode b_LC_digest 68 = .ok (.iadd, 1) := by decide +kernel
theorem d_LC_digest_69 : decode b_LC_digest 69 = .ok (.istore_n 1, 1) := by decide +kernel
theorem d_LC_digest_70 : decode b_LC_digest 70 = .ok (.iinc 2 1, 3) := by decide +kernel
theorem d_LC_digest_73 : decode b_LC_digest 73 = .ok (.goto (-27), 3) := by decide +kernel
theorem d_LC_digest_76 : decode b_LC_digest 76 = .ok (.iload_n 1, 1) := by decide +kernel
theorem d_LC_digest_77 : decode b_LC_digest 77 = .ok (.ireturn, 1) := by decide +kernel
end
section
theorem d_LW_insert_0 : decode b_LW_insert 0 = .ok (.aload 5, 2) := by decide +kernel
theorem d_LW_insert_2 : decode b_LW_insert 2 = .ok (.iconst 0, 1) := by decide +kernel
theorem d_LW_insert_3 : decode b_LW_insert 3 = .ok (.aload_n 0, 1) := by decide +kernel
theorem d_LW_insert_4 : decode b_LW_insert 4 = .ok (.iload_n 1, 1) := by decide +kernel
theorem d_LW_insert_5 : decode b_LW_insert 5 = .ok (.iload_n 2, 1) := by decide +kernel
theorem d_LW_insert_6 : decode b_LW_insert 6 = .ok (.iload_n 3, 1) := by decide +kernel
theorem d_LW_insert_7 : decode b_LW_insert 7 = .ok (.iload 4, 2) := by decide +kernel
theorem d_LW_insert_9 : decode b_LW_insert 9 = .ok (.invokevirtual 7, 3) := by decide +kernel
theorem d_LW_insert_12 : decode b_LW_insert 12 = .ok (.i2l, 1) := by decide +kernel
theorem d_LW_insert_13 : decode b_LW_insert 13 = .ok (.lastore, 1) := by decide +kernel
theorem d_LW_insert_14 : decode b_LW_insert 14 = .ok (.goto 11, 3) := by decide +kernel
theorem d_LW_insert_17 : decode b_LW_insert 17 = .ok (.astore 6, 2) := by decide +kernel
theorem d_LW_insert_19 : decode b_LW_insert 19 = .ok (.iconst 1, 1) := by decide +kernel
theorem d_LW_insert_20 : decode b_LW_insert 20 = .ok (.ireturn, 1) := by decide +kernel
theorem d_LW_insert_21 : decode b_LW_insert 21 = .ok (.astore 6, 2) := by decide +kernel
theorem d_LW_insert_23 : decode b_LW_insert 23 = .ok (.iconst 2, 1) := by decide +kernel
theorem d_LW_insert_24 : decode b_LW_insert 24 = .ok (.ireturn, 1) := by decide +kernel
theorem d_LW_insert_25 : decode b_LW_insert 25 = .ok (.iconst 0, 1) := by decide +kernel
theorem d_LW_insert_26 : decode b_LW_insert 26 = .ok (.ireturn, 1) := by decide +kernel
theorem d_LW_delete_0 : decode b_LW_delete 0 = .ok (.aload_n 3, 1) := by decide +kernel
theorem d_LW_delete_1 : decode b_LW_delete 1 = .ok (.iconst 0, 1) := by decide +kernel
theorem d_LW_delete_2 : decode b_LW_delete 2 = .ok (.aload_n 0, 1) := by decide +kernel
theorem d_LW_delete_3 : decode b_LW_delete 3 = .ok (.iload_n 1, 1) := by decide +kernel
theorem d_LW_delete_4 : decode b_LW_delete 4 = .ok (.iload_n 2, 1) := by decide +kernel
theorem d_LW_delete_5 : decode b_LW_delete 5 = .ok (.invokevirtual 17, 3) := by decide +kernel
theorem d_LW_delete_8 : decode b_LW_delete 8 = .ok (.i2l, 1) := by decide +kernel
theorem d_LW_delete_9 : decode b_LW_delete 9 = .ok (.lastore, 1) := by decide +kernel
theorem d_LW_delete_10 : decode b_LW_delete 10 = .ok (.goto 7, 3) := by decide +kernel
theorem d_LW_delete_13 : decode b_LW_delete 13 = .ok (.astore 4, 2) := by decide +kernel
theorem d_LW_delete_15 : decode b_LW_delete 15 = .ok (.iconst 1, 1) := by decide +kernel
theorem d_LW_delete_16 : decode b_LW_delete 16 = .ok (.ireturn, 1) := by decide +kernel
theorem d_LW_delete_17 : decode b_LW_delete 17 = .ok (.iconst 0, 1) := by decide +kernel
theorem d_LW_delete_18 : decode b_LW_delete 18 = .ok (.ireturn, 1) := by decide +kernel
theorem d_LW_get_0 : decode b_LW_get 0 = .ok (.aload_n 2, 1) := by decide +kernel
theorem d_LW_get_1 : decode b_LW_get 1 = .ok (.iconst 0, 1) := by decide +kernel
theorem d_LW_get_2 : decode b_LW_get 2 = .ok (.aload_n 0, 1) := by decide +kernel
theorem d_LW_get_3 : decode b_LW_get 3 = .ok (.iload_n 1, 1) := by decide +kernel
theorem d_LW_get_4 : decode b_LW_get 4 = .ok (.invokevirtual 21, 3) := by decide +kernel
theorem d_LW_get_7 : decode b_LW_get 7 = .ok (.i2l, 1) := by decide +kernel
theorem d_LW_get_8 : decode b_LW_get 8 = .ok (.lastore, 1) := by decide +kernel
theorem d_LW_get_9 : decode b_LW_get 9 = .ok (.goto 6, 3) := by decide +kernel
theorem d_LW_get_12 : decode b_LW_get 12 = .ok (.astore_n 3, 1) := by decide +kernel
theorem d_LW_get_13 : decode b_LW_get 13 = .ok (.iconst 1, 1) := by decide +kernel
theorem d_LW_get_14 : decode b_LW_get 14 = .ok (.ireturn, 1) := by decide +kernel
theorem d_LW_get_15 : decode b_LW_get 15 = .ok (.iconst 0, 1) := by decide +kernel
theorem d_LW_get_16 : decode b_LW_get 16 = .ok (.ireturn, 1) := by decide +kernel
theorem d_LW_line_0 : decode b_LW_line 0 = .ok (.aload_n 2, 1) := by decide +kernel
theorem d_LW_line_1 : decode b_LW_line 1 = .ok (.iconst 0, 1) := by decide +kernel
theorem d_LW_line_2 : decode b_LW_line 2 = .ok (.aload_n 0, 1) := by decide +kernel
theorem d_LW_line_3 : decode b_LW_line 3 = .ok (.iload_n 1, 1) := by decide +kernel
theorem d_LW_line_4 : decode b_LW_line 4 = .ok (.invokevirtual 27, 3) := by decide +kernel
theorem d_LW_line_7 : decode b_LW_line 7 = .ok (.i2l, 1) := by decide +kernel
theorem d_LW_line_8 : decode b_LW_line 8 = .ok (.lastore, 1) := by decide +kernel
theorem d_LW_line_9 : decode b_LW_line 9 = .ok (.goto 6, 3) := by decide +kernel
theorem d_LW_line_12 : decode b_LW_line 12 = .ok (.astore_n 3, 1) := by decide +kernel
theorem d_LW_line_13 : decode b_LW_line 13 = .ok (.iconst 1, 1) := by decide +kernel
theorem d_LW_line_14 : decode b_LW_line 14 = .ok (.ireturn, 1) := by decide +kernel
theorem d_LW_line_15 : decode b_LW_line 15 = .ok (.iconst 0, 1) := by decide +kernel
theorem d_LW_line_16 : decode b_LW_line 16 = .ok (.ireturn, 1) := by decide +kernel
theorem d_LW_lineOf_0 : decode b_LW_lineOf 0 = .ok (.aload_n 2, 1) := by decide +kernel
theorem d_LW_lineOf_1 : decode b_LW_lineOf 1 = .ok (.iconst 0, 1) := by decide +kernel
theorem d_LW_lineOf_2 : decode b_LW_lineOf 2 = .ok (.aload_n 0, 1) := by decide +kernel
theorem d_LW_lineOf_3 : decode b_LW_lineOf 3 = .ok (.iload_n 1, 1) := by decide +kernel
theorem d_LW_lineOf_4 : decode b_LW_lineOf 4 = .ok (.invokevirtual 30, 3) := by decide +kernel
theorem d_LW_lineOf_7 : decode b_LW_lineOf 7 = .ok (.i2l, 1) := by decide +kernel
theorem d_LW_lineOf_8 : decode b_LW_lineOf 8 = .ok (.lastore, 1) := by decide +kernel
theorem d_LW_lineOf_9 : decode b_LW_lineOf 9 = .ok (.goto 6, 3) := by decide +kernel
theorem d_LW_lineOf_12 : decode b_LW_lineOf 12 = .ok (.astore_n 3, 1) := by decide +kernel
theorem d_LW_lineOf_13 : decode b_LW_lineOf 13 = .ok (.iconst 1, 1) := by decide +kernel
theorem d_LW_lineOf_14 : decode b_LW_lineOf 14 = .ok (.ireturn, 1) := by decide +kernel
theorem d_LW_lineOf_15 : decode b_LW_lineOf 15 = .ok (.iconst 0, 1) := by decide +kernel
theorem d_LW_lineOf_16 : decode b_LW_lineOf 16 = .ok (.ireturn, 1) := by decide +kernel
theorem d_LW_law_0 : decode code 0 = .ok (.new 8, 3) := by decide +kernel
theorem d_LW_law_3 : decode code 3 = .ok (.dup, 1) := by decide +kernel
theorem d_LW_law_4 : decode code 4 = .ok (.invokespecial 33, 3) := by decide +kernel
theorem d_LW_law_7 : decode code 7 = .ok (.astore_n 1, 1) := by decide +kernel
theorem d_LW_law_8 : decode code 8 = .ok (.new 34, 3) := by decide +kernel
theorem d_LW_law_11 : decode code 11 = .ok (.dup, 1) := by decide +kernel
theorem d_LW_law_12 : decode code 12 = .ok (.invokespecial 36, 3) := by decide +kernel
theorem d_LW_law_15 : decode code 15 = .ok (.astore_n 2, 1) := by decide +kernel
theorem d_LW_law_16 : decode code 16 = .ok (.iconst 1, 1) := by decide +kernel
theorem d_LW_law_17 : decode code 17 = .ok (.newarray .long, 2) := by decide +kernel
theorem d_LW_law_19 : decode code 19 = .ok (.astore_n 3, 1) := by decide +kernel
theorem d_LW_law_20 : decode code 20 = .ok (.iconst 0, 1) := by decide +kernel
theorem d_LW_law_21 : decode code 21 = .ok (.istore 4, 2) := by decide +kernel
theorem d_LW_law_23 : decode code 23 = .ok (.iload 4, 2) := by decide +kernel
theorem d_LW_law_25 : decode code 25 = .ok (.aload_n 0, 1) := by decide +kernel
theorem d_LW_law_26 : decode code 26 = .ok (.arraylength, 1) := by decide +kernel
theorem d_LW_law_27 : decode code 27 = .ok (.iconst 5, 1) := by decide +kernel
theorem d_LW_law_28 : decode code 28 = .ok (.isub, 1) := by decide +kernel
theorem d_LW_law_29 : decode code 29 = .ok (.if_icmp .gt 428, 3) := by decide +kernel
theorem d_LW_law_32 : decode code 32 = .ok (.aload_n 0, 1) := by decide +kernel
theorem d_LW_law_33 : decode code 33 = .ok (.iload 4, 2) := by decide +kernel
theorem d_LW_law_35 : decode code 35 = .ok (.iaload, 1) := by decide +kernel
theorem d_LW_law_36 : decode code 36 = .ok (.bipush 7, 2) := by decide +kernel
theorem d_LW_law_38 : decode code 38 = .ok (.iand, 1) := by decide +kernel
theorem d_LW_law_39 : decode code 39 = .ok (.tableswitch 412 0 7 #[45, 137, 205, 261, 274, 287, 343, 399], 45) := by decide +kernel
theorem d_LW_law_84 : decode code 84 = .ok (.aload_n 1, 1) := by decide +kernel
theorem d_LW_law_85 : decode code 85 = .ok (.aload_n 0, 1) := by decide +kernel
theorem d_LW_law_86 : decode code 86 = .ok (.iload 4, 2) := by decide +kernel
theorem d_LW_law_88 : decode code 88 = .ok (.iconst 1, 1) := by decide +kernel
theorem d_LW_law_89 : decode code 89 = .ok (.iadd, 1) := by decide +kernel
theorem d_LW_law_90 : decode code 90 = .ok (.iaload, 1) := by decide +kernel
theorem d_LW_law_91 : decode code 91 = .ok (.aload_n 0, 1) := by decide +kernel
theorem d_LW_law_92 : decode code 92 = .ok (.iload 4, 2) := by decide +kernel
theorem d_LW_law_94 : decode code 94 = .ok (.iconst 2, 1) := by decide +kernel
theorem d_LW_law_95 : decode code 95 = .ok (.iadd, 1) := by decide +kernel
theorem d_LW_law_96 : decode code 96 = .ok (.iaload, 1) := by decide +kernel
theorem d_LW_law_97 : decode code 97 = .ok (.aload_n 0, 1) := by decide +kernel
theorem d_LW_law_98 : decode code 98 = .ok (.iload 4, 2) := by decide +kernel
theorem d_LW_law_100 : decode code 100 = .ok (.iconst 3, 1) := by decide +kernel
theorem d_LW_law_101 : decode code 101 = .ok (.iadd, 1) := by decide +kernel
theorem d_LW_law_102 : decode code 102 = .ok (.iaload, 1) := by decide +kernel
theorem d_LW_law_103 : decode code 103 = .ok (.aload_n 0, 1) := by decide +kernel
theorem d_LW_law_104 : decode code 104 = .ok (.iload 4, 2) := by decide +kernel
theorem d_LW_law_106 : decode code 106 = .ok (.iconst 4, 1) := by decide +kernel
theorem d_LW_law_107 : decode code 107 = .ok (.iadd, 1) := by decide +kernel
theorem d_LW_law_108 : decode code 108 = .ok (.iaload, 1) := by decide +kernel
theorem d_LW_law_109 : decode code 109 = .ok (.aload_n 3, 1) := by decide +kernel
theorem d_LW_law_110 : decode code 110 = .ok (.invokestatic 37, 3) := by decide +kernel
theorem d_LW_law_113 : decode code 113 = .ok (.istore 5, 2) := by decide +kernel
theorem d_LW_law_115 : decode code 115 = .ok (.aload_n 2, 1) := by decide +kernel
theorem d_LW_law_116 : decode code 116 = .ok (.aload_n 0, 1) := by decide +kernel
theorem d_LW_law_117 : decode code 117 = .ok (.iload 4, 2) := by decide +kernel
theorem d_LW_law_119 : decode code 119 = .ok (.iconst 1, 1) := by decide +kernel
theorem d_LW_law_120 : decode code 120 = .ok (.iadd, 1) := by decide +kernel
theorem d_LW_law_121 : decode code 121 = .ok (.iaload, 1) := by decide +kernel
theorem d_LW_law_122 : decode code 122 = .ok (.aload_n 0, 1) := by decide +kernel
theorem d_LW_law_123 : decode code 123 = .ok (.iload 4, 2) := by decide +kernel
theorem d_LW_law_125 : decode code 125 = .ok (.iconst 2, 1) := by decide +kernel
theorem d_LW_law_126 : decode code 126 = .ok (.iadd, 1) := by decide +kernel
theorem d_LW_law_127 : decode code 127 = .ok (.iaload, 1) := by decide +kernel
theorem d_LW_law_128 : decode code 128 = .ok (.aload_n 0, 1) := by decide +kernel
theorem d_LW_law_129 : decode code 129 = .ok (.iload 4, 2) := by decide +kernel
theorem d_LW_law_131 : decode code 131 = .ok (.iconst 3, 1) := by decide +kernel
theorem d_LW_law_132 : decode code 132 = .ok (.iadd, 1) := by decide +kernel
theorem d_LW_law_133 : decode code 133 = .ok (.iaload, 1) := by decide +kernel
theorem d_LW_law_134 : decode code 134 = .ok (.aload_n 0, 1) := by decide +kernel
theorem d_LW_law_135 : decode code 135 = .ok (.iload 4, 2) := by decide +kernel
theorem d_LW_law_137 : decode code 137 = .ok (.iconst 4, 1) := by decide +kernel
theorem d_LW_law_138 : decode code 138 = .ok (.iadd, 1) := by decide +kernel
theorem d_LW_law_139 : decode code 139 = .ok (.iaload, 1) := by decide +kernel
theorem d_LW_law_140 : decode code 140 = .ok (.invokevirtual 42, 3) := by decide +kernel
theorem d_LW_law_143 : decode code 143 = .ok (.istore 6, 2) := by decide +kernel
theorem d_LW_law_145 : decode code 145 = .ok (.aload_n 2, 1) := by decide +kernel
theorem d_LW_law_146 : decode code 146 = .ok (.invokevirtual 43, 3) := by decide +kernel
theorem d_LW_law_149 : decode code 149 = .ok (.iload 5, 2) := by decide +kernel
theorem d_LW_law_151 : decode code 151 = .ok (.if_icmp .eq 5, 3) := by decide +kernel
theorem d_LW_law_154 : decode code 154 = .ok (.iconst 0, 1) := by decide +kernel
theorem d_LW_law_155 : decode code 155 = .ok (.ireturn, 1) := by decide +kernel
theorem d_LW_law_156 : decode code 156 = .ok (.iload 5, 2) := by decide +kernel
theorem d_LW_law_158 : decode code 158 = .ok (.ifCond .ne 15, 3) := by decide +kernel
theorem d_LW_law_161 : decode code 161 = .ok (.aload_n 3, 1) := by decide +kernel
theorem d_LW_law_162 : decode code 162 = .ok (.iconst 0, 1) := by decide +kernel
theorem d_LW_law_163 : decode code 163 = .ok (.laload, 1) := by decide +kernel
theorem d_LW_law_164 : decode code 164 = .ok (.iload 6, 2) := by decide +kernel
theorem d_LW_law_166 : decode code 166 = .ok (.i2l, 1) := by decide +kernel
theorem d_LW_law_167 : decode code 167 = .ok (.lcmp, 1) := by decide +kernel
theorem d_LW_law_168 : decode code 168 = .ok (.ifCond .eq 5, 3) := by decide +kernel
theorem d_LW_law_171 : decode code 171 = .ok (.iconst 0, 1) := by decide +kernel
theorem d_LW_law_172 : decode code 172 = .ok (.ireturn, 1) := by decide +kernel
theorem d_LW_law_173 : decode code 173 = .ok (.goto 278, 3) := by decide +kernel
theorem d_LW_law_176 : decode code 176 = .ok (.aload_n 1, 1) := by decide +kernel
theorem d_LW_law_177 : decode code 177 = .ok (.aload_n 0, 1) := by decide +kernel
theorem d_LW_law_178 : decode code 178 = .ok (.iload 4, 2) := by decide +kernel
theorem d_LW_law_180 : decode code 180 = .ok (.iconst 1, 1) := by decide +kernel
theorem d_LW_law_181 : decode code 181 = .ok (.iadd, 1) := by decide +kernel
theorem d_LW_law_182 : decode code 182 = .ok (.iaload, 1) := by decide +kernel
theorem d_LW_law_183 : decode code 183 = .ok (.aload_n 0, 1) := by decide +kernel
theorem d_LW_law_184 : decode code 184 = .ok (.iload 4, 2) := by decide +kernel
theorem d_LW_law_186 : decode code 186 = .ok (.iconst 2, 1) := by decide +kernel
theorem d_LW_law_187 : decode code 187 = .ok (.iadd, 1) := by decide +kernel
theorem d_LW_law_188 : decode code 188 = .ok (.iaload, 1) := by decide +kernel
theorem d_LW_law_189 : decode code 189 = .ok (.aload_n 3, 1) := by decide +kernel
theorem d_LW_law_190 : decode code 190 = .ok (.invokestatic 47, 3) := by decide +kernel
theorem d_LW_law_193 : decode code 193 = .ok (.istore 5, 2) := by decide +kernel
theorem d_LW_law_195 : decode code 195 = .ok (.aload_n 2, 1) := by decide +kernel
theorem d_LW_law_196 : decode code 196 = .ok (.aload_n 0, 1) := by decide +kernel
theorem d_LW_law_197 : decode code 197 = .ok (.iload 4, 2) := by decide +kernel
theorem d_LW_law_199 : decode code 199 = .ok (.iconst 1, 1) := by decide +kernel
theorem d_LW_law_200 : decode code 200 = .ok (.iadd, 1) := by decide +kernel
theorem d_LW_law_201 : decode code 201 = .ok (.iaload, 1) := by decide +kernel
theorem d_LW_law_202 : decode code 202 = .ok (.aload_n 0, 1) := by decide +kernel
theorem d_LW_law_203 : decode code 203 = .ok (.iload 4, 2) := by decide +kernel
theorem d_LW_law_205 : decode code 205 = .ok (.iconst 2, 1) := by decide +kernel
theorem d_LW_law_206 : decode code 206 = .ok (.iadd, 1) := by decide +kernel
theorem d_LW_law_207 : decode code 207 = .ok (.iaload, 1) := by decide +kernel
theorem d_LW_law_208 : decode code 208 = .ok (.invokevirtual 50, 3) := by decide +kernel
theorem d_LW_law_211 : decode code 211 = .ok (.istore 6, 2) := by decide +kernel
theorem d_LW_law_213 : decode code 213 = .ok (.aload_n 2, 1) := by decide +kernel
theorem d_LW_law_214 : decode code 214 = .ok (.invokevirtual 43, 3) := by decide +kernel
theorem d_LW_law_217 : decode code 217 = .ok (.iload 5, 2) := by decide +kernel
theorem d_LW_law_219 : decode code 219 = .ok (.if_icmp .eq 5, 3) := by decide +kernel
theorem d_LW_law_222 : decode code 222 = .ok (.iconst 0, 1) := by decide +kernel
theorem d_LW_law_223 : decode code 223 = .ok (.ireturn, 1) := by decide +kernel
theorem d_LW_law_224 : decode code 224 = .ok (.iload 5, 2) := by decide +kernel
theorem d_LW_law_226 : decode code 226 = .ok (.ifCond .ne 15, 3) := by decide +kernel
theorem d_LW_law_229 : decode code 229 = .ok (.aload_n 3, 1) := by decide +kernel
theorem d_LW_law_230 : decode code 230 = .ok (.iconst 0, 1) := by decide +kernel
theorem d_LW_law_231 : decode code 231 = .ok (.laload, 1) := by decide +kernel
theorem d_LW_law_232 : decode code 232 = .ok (.iload 6, 2) := by decide +kernel
theorem d_LW_law_234 : decode code 234 = .ok (.i2l, 1) := by decide +kernel
theorem d_LW_law_235 : decode code 235 = .ok (.lcmp, 1) := by decide +kernel
theorem d_LW_law_236 : decode code 236 = .ok (.ifCond .eq 5, 3) := by decide +kernel
theorem d_LW_law_239 : decode code 239 = .ok (.iconst 0, 1) := by decide +kernel
theorem d_LW_law_240 : decode code 240 = .ok (.ireturn, 1) := by decide +kernel
theorem d_LW_law_241 : decode code 241 = .ok (.goto 210, 3) := by decide +kernel
theorem d_LW_law_244 : decode code 244 = .ok (.aload_n 1, 1) := by decide +kernel
theorem d_LW_law_245 : decode code 245 = .ok (.aload_n 0, 1) := by decide +kernel
theorem d_LW_law_246 : decode code 246 = .ok (.iload 4, 2) := by decide +kernel
theorem d_LW_law_248 : decode code 248 = .ok (.iconst 1, 1) := by decide +kernel
theorem d_LW_law_249 : decode code 249 = .ok (.iadd, 1) := by decide +kernel
theorem d_LW_law_250 : decode code 250 = .ok (.iaload, 1) := by decide +kernel
theorem d_LW_law_251 : decode code 251 = .ok (.aload_n 3, 1) := by decide +kernel
theorem d_LW_law_252 : decode code 252 = .ok (.invokestatic 51, 3) := by decide +kernel
theorem d_LW_law_255 : decode code 255 = .ok (.istore 5, 2) := by decide +kernel
theorem d_LW_law_257 : decode code 257 = .ok (.aload_n 2, 1) := by decide +kernel
theorem d_LW_law_258 : decode code 258 = .ok (.aload_n 0, 1) := by decide +kernel
theorem d_LW_law_259 : decode code 259 = .ok (.iload 4, 2) := by decide +kernel
theorem d_LW_law_261 : decode code 261 = .ok (.iconst 1, 1) := by decide +kernel
theorem d_LW_law_262 : decode code 262 = .ok (.iadd, 1) := by decide +kernel
theorem d_LW_law_263 : decode code 263 = .ok (.iaload, 1) := by decide +kernel
theorem d_LW_law_264 : decode code 264 = .ok (.invokevirtual 54, 3) := by decide +kernel
theorem d_LW_law_267 : decode code 267 = .ok (.istore 6, 2) := by decide +kernel
theorem d_LW_law_269 : decode code 269 = .ok (.aload_n 2, 1) := by decide +kernel
theorem d_LW_law_270 : decode code 270 = .ok (.invokevirtual 43, 3) := by decide +kernel
theorem d_LW_law_273 : decode code 273 = .ok (.iload 5, 2) := by decide +kernel
theorem d_LW_law_275 : decode code 275 = .ok (.if_icmp .eq 5, 3) := by decide +kernel
theorem d_LW_law_278 : decode code 278 = .ok (.iconst 0, 1) := by decide +kernel
theorem d_LW_law_279 : decode code 279 = .ok (.ireturn, 1) := by decide +kernel
theorem d_LW_law_280 : decode code 280 = .ok (.iload 5, 2) := by decide +kernel
theorem d_LW_law_282 : decode code 282 = .ok (.ifCond .ne 15, 3) := by decide +kernel
theorem d_LW_law_285 : decode code 285 = .ok (.aload_n 3, 1) := by decide +kernel
theorem d_LW_law_286 : decode code 286 = .ok (.iconst 0, 1) := by decide +kernel
theorem d_LW_law_287 : decode code 287 = .ok (.laload, 1) := by decide +kernel
theorem d_LW_law_288 : decode code 288 = .ok (.iload 6, 2) := by decide +kernel
theorem d_LW_law_290 : decode code 290 = .ok (.i2l, 1) := by decide +kernel
theorem d_LW_law_291 : decode code 291 = .ok (.lcmp, 1) := by decide +kernel
theorem d_LW_law_292 : decode code 292 = .ok (.ifCond .eq 5, 3) := by decide +kernel
theorem d_LW_law_295 : decode code 295 = .ok (.iconst 0, 1) := by decide +kernel
theorem d_LW_law_296 : decode code 296 = .ok (.ireturn, 1) := by decide +kernel
theorem d_LW_law_297 : decode code 297 = .ok (.goto 154, 3) := by decide +kernel
theorem d_LW_law_300 : decode code 300 = .ok (.aload_n 1, 1) := by decide +kernel
theorem d_LW_law_301 : decode code 301 = .ok (.invokevirtual 55, 3) := by decide +kernel
theorem d_LW_law_304 : decode code 304 = .ok (.aload_n 2, 1) := by decide +kernel
theorem d_LW_law_305 : decode code 305 = .ok (.invokevirtual 58, 3) := by decide +kernel
theorem d_LW_law_308 : decode code 308 = .ok (.if_icmp .eq 143, 3) := by decide +kernel
theorem d_LW_law_311 : decode code 311 = .ok (.iconst 0, 1) := by decide +kernel
theorem d_LW_law_312 : decode code 312 = .ok (.ireturn, 1) := by decide +kernel
theorem d_LW_law_313 : decode code 313 = .ok (.aload_n 1, 1) := by decide +kernel
theorem d_LW_law_314 : decode code 314 = .ok (.invokevirtual 59, 3) := by decide +kernel
theorem d_LW_law_317 : decode code 317 = .ok (.aload_n 2, 1) := by decide +kernel
theorem d_LW_law_318 : decode code 318 = .ok (.invokevirtual 62, 3) := by decide +kernel
theorem d_LW_law_321 : decode code 321 = .ok (.if_icmp .eq 130, 3) := by decide +kernel
theorem d_LW_law_324 : decode code 324 = .ok (.iconst 0, 1) := by decide +kernel
theorem d_LW_law_325 : decode code 325 = .ok (.ireturn, 1) := by decide +kernel
theorem d_LW_law_326 : decode code 326 = .ok (.aload_n 1, 1) := by decide +kernel
theorem d_LW_law_327 : decode code 327 = .ok (.aload_n 0, 1) := by decide +kernel
theorem d_LW_law_328 : decode code 328 = .ok (.iload 4, 2) := by decide +kernel
theorem d_LW_law_330 : decode code 330 = .ok (.iconst 1, 1) := by decide +kernel
theorem d_LW_law_331 : decode code 331 = .ok (.iadd, 1) := by decide +kernel
theorem d_LW_law_332 : decode code 332 = .ok (.iaload, 1) := by decide +kernel
theorem d_LW_law_333 : decode code 333 = .ok (.aload_n 3, 1) := by decide +kernel
theorem d_LW_law_334 : decode code 334 = .ok (.invokestatic 63, 3) := by decide +kernel
theorem d_LW_law_337 : decode code 337 = .ok (.istore 5, 2) := by decide +kernel
theorem d_LW_law_339 : decode code 339 = .ok (.aload_n 2, 1) := by decide +kernel
theorem d_LW_law_340 : decode code 340 = .ok (.aload_n 0, 1) := by decide +kernel
theorem d_LW_law_341 : decode code 341 = .ok (.iload 4, 2) := by decide +kernel
theorem d_LW_law_343 : decode code 343 = .ok (.iconst 1, 1) := by decide +kernel
theorem d_LW_law_344 : decode code 344 = .ok (.iadd, 1) := by decide +kernel
theorem d_LW_law_345 : decode code 345 = .ok (.iaload, 1) := by decide +kernel
theorem d_LW_law_346 : decode code 346 = .ok (.invokevirtual 65, 3) := by decide +kernel
theorem d_LW_law_349 : decode code 349 = .ok (.istore 6, 2) := by decide +kernel
theorem d_LW_law_351 : decode code 351 = .ok (.aload_n 2, 1) := by decide +kernel
theorem d_LW_law_352 : decode code 352 = .ok (.invokevirtual 43, 3) := by decide +kernel
theorem d_LW_law_355 : decode code 355 = .ok (.iload 5, 2) := by decide +kernel
theorem d_LW_law_357 : decode code 357 = .ok (.if_icmp .eq 5, 3) := by decide +kernel
theorem d_LW_law_360 : decode code 360 = .ok (.iconst 0, 1) := by decide +kernel
theorem d_LW_law_361 : decode code 361 = .ok (.ireturn, 1) := by decide +kernel
theorem d_LW_law_362 : decode code 362 = .ok (.iload 5, 2) := by decide +kernel
theorem d_LW_law_364 : decode code 364 = .ok (.ifCond .ne 15, 3) := by decide +kernel
theorem d_LW_law_367 : decode code 367 = .ok (.aload_n 3, 1) := by decide +kernel
theorem d_LW_law_368 : decode code 368 = .ok (.iconst 0, 1) := by decide +kernel
theorem d_LW_law_369 : decode code 369 = .ok (.laload, 1) := by decide +kernel
theorem d_LW_law_370 : decode code 370 = .ok (.iload 6, 2) := by decide +kernel
theorem d_LW_law_372 : decode code 372 = .ok (.i2l, 1) := by decide +kernel
theorem d_LW_law_373 : decode code 373 = .ok (.lcmp, 1) := by decide +kernel
theorem d_LW_law_374 : decode code 374 = .ok (.ifCond .eq 5, 3) := by decide +kernel
theorem d_LW_law_377 : decode code 377 = .ok (.iconst 0, 1) := by decide +kernel
theorem d_LW_law_378 : decode code 378 = .ok (.ireturn, 1) := by decide +kernel
theorem d_LW_law_379 : decode code 379 = .ok (.goto 72, 3) := by decide +kernel
theorem d_LW_law_382 : decode code 382 = .ok (.aload_n 1, 1) := by decide +kernel
theorem d_LW_law_383 : decode code 383 = .ok (.aload_n 0, 1) := by decide +kernel
theorem d_LW_law_384 : decode code 384 = .ok (.iload 4, 2) := by decide +kernel
theorem d_LW_law_386 : decode code 386 = .ok (.iconst 1, 1) := by decide +kernel
theorem d_LW_law_387 : decode code 387 = .ok (.iadd, 1) := by decide +kernel
theorem d_LW_law_388 : decode code 388 = .ok (.iaload, 1) := by decide +kernel
theorem d_LW_law_389 : decode code 389 = .ok (.aload_n 3, 1) := by decide +kernel
theorem d_LW_law_390 : decode code 390 = .ok (.invokestatic 66, 3) := by decide +kernel
theorem d_LW_law_393 : decode code 393 = .ok (.istore 5, 2) := by decide +kernel
theorem d_LW_law_395 : decode code 395 = .ok (.aload_n 2, 1) := by decide +kernel
theorem d_LW_law_396 : decode code 396 = .ok (.aload_n 0, 1) := by decide +kernel
theorem d_LW_law_397 : decode code 397 = .ok (.iload 4, 2) := by decide +kernel
theorem d_LW_law_399 : decode code 399 = .ok (.iconst 1, 1) := by decide +kernel
theorem d_LW_law_400 : decode code 400 = .ok (.iadd, 1) := by decide +kernel
theorem d_LW_law_401 : decode code 401 = .ok (.iaload, 1) := by decide +kernel
theorem d_LW_law_402 : decode code 402 = .ok (.invokevirtual 68, 3) := by decide +kernel
theorem d_LW_law_405 : decode code 405 = .ok (.istore 6, 2) := by decide +kernel
theorem d_LW_law_407 : decode code 407 = .ok (.aload_n 2, 1) := by decide +kernel
theorem d_LW_law_408 : decode code 408 = .ok (.invokevirtual 43, 3) := by decide +kernel
theorem d_LW_law_411 : decode code 411 = .ok (.iload 5, 2) := by decide +kernel
theorem d_LW_law_413 : decode code 413 = .ok (.if_icmp .eq 5, 3) := by decide +kernel
theorem d_LW_law_416 : decode code 416 = .ok (.iconst 0, 1) := by decide +kernel
theorem d_LW_law_417 : decode code 417 = .ok (.ireturn, 1) := by decide +kernel
theorem d_LW_law_418 : decode code 418 = .ok (.iload 5, 2) := by decide +kernel
theorem d_LW_law_420 : decode code 420 = .ok (.ifCond .ne 15, 3) := by decide +kernel
theorem d_LW_law_423 : decode code 423 = .ok (.aload_n 3, 1) := by decide +kernel
theorem d_LW_law_424 : decode code 424 = .ok (.iconst 0, 1) := by decide +kernel
theorem d_LW_law_425 : decode code 425 = .ok (.laload, 1) := by decide +kernel
theorem d_LW_law_426 : decode code 426 = .ok (.iload 6, 2) := by decide +kernel
theorem d_LW_law_428 : decode code 428 = .ok (.i2l, 1) := by decide +kernel
theorem d_LW_law_429 : decode code 429 = .ok (.lcmp, 1) := by decide +kernel
theorem d_LW_law_430 : decode code 430 = .ok (.ifCond .eq 5, 3) := by decide +kernel
theorem d_LW_law_433 : decode code 433 = .ok (.iconst 0, 1) := by decide +kernel
theorem d_LW_law_434 : decode code 434 = .ok (.ireturn, 1) := by decide +kernel
theorem d_LW_law_435 : decode code 435 = .ok (.goto 16, 3) := by decide +kernel
theorem d_LW_law_438 : decode code 438 = .ok (.aload_n 1, 1) := by decide +kernel
theorem d_LW_law_439 : decode code 439 = .ok (.invokevirtual 69, 3) := by decide +kernel
theorem d_LW_law_442 : decode code 442 = .ok (.aload_n 2, 1) := by decide +kernel
theorem d_LW_law_443 : decode code 443 = .ok (.invokevirtual 72, 3) := by decide +kernel
theorem d_LW_law_446 : decode code 446 = .ok (.if_icmp .eq 5, 3) := by decide +kernel
theorem d_LW_law_449 : decode code 449 = .ok (.iconst 0, 1) := by decide +kernel
theorem d_LW_law_450 : decode code 450 = .ok (.ireturn, 1) := by decide +kernel
theorem d_LW_law_451 : decode code 451 = .ok (.iinc 4 5, 3) := by decide +kernel
theorem d_LW_law_454 : decode code 454 = .ok (.goto (-431), 3) := by decide +kernel
theorem d_LW_law_457 : decode code 457 = .ok (.iconst 1, 1) := by decide +kernel
theorem d_LW_law_458 : decode code 458 = .ok (.ireturn, 1) := by decide +kernel
end
section
theorem kn_LC_11 : KN R_LC 11 y_LT_init hd_LT_init 1 := ⟨k_20, k_21, k_2, k_22, rfl, ⟨by decide +kernel, by decide +kernel, by decide +kernel⟩⟩
theorem ks_LC_32 : KS R_LC 32 y_LC_need hd_LC_need 1 := ⟨k_100, k_101, k_1, k_102, ⟨by decide +kernel, by decide +kernel, by decide +kernel⟩⟩
theorem kv_LC_39 : KV R_LC 39 y_LT_insert hd_LT_insert 3 := ⟨k_181, k_182, k_183, k_2, k_184, ⟨by decide +kernel, by decide +kernel, by decide +kernel⟩⟩
theorem kv_LC_43 : KV R_LC 43 y_LT_delete hd_LT_delete 1 := ⟨k_200, k_201, k_202, k_2, k_203, ⟨by decide +kernel, by decide +kernel, by decide +kernel⟩⟩
theorem ks_LC_46 : KS R_LC 46 y_LC_there hd_LC_there 1 := ⟨k_220, k_221, k_1, k_222, ⟨by decide +kernel, by decide +kernel, by decide +kernel⟩⟩
theorem kv_LC_49 : KV R_LC 49 y_LT_get hd_LT_get 1 := ⟨k_238, k_239, k_240, k_2, k_241, ⟨by decide +kernel, by decide +kernel, by decide +kernel⟩⟩
theorem kv_LC_56 : KV R_LC 56 y_LT_behindEnd hd_LT_behindEnd 1 := ⟨k_253, k_254, k_255, k_2, k_256, ⟨by decide +kernel, by decide +kernel, by decide +kernel⟩⟩
theorem kv_LC_59 : KV R_LC 59 y_LC_begin hd_LC_begin 1 := ⟨k_249, k_251, ks_LC_begin, k_1, k_252, ⟨by decide +kernel, by decide +kernel, by decide +kernel⟩⟩
theorem kv_LC_62 : KV R_LC 62 y_LT_copy hd_LT_copy 1 := ⟨k_87, k_88, k_89, k_2, k_90, ⟨by decide +kernel, by decide +kernel, by decide +kernel⟩⟩
theorem ks_MO_20 : KS R_MO 20 y_MO_check hd_MO_check 1 := ⟨k_294, k_295, k_3, k_296, ⟨by decide +kernel, by decide +kernel, by decide +kernel⟩⟩
theorem kv_MO_30 : KV R_MO 30 y_MO_endsBefore hd_MO_endsBefore 1 := ⟨k_333, k_335, ks_MO_endsBefore, k_3, k_336, ⟨by decide +kernel, by decide +kernel, by decide +kernel⟩⟩
theorem kv_MO_37 : KV R_MO 37 y_MO_insert0 hd_MO_insert0 4 := ⟨k_290, k_292, ks_MO_insert0, k_3, k_293, ⟨by decide +kernel, by decide +kernel, by decide +kernel⟩⟩
theorem kv_MO_41 : KV R_MO 41 y_MO_delete0 hd_MO_delete0 2 := ⟨k_303, k_305, ks_MO_delete0, k_3, k_306, ⟨by decide +kernel, by decide +kernel, by decide +kernel⟩⟩
theorem kv_MO_45 : KV R_MO 45 y_MO_get0 hd_MO_get0 1 := ⟨k_312, k_314, ks_MO_get0, k_3, k_315, ⟨by decide +kernel, by decide +kernel, by decide +kernel⟩⟩
theorem kv_MO_48 : KV R_MO 48 y_MO_length0 hd_MO_length0 0 := ⟨k_321, k_323, ks_MO_length0, k_3, k_324, ⟨by decide +kernel, by decide +kernel, by decide +kernel⟩⟩
theorem kv_MO_52 : KV R_MO 52 y_MO_lines0 hd_MO_lines0 0 := ⟨k_329, k_331, ks_MO_lines0, k_3, k_332, ⟨by decide +kernel, by decide +kernel, by decide +kernel⟩⟩
theorem kv_MO_55 : KV R_MO 55 y_MO_line0 hd_MO_line0 1 := ⟨k_341, k_343, ks_MO_line0, k_3, k_344, ⟨by decide +kernel, by decide +kernel, by decide +kernel⟩⟩
theorem kv_MO_58 : KV R_MO 58 y_MO_lineOf0 hd_MO_lineOf0 1 := ⟨k_349, k_351, ks_MO_lineOf0, k_3, k_352, ⟨by decide +kernel, by decide +kernel, by decide +kernel⟩⟩
theorem kv_MO_61 : KV R_MO 61 y_MO_digest0 hd_MO_digest0 0 := ⟨k_357, k_359, ks_MO_digest0, k_3, k_360, ⟨by decide +kernel, by decide +kernel, by decide +kernel⟩⟩
theorem kv_LT_45 : KV R_LT 45 y_LT_seek hd_LT_seek 2 := ⟨k_185, k_187, ks_LT_seek, k_2, k_188, ⟨by decide +kernel, by decide +kernel, by decide +kernel⟩⟩
theorem kv_LT_49 : KV R_LT 49 y_LT_split hd_LT_split 1 := ⟨k_189, k_191, ks_LT_split, k_2, k_192, ⟨by decide +kernel, by decide +kernel, by decide +kernel⟩⟩
theorem kv_LT_59 : KV R_LT 59 y_LT_isLittle hd_LT_isLittle 1 := ⟨k_204, k_206, ks_LT_isLittle, k_2, k_207, ⟨by decide +kernel, by decide +kernel, by decide +kernel⟩⟩
theorem kv_LT_63 : KV R_LT 63 y_LT_join hd_LT_join 1 := ⟨k_208, k_210, ks_LT_join, k_2, k_211, ⟨by decide +kernel, by decide +kernel, by decide +kernel⟩⟩
theorem kv_LW_7 : KV R_law 7 y_LC_insert hd_LC_insert 4 := ⟨k_96, k_97, k_98, k_1, k_99, ⟨by decide +kernel, by decide +kernel, by decide +kernel⟩⟩
theorem kv_LW_17 : KV R_law 17 y_LC_delete hd_LC_delete 2 := ⟨k_196, k_197, k_198, k_1, k_199, ⟨by decide +kernel, by decide +kernel, by decide +kernel⟩⟩
theorem kv_LW_21 : KV R_law 21 y_LC_get hd_LC_get 1 := ⟨k_216, k_217, k_218, k_1, k_219, ⟨by decide +kernel, by decide +kernel, by decide +kernel⟩⟩
theorem kv_LW_27 : KV R_law 27 y_LC_line hd_LC_line 1 := ⟨k_245, k_246, k_247, k_1, k_248, ⟨by decide +kernel, by decide +kernel, by decide +kernel⟩⟩
theorem kv_LW_30 : KV R_law 30 y_LC_lineOf hd_LC_lineOf 1 := ⟨k_260, k_261, k_262, k_1, k_263, ⟨by decide +kernel, by decide +kernel, by decide +kernel⟩⟩
theorem kn_LW_33 : KN R_law 33 y_LC_init hd_LC_init 0 := ⟨k_12, k_13, k_1, k_14, rfl, ⟨by decide +kernel, by decide +kernel, by decide +kernel⟩⟩
theorem kn_LW_36 : KN R_law 36 y_MO_init hd_MO_init 0 := ⟨k_266, k_267, k_3, k_268, rfl, ⟨by decide +kernel, by decide +kernel, by decide +kernel⟩⟩
theorem ks_LW_37 : KS R_law 37 y_LW_insert hd_LW_insert 6 := ⟨k_91, k_92, k_0, k_93, ⟨by decide +kernel, by decide +kernel, by decide +kernel⟩⟩
theorem kv_LW_42 : KV R_law 42 y_MO_insert hd_MO_insert 4 := ⟨k_284, k_285, k_286, k_3, k_287, ⟨by decide +kernel, by decide +kernel, by decide +kernel⟩⟩
theorem kv_LW_43 : KV R_law 43 y_MO_thrown hd_MO_thrown 0 := ⟨k_280, k_281, k_282, k_3, k_283, ⟨by decide +kernel, by decide +kernel, by decide +kernel⟩⟩
theorem ks_LW_47 : KS R_law 47 y_LW_delete hd_LW_delete 4 := ⟨k_193, k_194, k_0, k_195, ⟨by decide +kernel, by decide +kernel, by decide +kernel⟩⟩
theorem kv_LW_50 : KV R_law 50 y_MO_delete hd_MO_delete 2 := ⟨k_299, k_300, k_301, k_3, k_302, ⟨by decide +kernel, by decide +kernel, by decide +kernel⟩⟩
theorem ks_LW_51 : KS R_law 51 y_LW_get hd_LW_get 3 := ⟨k_212, k_213, k_0, k_214, ⟨by decide +kernel, by decide +kernel, by decide +kernel⟩⟩
theorem kv_LW_54 : KV R_law 54 y_MO_get hd_MO_get 1 := ⟨k_307, k_308, k_309, k_3, k_310, ⟨by decide +kernel, by decide +kernel, by decide +kernel⟩⟩
theorem kv_LW_55 : KV R_law 55 y_LC_length hd_LC_length 0 := ⟨k_75, k_76, k_77, k_1, k_78, ⟨by decide +kernel, by decide +kernel, by decide +kernel⟩⟩
theorem kv_LW_58 : KV R_law 58 y_MO_length hd_MO_length 0 := ⟨k_317, k_318, k_319, k_3, k_320, ⟨by decide +kernel, by decide +kernel, by decide +kernel⟩⟩
theorem kv_LW_59 : KV R_law 59 y_LC_lines hd_LC_lines 0 := ⟨k_79, k_80, k_81, k_1, k_82, ⟨by decide +kernel, by decide +kernel, by decide +kernel⟩⟩
theorem kv_LW_62 : KV R_law 62 y_MO_lines hd_MO_lines 0 := ⟨k_325, k_326, k_327, k_3, k_328, ⟨by decide +kernel, by decide +kernel, by decide +kernel⟩⟩
theorem ks_LW_63 : KS R_law 63 y_LW_line hd_LW_line 3 := ⟨k_242, k_243, k_0, k_244, ⟨by decide +kernel, by decide +kernel, by decide +kernel⟩⟩
theorem kv_LW_65 : KV R_law 65 y_MO_line hd_MO_line 1 := ⟨k_337, k_338, k_339, k_3, k_340, ⟨by decide +kernel, by decide +kernel, by decide +kernel⟩⟩
theorem ks_LW_66 : KS R_law 66 y_LW_lineOf hd_LW_lineOf 3 := ⟨k_257, k_258, k_0, k_259, ⟨by decide +kernel, by decide +kernel, by decide +kernel⟩⟩
theorem kv_LW_68 : KV R_law 68 y_MO_lineOf hd_MO_lineOf 1 := ⟨k_345, k_346, k_347, k_3, k_348, ⟨by decide +kernel, by decide +kernel, by decide +kernel⟩⟩
theorem kv_LW_69 : KV R_law 69 y_LC_digest hd_LC_digest 0 := ⟨k_83, k_84, k_85, k_1, k_86, ⟨by decide +kernel, by decide +kernel, by decide +kernel⟩⟩
theorem kv_LW_72 : KV R_law 72 y_MO_digest hd_MO_digest 0 := ⟨k_353, k_354, k_355, k_3, k_356, ⟨by decide +kernel, by decide +kernel, by decide +kernel⟩⟩
end
section
/-! ===== worlds ===== -/
abbrev wM (o r : Nat) (cI : ClassId) (row : Nat → Int32) (many : Nat) (thr : Int32) : va_W := [(o, .inr (2, [.ref r, .int (nI many), .int thr])), (r, .inl (cI, 20000, .inl row))]
/-! ===== the model's row and the text ===== -/
def MR (txt : List Int32) (row : Nat → Int32) : Prop := txt.length ≤ 20000 ∧ ∀ j, j < txt.length → row j = txt.getD j 0
/-- how many of the first k values end a line -/
def cnt (txt : List Int32) (k : Nat) : Nat := (txt.take k).count 10
theorem cnt_0 (txt : List Int32) : cnt txt 0 = 0 := by simp [cnt]
theorem cnt_s {txt : List Int32} {k : Nat} (h : k < txt.length) : cnt txt (k + 1) = cnt txt k + (if txt.getD k 0 = 10 then 1 else 0) := by
  unfold cnt
  rw [List.take_succ, List.count_append]
  have h1 : txt[k]? = some txt[k] := List.getElem?_eq_getElem h
  have h2 : txt.getD k 0 = txt[k] := by simp [List.getD_eq_getElem?_getD, h1]
  rw [h1, h2]
  by_cases h3 : txt[k] = 10 <;> simp [h3]
theorem cnt_le (txt : List Int32) (k : Nat) : cnt txt k ≤ k := by
  unfold cnt
  exact Nat.le_trans List.count_le_length (by simp; omega)
theorem cnt_lenle (txt : List Int32) (k : Nat) : cnt txt k ≤ txt.length := by
  unfold cnt
  exact Nat.le_trans List.count_le_length (by simp; omega)
theorem cnt_mono {txt : List Int32} {a b : Nat} (h : a ≤ b) : cnt txt a ≤ cnt txt b := by
  unfold cnt
  exact List.Sublist.count_le _ (List.take_sublist_take_left h)
/-- the digest -/
def dgN (txt : List Int32) : Nat → Int32
  | 0 => 0
  | k + 1 => dgN txt k + txt.getD k 0 * nI (k + 1)
/-- insertions and deletions -/
def newV (v st : Int32) (n : Nat) : List Int32 := (List.range n).map (fun k => v + nI k * st)
def insN (txt : List Int32) (i : Nat) (xs : List Int32) : List Int32 := txt.take i ++ xs ++ txt.drop i
def delN (txt : List Int32) (i n : Nat) : List Int32 := txt.take i ++ txt.drop (i + n)
theorem newV_len (v st : Int32) (n : Nat) : (newV v st n).length = n := by simp [newV]
theorem insN_len {txt : List Int32} {i : Nat} (h : i ≤ txt.length) (xs : List Int32) : (insN txt i xs).length = txt.length + xs.length := by
  simp [insN]; omega
theorem delN_len {txt : List Int32} {i n : Nat} (h : i + n ≤ txt.length) : (delN txt i n).length = txt.length - n := by
  simp [delN]; omega
theorem getD_app_l {a b : List Int32} {j : Nat} (h : j < a.length) : (a ++ b).getD j 0 = a.getD j 0 := by
  simp [List.getD_eq_getElem?_getD, List.getElem?_append_left h]
theorem getD_app_r {a b : List Int32} {j : Nat} (h : a.length ≤ j) : (a ++ b).getD j 0 = b.getD (j - a.length) 0 := by
  simp [List.getD_eq_getElem?_getD, List.getElem?_append_right h]
theorem getD_take {a : List Int32} {i j : Nat} (h : j < i) : (a.take i).getD j 0 = a.getD j 0 := by
  simp [List.getD_eq_getElem?_getD, List.getElem?_take, h]
theorem getD_drop {a : List Int32} {i j : Nat} : (a.drop i).getD j 0 = a.getD (i + j) 0 := by
  simp [List.getD_eq_getElem?_getD, List.getElem?_drop]
theorem newV_getD {v st : Int32} {n k : Nat} (h : k < n) : (newV v st n).getD k 0 = v + nI k * st := by
  simp [newV, List.getD_eq_getElem?_getD, List.getElem?_map, List.getElem?_range, h]
theorem MR_ins {txt : List Int32} {row row2 : Nat → Int32} {i n : Nat} {v st : Int32} (hM : MR txt row) (hi : i ≤ txt.length) (hn : txt.length + n ≤ 20000)
    (h1 : ∀ j, j < i → row2 j = row j) (h2 : ∀ j, j < n → row2 (i + j) = v + nI j * st) (h3 : ∀ j, i ≤ j → j < txt.length → row2 (j + n) = row j) : MR (insN txt i (newV v st n)) row2 := by
  refine ⟨by rw [insN_len hi, newV_len]; exact hn, fun j hj => ?_⟩
  rw [insN_len hi, newV_len] at hj
  have hl : (txt.take i).length = i := by simp; omega
  have hl2 : (txt.take i ++ newV v st n).length = i + n := by rw [List.length_append, hl, newV_len]
  unfold insN
  by_cases c1 : j < i
  · rw [getD_app_l (by rw [hl2]; omega), getD_app_l (by rw [hl]; exact c1), getD_take c1, h1 j c1, hM.2 j (by omega)]
  · by_cases c2 : j < i + n
    · obtain ⟨k, rfl⟩ : ∃ k, j = i + k := ⟨j - i, by omega⟩
      rw [getD_app_l (by rw [hl2]; omega), getD_app_r (by rw [hl]; omega), hl, show i + k - i = k by omega, newV_getD (by omega), h2 k (by omega)]
    · obtain ⟨k, rfl⟩ : ∃ k, j = k + n := ⟨j - n, by omega⟩
      rw [getD_app_r (by rw [hl2]; omega), hl2, getD_drop, show i + (k + n - (i + n)) = k by omega, h3 k (by omega) (by omega), hM.2 k (by omega)]
theorem MR_del {txt : List Int32} {row row2 : Nat → Int32} {i n : Nat} (hM : MR txt row) (hi : i + n ≤ txt.length)
    (h1 : ∀ j, j < i → row2 j = row j) (h2 : ∀ j, i ≤ j → j + n < txt.length → row2 j = row (j + n)) : MR (delN txt i n) row2 := by
  have hM1 := hM.1
  refine ⟨by rw [delN_len hi]; omega, fun j hj => ?_⟩
  rw [delN_len hi] at hj
  have hl : (txt.take i).length = i := by simp; omega
  unfold delN
  by_cases c1 : j < i
  · rw [getD_app_l (by rw [hl]; exact c1), getD_take c1, h1 j c1, hM.2 j (by omega)]
  · rw [getD_app_r (by rw [hl]; omega), hl, getD_drop, show i + n + (j - i) = j + n by omega, h2 j (by omega) (by omega), hM.2 (j + n) (by omega)]
/-! ===== what the calls ask ===== -/
abbrev okI (len : Nat) (i n : Int32) : Prop := ¬ i < 0 ∧ ¬ nI len < i ∧ ¬ n < 1 ∧ ¬ 500 < n
abbrev okD (len : Nat) (i n : Int32) : Prop := ¬ i < 0 ∧ ¬ n < 1 ∧ ¬ nI len < n ∧ ¬ nI len - n < i
abbrev okG (len : Nat) (i : Int32) : Prop := ¬ i < 0 ∧ i < nI len
abbrev okL (len : Nat) (i : Int32) : Prop := ¬ i < 0 ∧ ¬ nI len < i
theorem lt_toInt {x y : Int32} : x < y ↔ x.toInt < y.toInt := Int32.lt_iff_toInt_lt
theorem le_toInt {x y : Int32} : x ≤ y ↔ x.toInt ≤ y.toInt := Int32.le_iff_toInt_le
theorem okL_nat {len : Nat} {i : Int32} (hl : len < 2 ^ 31) (h : okL len i) : ∃ a, a ≤ len ∧ i = nI a := by
  obtain ⟨a, ha, rfl⟩ := nI_of h.1
  exact ⟨a, Nat.le_of_not_lt (fun q => h.2 ((nI_ltI hl ha).mpr q)), rfl⟩
theorem okG_nat {len : Nat} {i : Int32} (hl : len < 2 ^ 31) (h : okG len i) : ∃ a, a < len ∧ i = nI a := by
  obtain ⟨a, ha, rfl⟩ := nI_of h.1
  exact ⟨a, (nI_ltI ha hl).mp h.2, rfl⟩
theorem okI_nat {len : Nat} {i n : Int32} (hl : len < 2 ^ 31) (h : okI len i n) : ∃ a c, a ≤ len ∧ 1 ≤ c ∧ c ≤ 500 ∧ i = nI a ∧ n = nI c := by
  obtain ⟨a, ha, rfl⟩ := okL_nat hl ⟨h.1, h.2.1⟩
  have h3 := h.2.2.1
  have h4 := h.2.2.2
  have hn : ¬ n < 0 := by
    rw [lt_toInt] at h3 ⊢
    have e1 : (1 : Int32).toInt = 1 := by decide
    have e0 : (0 : Int32).toInt = 0 := by decide
    omega
  obtain ⟨c, hc, rfl⟩ := nI_of hn
  have e1 : (1 : Int32).toInt = 1 := by decide
  have e5 : (500 : Int32).toInt = 500 := by decide
  rw [lt_toInt, nI_toInt hc] at h3 h4
  exact ⟨a, c, ha, by omega, by omega, rfl, rfl⟩
theorem okD_nat {len : Nat} {i n : Int32} (hl : len < 2 ^ 30) (h : okD len i n) : ∃ a c, 1 ≤ c ∧ a + c ≤ len ∧ i = nI a ∧ n = nI c := by
  obtain ⟨h1, h2, h3, h4⟩ := h
  have e1 : (1 : Int32).toInt = 1 := by decide
  have e0 : (0 : Int32).toInt = 0 := by decide
  have hn : ¬ n < 0 := by
    rw [lt_toInt] at h2 ⊢
    omega
  obtain ⟨a, ha, rfl⟩ := nI_of h1
  obtain ⟨c, hc, rfl⟩ := nI_of hn
  have hcl : c ≤ len := Nat.le_of_not_lt (fun q => h3 ((nI_ltI (by omega) hc).mpr q))
  rw [pk_sub hcl] at h4
  have hal : a ≤ len - c := Nat.le_of_not_lt (fun q => h4 ((nI_ltI (by omega) ha).mpr q))
  rw [lt_toInt, nI_toInt hc] at h2
  exact ⟨a, c, by omega, by omega, rfl, rfl⟩
/-- the class asks less at a deletion, and it's the same -/
theorem okD_iff {len : Nat} {i n : Int32} (hl : len < 2 ^ 30) : okD len i n ↔ (¬ n < 1 ∧ ¬ i < 0 ∧ ¬ nI len - n < i) := by
  constructor
  · rintro ⟨h1, h2, h3, h4⟩
    exact ⟨h2, h1, h4⟩
  · rintro ⟨h2, h1, h4⟩
    refine ⟨h1, h2, ?_, h4⟩
    intro h3
    have e1 : (1 : Int32).toInt = 1 := by decide
    have e0 : (0 : Int32).toInt = 0 := by decide
    have el : (nI len).toInt = len := nI_toInt (by omega)
    rw [lt_toInt] at h1 h2 h3 h4
    have hb := n.toInt_lt
    have hs : (nI len - n).toInt = (nI len).toInt - n.toInt := by
      rw [Int32.toInt_sub]
      exact Int.bmod_eq_of_le (by simp; omega) (by simp; omega)
    omega
/-- down-counting: k - 1, which may be -1 -/
def mI (k : Nat) : Int32 := nI k - nI 1
theorem mI_s (k : Nat) : mI (k + 1) = nI k := by unfold mI; rw [pk_sub (by omega)]; rfl
theorem mI_toInt {k : Nat} (h : k < 2 ^ 30) : (mI k).toInt = (k : Int) - 1 := by
  unfold mI
  rw [pk_sub_toInt h (by omega)]
  rfl
theorem mI_lt {k i : Nat} (hk : k < 2 ^ 30) (hi : i < 2 ^ 30) : mI k < nI i ↔ k ≤ i := by
  rw [lt_toInt, mI_toInt hk, nI_toInt (by omega)]
  omega
theorem mI_m1 (k : Nat) : nI k + Int32.ofInt (-1) = mI k := by
  unfold mI
  rw [Int32.sub_eq_add_neg]
  rfl
end
section
abbrev rmz : Room := { frames := 0, cells := 0, slots := 0, locals := 0 }
abbrev rmS : Room := { frames := 3, cells := 0, slots := 0, locals := 100 }
abbrev rmX : Room := { frames := 7, cells := 1, slots := 6, locals := 101 }
abbrev rmY : Room := { frames := 8, cells := 1, slots := 6, locals := 122 }
abbrev rmP : Room := { frames := 8, cells := 1, slots := 6, locals := 127 }
set_option maxHeartbeats 4000000 in
set_option maxRecDepth 100000 in
/-- check(true): nothing -/
theorem c_MO_check_t (l : Launch) (D : va_G) (cI cZ cL : ClassId) : RV l y_MO_check hd_MO_check rmz D (TY cI cZ cL) [.int (bI true)] ([]) := by
  refine RV.mk (by decide +kernel) (Nat.le_of_ble_eq_true rfl) ?_
  intro p e s m below meth c ls C hP hl
  obtain ⟨hx, hb, hml, hown, hB, hlk, hr, htb, hK, hX⟩ := id C
  have hA := Aok_new s
  have hS : va_S (fun q => s.heap.size ≤ q) s.heap s.heap [] := va_S.rf
  have hl : lv_has ls 1 [(0, .int (bI true))] := hl
  refine lv_iload_n hx hb d_MO_check_0 rfl (lv_at hl 0 rfl) ?_
  refine ln_if_ne (tgt := 12) hx hb d_MO_check_1 (by decide) (fun hc => ?_) (fun hc => ?_)
  · skip
    exact e_Rv C d_MO_check_12
  · skip
    exact absurd hc (by decide)
set_option maxHeartbeats 4000000 in
set_option maxRecDepth 100000 in
/-- check(false) throws -/
theorem c_MO_check_f (l : Launch) (hfl : l.flags = pinnedFlags ++ [noTraceFlag]) (D : va_G) (cI cZ cL : ClassId) : XT l y_MO_check hd_MO_check rmX D (TY cI cZ cL) [.int (bI false)] ([]) xIAE := by
  refine XT.mk (by decide +kernel) (Nat.le_of_ble_eq_true rfl) ⟨rfl, rfl⟩ ?_
  intro p e s m below meth c ls C hP hl
  obtain ⟨hx, hb, hml, hown, hB, hlk, hr, htb, hK, hX⟩ := id C
  have hA := Aok_new s
  have hS : va_S (fun q => s.heap.size ≤ q) s.heap s.heap [] := va_S.rf
  have hl : lv_has ls 1 [(0, .int (bI false))] := hl
  refine lv_iload_n hx hb d_MO_check_0 rfl (lv_at hl 0 rfl) ?_
  refine ln_if_ne (tgt := 12) hx hb d_MO_check_1 (by decide) (fun hc => ?_) (fun hc => ?_)
  · skip
    exact absurd hc (by decide)
  · skip
    exact throw0 hfl C xs_MO_IAE (by decide +kernel) k_288 k_104 k_7 hl.1 d_MO_check_4 d_MO_check_7 d_MO_check_8 d_MO_check_11 (by decide) (by decide) (by decide) (by decide)
set_option maxHeartbeats 4000000 in
set_option maxRecDepth 100000 in
/-- endsBefore(i): how many of the first i values end a line -/
theorem c_MO_endsBefore (l : Launch) (D : va_G) (cI cZ cL : ClassId) (o r : Nat) (row : Nat → Int32) (txt : List Int32) (thr : Int32) (hM : MR txt row) (i : Nat) (hi : i ≤ txt.length) : RI l y_MO_endsBefore hd_MO_endsBefore rmz D (TY cI cZ cL) [.ref o, .int (nI i)] (wM o r cI row txt.length thr) (fun z => z = nI (cnt txt i)) := by
  refine RI.mk (by decide +kernel) (Nat.le_of_ble_eq_true rfl) ?_
  intro p e s m below meth c ls C hP hl
  obtain ⟨hx, hb, hml, hown, hB, hlk, hr, htb, hK, hX⟩ := id C
  have hA := Aok_new s
  have hS : va_S (fun q => s.heap.size ≤ q) s.heap s.heap [] := va_S.rf
  have hl : lv_has ls 4 [(0, .ref o), (1, .int (nI i))] := hl
  have hM1 := hM.1
  have loop : ∀ (n k : Nat) (ls : Array Slot), k ≤ i → i + 1 ≤ k + n → lv_has ls 4 [(3, .int (nI k)), (2, .int (nI (cnt txt k))), (0, .ref o), (1, .int (nI i))] → W p l e rmz s m ([.ref o, .int (nI i)] : List Value).toArray below meth c s.heap [] 0 0 (MQ below (QRi (fun z => z = nI (cnt txt i))) ([.ref o, .int (nI i)] : List Value).toArray s rmz.cells rmz.slots (fun _ => False)) (F0 m 4 ls []) := by
    intro n
    induction n with
    | zero => intro k ls h1 h2; exact absurd h2 (by omega)
    | succ n ih =>
      intro k ls h1 h2 hl
      have hc1 := cnt_le txt k
      refine lv_iload_n hx hb d_MO_endsBefore_4 rfl (lv_at hl 0 rfl) ?_
      refine lv_iload_n hx hb d_MO_endsBefore_5 rfl (lv_at hl 3 rfl) ?_
      refine ln_icmp_ge (tgt := 29) hx hb d_MO_endsBefore_6 (by decide) (by omega) (by omega) (fun hc => ?_) (fun hc => ?_)
      · skip
        have hk : k = i := by omega
        refine lv_iload_n hx hb d_MO_endsBefore_29 rfl (lv_at hl 1 rfl) ?_
        rw [hk]
        exact e_Ri C (rfl) d_MO_endsBefore_30
      · skip
        refine lv_aload_n hx hb d_MO_endsBefore_9 rfl (lv_at hl 2 rfl) ?_
        refine g_MO hx hb hB hown hK hP 0 rfl 0 (by decide) k_270 rfl d_MO_endsBefore_10 ?_
        refine lv_iload_n hx hb d_MO_endsBefore_13 rfl (lv_at hl 0 rfl) ?_
        refine ln_vald hx hb hK hP 1 0 rfl rfl (by omega) (by omega) d_MO_endsBefore_14 ?_
        refine lv_bipush (v := 10) hx hb d_MO_endsBefore_15 (by decide) ?_
        rw [hM.2 k (by omega)]
        have hs := cnt_s (txt := txt) (k := k) (by omega)
        refine lv_icmp_ne (tgt := 23) hx hb d_MO_endsBefore_17 (by decide) (fun hc2 => ?_) (fun hc2 => ?_)
        · skip
          rw [if_neg hc2] at hs
          refine lv_iinc (v := (nI (k + 1))) (lv' := [(3, .int (nI (k + 1))), (2, .int (nI (cnt txt k))), (0, .ref o), (1, .int (nI i))]) hx hb d_MO_endsBefore_23 hl (k := 0) rfl (ln_p1 _) (by decide) rfl (fun ls hl => ?_)
          refine lv_goto (tgt := 4) hx hb d_MO_endsBefore_26 (by decide) ?_
          exact ih (k + 1) ls (by omega) (by omega) (by rw [hs]; exact lv_sub hl [0, 1, 2, 3] rfl)
        · skip
          rw [if_pos hc2] at hs
          refine lv_iinc (v := (nI (cnt txt k + 1))) (lv' := [(2, .int (nI (cnt txt k + 1))), (3, .int (nI k)), (0, .ref o), (1, .int (nI i))]) hx hb d_MO_endsBefore_20 hl (k := 1) rfl (ln_p1 _) (by decide) rfl (fun ls hl => ?_)
          refine lv_iinc (v := (nI (k + 1))) (lv' := [(3, .int (nI (k + 1))), (2, .int (nI (cnt txt k + 1))), (0, .ref o), (1, .int (nI i))]) hx hb d_MO_endsBefore_23 hl (k := 1) rfl (ln_p1 _) (by decide) rfl (fun ls hl => ?_)
          refine lv_goto (tgt := 4) hx hb d_MO_endsBefore_26 (by decide) ?_
          exact ih (k + 1) ls (by omega) (by omega) (by rw [hs]; exact lv_sub hl [0, 1, 2, 3] rfl)
  refine lv_iconst (v := nI 0) hx hb d_MO_endsBefore_0 (by decide) ?_
  refine lv_istore_n (lv' := [(2, .int (nI 0)), (0, .ref o), (1, .int (nI i))]) hx hb d_MO_endsBefore_1 rfl hl (by decide) rfl (fun ls hl => ?_)
  refine lv_iconst (v := nI 0) hx hb d_MO_endsBefore_2 (by decide) ?_
  refine lv_istore_n (lv' := [(3, .int (nI 0)), (2, .int (nI 0)), (0, .ref o), (1, .int (nI i))]) hx hb d_MO_endsBefore_3 rfl hl (by decide) rfl (fun ls hl => ?_)
  exact loop (i + 1) 0 ls (by omega) (by omega) (by rw [cnt_0]; exact lv_sub hl [0, 1, 2, 3] rfl)
set_option maxHeartbeats 4000000 in
set_option maxRecDepth 100000 in
/-- length0() -/
theorem c_MO_length0 (l : Launch) (D : va_G) (cI cZ cL : ClassId) (o r : Nat) (row : Nat → Int32) (txt : List Int32) (thr : Int32) : RI l y_MO_length0 hd_MO_length0 rmz D (TY cI cZ cL) [.ref o] (wM o r cI row txt.length thr) (fun z => z = nI txt.length) := by
  refine RI.mk (by decide +kernel) (Nat.le_of_ble_eq_true rfl) ?_
  intro p e s m below meth c ls C hP hl
  obtain ⟨hx, hb, hml, hown, hB, hlk, hr, htb, hK, hX⟩ := id C
  have hA := Aok_new s
  have hS : va_S (fun q => s.heap.size ≤ q) s.heap s.heap [] := va_S.rf
  have hl : lv_has ls 1 [(0, .ref o)] := hl
  refine lv_aload_n hx hb d_MO_length0_0 rfl (lv_at hl 0 rfl) ?_
  refine g_MO hx hb hB hown hK hP 0 rfl 1 (by decide) k_271 rfl d_MO_length0_1 ?_
  exact e_Ri C (rfl) d_MO_length0_4
set_option maxHeartbeats 4000000 in
set_option maxRecDepth 100000 in
/-- thrown() -/
theorem c_MO_thrown (l : Launch) (D : va_G) (cI cZ cL : ClassId) (o r : Nat) (row : Nat → Int32) (txt : List Int32) (thr : Int32) : RI l y_MO_thrown hd_MO_thrown rmz D (TY cI cZ cL) [.ref o] (wM o r cI row txt.length thr) (fun z => z = thr) := by
  refine RI.mk (by decide +kernel) (Nat.le_of_ble_eq_true rfl) ?_
  intro p e s m below meth c ls C hP hl
  obtain ⟨hx, hb, hml, hown, hB, hlk, hr, htb, hK, hX⟩ := id C
  have hA := Aok_new s
  have hS : va_S (fun q => s.heap.size ≤ q) s.heap s.heap [] := va_S.rf
  have hl : lv_has ls 1 [(0, .ref o)] := hl
  refine lv_aload_n hx hb d_MO_thrown_0 rfl (lv_at hl 0 rfl) ?_
  refine g_MO hx hb hB hown hK hP 0 rfl 2 (by decide) k_272 rfl d_MO_thrown_1 ?_
  exact e_Ri C (rfl) d_MO_thrown_4
set_option maxHeartbeats 4000000 in
set_option maxRecDepth 100000 in
/-- get0(i), i in range -/
theorem c_MO_get0 (l : Launch) (D : va_G) (cI cZ cL : ClassId) (o r : Nat) (row : Nat → Int32) (txt : List Int32) (thr : Int32) (hM : MR txt row) (i : Nat) (hi : i < txt.length) : RI l y_MO_get0 hd_MO_get0 rmz D (TY cI cZ cL) [.ref o, .int (nI i)] (wM o r cI row txt.length thr) (fun z => z = txt.getD i 0) := by
  refine RI.mk (by decide +kernel) (Nat.le_of_ble_eq_true rfl) ?_
  intro p e s m below meth c ls C hP hl
  obtain ⟨hx, hb, hml, hown, hB, hlk, hr, htb, hK, hX⟩ := id C
  have hA := Aok_new s
  have hS : va_S (fun q => s.heap.size ≤ q) s.heap s.heap [] := va_S.rf
  have hl : lv_has ls 2 [(0, .ref o), (1, .int (nI i))] := hl
  have hM1 := hM.1
  refine lv_iload_n hx hb d_MO_get0_0 rfl (lv_at hl 1 rfl) ?_
  refine lv_if_lt (tgt := 12) hx hb d_MO_get0_1 (by decide) (fun hc => ?_) (fun hc => ?_)
  · skip
    exact absurd hc (nI_pos (by omega))
  · skip
    refine lv_iload_n hx hb d_MO_get0_4 rfl (lv_at hl 1 rfl) ?_
    refine lv_aload_n hx hb d_MO_get0_5 rfl (lv_at hl 0 rfl) ?_
    refine g_MO hx hb hB hown hK hP 0 rfl 1 (by decide) k_271 rfl d_MO_get0_6 ?_
    refine ln_icmp_lt (tgt := 20) hx hb d_MO_get0_9 (by decide) (by omega) (by omega) (fun hc2 => ?_) (fun hc2 => ?_)
    · skip
      refine lv_aload_n hx hb d_MO_get0_20 rfl (lv_at hl 0 rfl) ?_
      refine g_MO hx hb hB hown hK hP 0 rfl 0 (by decide) k_270 rfl d_MO_get0_21 ?_
      refine lv_iload_n hx hb d_MO_get0_24 rfl (lv_at hl 1 rfl) ?_
      refine ln_vald hx hb hK hP 1 0 rfl rfl (by omega) (by omega) d_MO_get0_25 ?_
      exact e_Ri C (hM.2 i hi) d_MO_get0_26
    · skip
      exact absurd hi (by omega)
set_option maxHeartbeats 4000000 in
set_option maxRecDepth 100000 in
/-- get0(i), i out of range -/
theorem c_MO_get0_x (l : Launch) (hfl : l.flags = pinnedFlags ++ [noTraceFlag]) (D : va_G) (cI cZ cL : ClassId) (o r : Nat) (row : Nat → Int32) (txt : List Int32) (thr : Int32) (i : Int32) (hno : ¬ okG txt.length i) : XT l y_MO_get0 hd_MO_get0 rmX D (TY cI cZ cL) [.ref o, .int i] (wM o r cI row txt.length thr) xNSE := by
  refine XT.mk (by decide +kernel) (Nat.le_of_ble_eq_true rfl) ⟨rfl, rfl⟩ ?_
  intro p e s m below meth c ls C hP hl
  obtain ⟨hx, hb, hml, hown, hB, hlk, hr, htb, hK, hX⟩ := id C
  have hA := Aok_new s
  have hS : va_S (fun q => s.heap.size ≤ q) s.heap s.heap [] := va_S.rf
  have hl : lv_has ls 2 [(0, .ref o), (1, .int i)] := hl
  refine lv_iload_n hx hb d_MO_get0_0 rfl (lv_at hl 1 rfl) ?_
  refine lv_if_lt (tgt := 12) hx hb d_MO_get0_1 (by decide) (fun hc => ?_) (fun hc => ?_)
  · skip
    exact throw0 hfl C xs_MO_NSE (by decide +kernel) k_311 k_224 k_9 hl.1 d_MO_get0_12 d_MO_get0_15 d_MO_get0_16 d_MO_get0_19 (by decide) (by decide) (by decide) (by decide)
  · skip
    refine lv_iload_n hx hb d_MO_get0_4 rfl (lv_at hl 1 rfl) ?_
    refine lv_aload_n hx hb d_MO_get0_5 rfl (lv_at hl 0 rfl) ?_
    refine g_MO hx hb hB hown hK hP 0 rfl 1 (by decide) k_271 rfl d_MO_get0_6 ?_
    refine lv_icmp_lt (tgt := 20) hx hb d_MO_get0_9 (by decide) (fun hc2 => ?_) (fun hc2 => ?_)
    · skip
      exact absurd ⟨hc, hc2⟩ hno
    · skip
      exact throw0 hfl C xs_MO_NSE (by decide +kernel) k_311 k_224 k_9 hl.1 d_MO_get0_12 d_MO_get0_15 d_MO_get0_16 d_MO_get0_19 (by decide) (by decide) (by decide) (by decide)
set_option maxHeartbeats 4000000 in
set_option maxRecDepth 100000 in
/-- lines0() -/
theorem c_MO_lines0 (l : Launch) (D : va_G) (cI cZ cL : ClassId) (o r : Nat) (row : Nat → Int32) (txt : List Int32) (thr : Int32) (hM : MR txt row) : RI l y_MO_lines0 hd_MO_lines0 rmS D (TY cI cZ cL) [.ref o] (wM o r cI row txt.length thr) (fun z => z = nI (cnt txt txt.length + 1)) := by
  refine RI.mk (by decide +kernel) (Nat.le_of_ble_eq_true rfl) ?_
  intro p e s m below meth c ls C hP hl
  obtain ⟨hx, hb, hml, hown, hB, hlk, hr, htb, hK, hX⟩ := id C
  have hA := Aok_new s
  have hS : va_S (fun q => s.heap.size ≤ q) s.heap s.heap [] := va_S.rf
  have hl : lv_has ls 1 [(0, .ref o)] := hl
  refine lv_aload_n hx hb d_MO_lines0_0 rfl (lv_at hl 0 rfl) ?_
  refine lv_aload_n hx hb d_MO_lines0_1 rfl (lv_at hl 0 rfl) ?_
  refine g_MO hx hb hB hown hK hP 0 rfl 1 (by decide) k_271 rfl d_MO_lines0_2 ?_
  refine call_Ri (As := [.int (nI txt.length)]) (rest := []) (ci := 2) C hA kv_MO_30 (c_MO_endsBefore l D cI cZ cL o r row txt thr hM txt.length (Nat.le_refl _)) hP hS 0 rfl rfl rfl rfl hl.1 rfl (Nat.le_of_ble_eq_true rfl) ⟨by decide, by decide⟩ ⟨rfl, rfl⟩ ⟨Nat.zero_le _, Nat.zero_le _⟩ d_MO_lines0_5 (fun rr hrr => ?_)
  subst hrr
  refine lv_iconst (v := nI 1) hx hb d_MO_lines0_8 (by decide) ?_
  refine ln_iadd hx hb d_MO_lines0_9 ?_
  exact e_Ri C (rfl) d_MO_lines0_10
set_option maxHeartbeats 4000000 in
set_option maxRecDepth 100000 in
/-- line0(n), there is such a line -/
theorem c_MO_line0 (l : Launch) (D : va_G) (cI cZ cL : ClassId) (o r : Nat) (row : Nat → Int32) (txt : List Int32) (thr : Int32) (hM : MR txt row) (n : Nat) (hn : n ≤ cnt txt txt.length) : RI l y_MO_line0 hd_MO_line0 rmS D (TY cI cZ cL) [.ref o, .int (nI n)] (wM o r cI row txt.length thr) (fun z => ∃ k, z = nI k ∧ k ≤ txt.length ∧ n ≤ cnt txt k ∧ ∀ j, j < k → cnt txt j < n) := by
  refine RI.mk (by decide +kernel) (Nat.le_of_ble_eq_true rfl) ?_
  intro p e s m below meth c ls C hP hl
  obtain ⟨hx, hb, hml, hown, hB, hlk, hr, htb, hK, hX⟩ := id C
  have hA := Aok_new s
  have hS : va_S (fun q => s.heap.size ≤ q) s.heap s.heap [] := va_S.rf
  have hl : lv_has ls 3 [(0, .ref o), (1, .int (nI n))] := hl
  have hM1 := hM.1
  have hcl := cnt_lenle txt txt.length
  refine lv_iload_n hx hb d_MO_line0_0 rfl (lv_at hl 1 rfl) ?_
  refine lv_if_lt (tgt := 16) hx hb d_MO_line0_1 (by decide) (fun hc => ?_) (fun hc => ?_)
  · skip
    exact absurd hc (nI_pos (by omega))
  · skip
    refine lv_iload_n hx hb d_MO_line0_4 rfl (lv_at hl 1 rfl) ?_
    refine lv_aload_n hx hb d_MO_line0_5 rfl (lv_at hl 0 rfl) ?_
    refine lv_aload_n hx hb d_MO_line0_6 rfl (lv_at hl 0 rfl) ?_
    refine g_MO hx hb hB hown hK hP 0 rfl 1 (by decide) k_271 rfl d_MO_line0_7 ?_
    refine call_Ri (As := [.int (nI txt.length)]) (rest := [.int (nI n)]) (ci := 2) C hA kv_MO_30 (c_MO_endsBefore l D cI cZ cL o r row txt thr hM txt.length (Nat.le_refl _)) hP hS 0 rfl rfl rfl rfl hl.1 rfl (Nat.le_of_ble_eq_true rfl) ⟨by decide, by decide⟩ ⟨rfl, rfl⟩ ⟨Nat.zero_le _, Nat.zero_le _⟩ d_MO_line0_10 (fun rr hrr => ?_)
    subst hrr
    refine ln_icmp_le (tgt := 24) hx hb d_MO_line0_13 (by decide) (by omega) (by omega) (fun hc2 => ?_) (fun hc2 => ?_)
    · skip
      have loop : ∀ (g k : Nat) (ls : Array Slot), k ≤ txt.length → txt.length + 1 ≤ k + g → (∀ j, j < k → cnt txt j < n) → lv_has ls 3 [(2, .int (nI k)), (0, .ref o), (1, .int (nI n))] → W p l e rmS s m ([.ref o, .int (nI n)] : List Value).toArray below meth c s.heap [] 0 0 (MQ below (QRi (fun z => ∃ k, z = nI k ∧ k ≤ txt.length ∧ n ≤ cnt txt k ∧ ∀ j, j < k → cnt txt j < n)) ([.ref o, .int (nI n)] : List Value).toArray s rmS.cells rmS.slots (fun _ => False)) (F0 m 26 ls []) := by
        intro g
        induction g with
        | zero => intro k ls h1 h2; exact absurd h2 (by omega)
        | succ g ih =>
          intro k ls h1 h2 h3 hl
          have hck := cnt_lenle txt k
          refine lv_aload_n hx hb d_MO_line0_26 rfl (lv_at hl 1 rfl) ?_
          refine lv_iload_n hx hb d_MO_line0_27 rfl (lv_at hl 0 rfl) ?_
          refine call_Ri (As := [.int (nI k)]) (rest := []) (ci := 2) C hA kv_MO_30 (c_MO_endsBefore l D cI cZ cL o r row txt thr hM k h1) hP hS 0 rfl rfl rfl rfl hl.1 rfl (Nat.le_of_ble_eq_true rfl) ⟨by decide, by decide⟩ ⟨rfl, rfl⟩ ⟨Nat.zero_le _, Nat.zero_le _⟩ d_MO_line0_28 (fun rr hrr => ?_)
          subst hrr
          refine lv_iload_n hx hb d_MO_line0_31 rfl (lv_at hl 2 rfl) ?_
          refine ln_icmp_ge (tgt := 41) hx hb d_MO_line0_32 (by decide) (by omega) (by omega) (fun hc3 => ?_) (fun hc3 => ?_)
          · skip
            refine lv_iload_n hx hb d_MO_line0_41 rfl (lv_at hl 0 rfl) ?_
            exact e_Ri C (⟨k, rfl, h1, hc3, h3⟩) d_MO_line0_42
          · skip
            have hkl : k < txt.length := by
              rcases Nat.lt_or_ge k txt.length with q | q
              · exact q
              · have := cnt_mono (txt := txt) q; omega
            refine lv_iinc (v := (nI (k + 1))) (lv' := [(2, .int (nI (k + 1))), (0, .ref o), (1, .int (nI n))]) hx hb d_MO_line0_35 hl (k := 0) rfl (ln_p1 _) (by decide) rfl (fun ls hl => ?_)
            refine lv_goto (tgt := 26) hx hb d_MO_line0_38 (by decide) ?_
            exact ih (k + 1) ls (by omega) (by omega) (fun j hj => by rcases Nat.lt_or_ge j k with q | q; exact h3 j q; rw [show j = k by omega]; exact hc3) (lv_sub hl [0, 1, 2] rfl)
      refine lv_iconst (v := nI 0) hx hb d_MO_line0_24 (by decide) ?_
      refine lv_istore_n (lv' := [(2, .int (nI 0)), (0, .ref o), (1, .int (nI n))]) hx hb d_MO_line0_25 rfl hl (by decide) rfl (fun ls hl => ?_)
      exact loop (txt.length + 1) 0 ls (by omega) (by omega) (fun j hj => absurd hj (by omega)) (lv_sub hl [0, 1, 2] rfl)
    · skip
      exact absurd hn (by omega)
set_option maxHeartbeats 4000000 in
set_option maxRecDepth 100000 in
/-- line0(n), no such line -/
theorem c_MO_line0_x (l : Launch) (hfl : l.flags = pinnedFlags ++ [noTraceFlag]) (D : va_G) (cI cZ cL : ClassId) (o r : Nat) (row : Nat → Int32) (txt : List Int32) (thr : Int32) (hM : MR txt row) (n : Int32) (hno : ¬ okL (cnt txt txt.length) n) : XT l y_MO_line0 hd_MO_line0 rmX D (TY cI cZ cL) [.ref o, .int n] (wM o r cI row txt.length thr) xNSE := by
  refine XT.mk (by decide +kernel) (Nat.le_of_ble_eq_true rfl) ⟨rfl, rfl⟩ ?_
  intro p e s m below meth c ls C hP hl
  obtain ⟨hx, hb, hml, hown, hB, hlk, hr, htb, hK, hX⟩ := id C
  have hA := Aok_new s
  have hS : va_S (fun q => s.heap.size ≤ q) s.heap s.heap [] := va_S.rf
  have hl : lv_has ls 3 [(0, .ref o), (1, .int n)] := hl
  refine lv_iload_n hx hb d_MO_line0_0 rfl (lv_at hl 1 rfl) ?_
  refine lv_if_lt (tgt := 16) hx hb d_MO_line0_1 (by decide) (fun hc => ?_) (fun hc => ?_)
  · skip
    exact throw0 hfl C xs_MO_NSE (by decide +kernel) k_311 k_224 k_9 hl.1 d_MO_line0_16 d_MO_line0_19 d_MO_line0_20 d_MO_line0_23 (by decide) (by decide) (by decide) (by decide)
  · skip
    refine lv_iload_n hx hb d_MO_line0_4 rfl (lv_at hl 1 rfl) ?_
    refine lv_aload_n hx hb d_MO_line0_5 rfl (lv_at hl 0 rfl) ?_
    refine lv_aload_n hx hb d_MO_line0_6 rfl (lv_at hl 0 rfl) ?_
    refine g_MO hx hb hB hown hK hP 0 rfl 1 (by decide) k_271 rfl d_MO_line0_7 ?_
    refine call_Ri (As := [.int (nI txt.length)]) (rest := [.int n]) (ci := 2) C hA kv_MO_30 (c_MO_endsBefore l D cI cZ cL o r row txt thr hM txt.length (Nat.le_refl _)) hP hS 0 rfl rfl rfl rfl hl.1 rfl (Nat.le_of_ble_eq_true rfl) ⟨by decide, by decide⟩ ⟨rfl, rfl⟩ ⟨Nat.zero_le _, Nat.zero_le _⟩ d_MO_line0_10 (fun rr hrr => ?_)
    subst hrr
    refine lv_icmp_le (tgt := 24) hx hb d_MO_line0_13 (by decide) (fun hc2 => ?_) (fun hc2 => ?_)
    · skip
      exact absurd ⟨hc, Int32.not_lt.mpr hc2⟩ hno
    · skip
      exact throw0 hfl C xs_MO_NSE (by decide +kernel) k_311 k_224 k_9 hl.1 d_MO_line0_16 d_MO_line0_19 d_MO_line0_20 d_MO_line0_23 (by decide) (by decide) (by decide) (by decide)
set_option maxHeartbeats 4000000 in
set_option maxRecDepth 100000 in
/-- lineOf0(i), i in range -/
theorem c_MO_lineOf0 (l : Launch) (D : va_G) (cI cZ cL : ClassId) (o r : Nat) (row : Nat → Int32) (txt : List Int32) (thr : Int32) (hM : MR txt row) (i : Nat) (hi : i ≤ txt.length) : RI l y_MO_lineOf0 hd_MO_lineOf0 rmS D (TY cI cZ cL) [.ref o, .int (nI i)] (wM o r cI row txt.length thr) (fun z => z = nI (cnt txt i)) := by
  refine RI.mk (by decide +kernel) (Nat.le_of_ble_eq_true rfl) ?_
  intro p e s m below meth c ls C hP hl
  obtain ⟨hx, hb, hml, hown, hB, hlk, hr, htb, hK, hX⟩ := id C
  have hA := Aok_new s
  have hS : va_S (fun q => s.heap.size ≤ q) s.heap s.heap [] := va_S.rf
  have hl : lv_has ls 2 [(0, .ref o), (1, .int (nI i))] := hl
  have hM1 := hM.1
  refine lv_iload_n hx hb d_MO_lineOf0_0 rfl (lv_at hl 1 rfl) ?_
  refine lv_if_lt (tgt := 16) hx hb d_MO_lineOf0_1 (by decide) (fun hc => ?_) (fun hc => ?_)
  · skip
    exact absurd hc (nI_pos (by omega))
  · skip
    refine lv_iload_n hx hb d_MO_lineOf0_4 rfl (lv_at hl 1 rfl) ?_
    refine lv_aload_n hx hb d_MO_lineOf0_5 rfl (lv_at hl 0 rfl) ?_
    refine g_MO hx hb hB hown hK hP 0 rfl 1 (by decide) k_271 rfl d_MO_lineOf0_6 ?_
    refine ln_icmp_gt (tgt := 16) hx hb d_MO_lineOf0_9 (by decide) (by omega) (by omega) (fun hc2 => ?_) (fun hc2 => ?_)
    · skip
      exact absurd hi (by omega)
    · skip
      refine lv_iconst (v := nI 1) hx hb d_MO_lineOf0_12 (by decide) ?_
      refine lv_goto (tgt := 17) hx hb d_MO_lineOf0_13 (by decide) ?_
      refine lv_eqi (y := bI true) (rfl) ?_
      refine call_Rs (As := [.int (bI true)]) (rest := []) C hA ks_MO_20 (c_MO_check_t l D cI cZ cL) (fun k q h => by simp at h) hS rfl hl.1 rfl (Nat.le_of_ble_eq_true rfl) ⟨by decide, by decide⟩ ⟨rfl, rfl⟩ ⟨Nat.zero_le _, Nat.zero_le _⟩ d_MO_lineOf0_17 ?_
      refine lv_aload_n hx hb d_MO_lineOf0_20 rfl (lv_at hl 0 rfl) ?_
      refine lv_iload_n hx hb d_MO_lineOf0_21 rfl (lv_at hl 1 rfl) ?_
      refine call_Ri (As := [.int (nI i)]) (rest := []) (ci := 2) C hA kv_MO_30 (c_MO_endsBefore l D cI cZ cL o r row txt thr hM i hi) hP hS 0 rfl rfl rfl rfl hl.1 rfl (Nat.le_of_ble_eq_true rfl) ⟨by decide, by decide⟩ ⟨rfl, rfl⟩ ⟨Nat.zero_le _, Nat.zero_le _⟩ d_MO_lineOf0_22 (fun rr hrr => ?_)
      subst hrr
      exact e_Ri C (rfl) d_MO_lineOf0_25
set_option maxHeartbeats 4000000 in
set_option maxRecDepth 100000 in
/-- lineOf0(i), i out of range -/
theorem c_MO_lineOf0_x (l : Launch) (hfl : l.flags = pinnedFlags ++ [noTraceFlag]) (D : va_G) (cI cZ cL : ClassId) (o r : Nat) (row : Nat → Int32) (txt : List Int32) (thr : Int32) (i : Int32) (hno : ¬ okL txt.length i) : XT l y_MO_lineOf0 hd_MO_lineOf0 rmY D (TY cI cZ cL) [.ref o, .int i] (wM o r cI row txt.length thr) xIAE := by
  refine XT.mk (by decide +kernel) (Nat.le_of_ble_eq_true rfl) ⟨rfl, rfl⟩ ?_
  intro p e s m below meth c ls C hP hl
  obtain ⟨hx, hb, hml, hown, hB, hlk, hr, htb, hK, hX⟩ := id C
  have hA := Aok_new s
  have hS : va_S (fun q => s.heap.size ≤ q) s.heap s.heap [] := va_S.rf
  have hl : lv_has ls 2 [(0, .ref o), (1, .int i)] := hl
  refine lv_iload_n hx hb d_MO_lineOf0_0 rfl (lv_at hl 1 rfl) ?_
  refine lv_if_lt (tgt := 16) hx hb d_MO_lineOf0_1 (by decide) (fun hc => ?_) (fun hc => ?_)
  · skip
    refine lv_iconst (v := nI 0) hx hb d_MO_lineOf0_16 (by decide) ?_
    refine lv_eqi (y := bI false) (rfl) ?_
    exact call_Xs (As := [.int (bI false)]) (rest := []) C ks_MO_20 (c_MO_check_f l hfl D cI cZ cL) (fun k q h => by simp at h) rfl hl.1 rfl (Nat.le_of_ble_eq_true rfl) ⟨by decide, by decide⟩ ⟨by decide, by decide⟩ d_MO_lineOf0_17
  · skip
    refine lv_iload_n hx hb d_MO_lineOf0_4 rfl (lv_at hl 1 rfl) ?_
    refine lv_aload_n hx hb d_MO_lineOf0_5 rfl (lv_at hl 0 rfl) ?_
    refine g_MO hx hb hB hown hK hP 0 rfl 1 (by decide) k_271 rfl d_MO_lineOf0_6 ?_
    refine lv_icmp_gt (tgt := 16) hx hb d_MO_lineOf0_9 (by decide) (fun hc2 => ?_) (fun hc2 => ?_)
    · skip
      refine lv_iconst (v := nI 0) hx hb d_MO_lineOf0_16 (by decide) ?_
      refine lv_eqi (y := bI false) (rfl) ?_
      exact call_Xs (As := [.int (bI false)]) (rest := []) C ks_MO_20 (c_MO_check_f l hfl D cI cZ cL) (fun k q h => by simp at h) rfl hl.1 rfl (Nat.le_of_ble_eq_true rfl) ⟨by decide, by decide⟩ ⟨by decide, by decide⟩ d_MO_lineOf0_17
    · skip
      exact absurd ⟨hc, hc2⟩ hno
set_option maxHeartbeats 4000000 in
set_option maxRecDepth 100000 in
/-- digest0() -/
theorem c_MO_digest0 (l : Launch) (D : va_G) (cI cZ cL : ClassId) (o r : Nat) (row : Nat → Int32) (txt : List Int32) (thr : Int32) (hM : MR txt row) : RI l y_MO_digest0 hd_MO_digest0 rmz D (TY cI cZ cL) [.ref o] (wM o r cI row txt.length thr) (fun z => z = dgN txt txt.length) := by
  refine RI.mk (by decide +kernel) (Nat.le_of_ble_eq_true rfl) ?_
  intro p e s m below meth c ls C hP hl
  obtain ⟨hx, hb, hml, hown, hB, hlk, hr, htb, hK, hX⟩ := id C
  have hA := Aok_new s
  have hS : va_S (fun q => s.heap.size ≤ q) s.heap s.heap [] := va_S.rf
  have hl : lv_has ls 3 [(0, .ref o)] := hl
  have hM1 := hM.1
  have loop : ∀ (n k : Nat) (ls : Array Slot), k ≤ txt.length → txt.length + 1 ≤ k + n → lv_has ls 3 [(2, .int (nI k)), (1, .int (dgN txt k)), (0, .ref o)] → W p l e rmz s m ([.ref o] : List Value).toArray below meth c s.heap [] 0 0 (MQ below (QRi (fun z => z = dgN txt txt.length)) ([.ref o] : List Value).toArray s rmz.cells rmz.slots (fun _ => False)) (F0 m 4 ls []) := by
    intro n
    induction n with
    | zero => intro k ls h1 h2; exact absurd h2 (by omega)
    | succ n ih =>
      intro k ls h1 h2 hl
      refine lv_iload_n hx hb d_MO_digest0_4 rfl (lv_at hl 0 rfl) ?_
      refine lv_aload_n hx hb d_MO_digest0_5 rfl (lv_at hl 2 rfl) ?_
      refine g_MO hx hb hB hown hK hP 0 rfl 1 (by decide) k_271 rfl d_MO_digest0_6 ?_
      refine ln_icmp_ge (tgt := 31) hx hb d_MO_digest0_9 (by decide) (by omega) (by omega) (fun hc => ?_) (fun hc => ?_)
      · skip
        have hk : k = txt.length := by omega
        refine lv_iload_n hx hb d_MO_digest0_31 rfl (lv_at hl 1 rfl) ?_
        rw [hk]
        exact e_Ri C (rfl) d_MO_digest0_32
      · skip
        refine lv_iload_n hx hb d_MO_digest0_12 rfl (lv_at hl 1 rfl) ?_
        refine lv_aload_n hx hb d_MO_digest0_13 rfl (lv_at hl 2 rfl) ?_
        refine g_MO hx hb hB hown hK hP 0 rfl 0 (by decide) k_270 rfl d_MO_digest0_14 ?_
        refine lv_iload_n hx hb d_MO_digest0_17 rfl (lv_at hl 0 rfl) ?_
        refine ln_vald hx hb hK hP 1 0 rfl rfl (by omega) (by omega) d_MO_digest0_18 ?_
        rw [hM.2 k (by omega)]
        refine lv_iload_n hx hb d_MO_digest0_19 rfl (lv_at hl 0 rfl) ?_
        refine lv_iconst (v := nI 1) hx hb d_MO_digest0_20 (by decide) ?_
        refine ln_iadd hx hb d_MO_digest0_21 ?_
        refine lv_imul hx hb d_MO_digest0_22 ?_
        refine lv_iadd hx hb d_MO_digest0_23 ?_
        refine lv_istore_n (lv' := [(1, .int ((dgN txt k) + ((txt.getD k 0) * (nI (k + 1))))), (2, .int (nI k)), (0, .ref o)]) hx hb d_MO_digest0_24 rfl hl (by decide) rfl (fun ls hl => ?_)
        refine lv_iinc (v := (nI (k + 1))) (lv' := [(2, .int (nI (k + 1))), (1, .int ((dgN txt k) + ((txt.getD k 0) * (nI (k + 1))))), (0, .ref o)]) hx hb d_MO_digest0_25 hl (k := 1) rfl (ln_p1 _) (by decide) rfl (fun ls hl => ?_)
        refine lv_goto (tgt := 4) hx hb d_MO_digest0_28 (by decide) ?_
        exact ih (k + 1) ls (by omega) (by omega) (lv_sub hl [0, 1, 2] rfl)
  refine lv_iconst (v := 0) hx hb d_MO_digest0_0 (by decide) ?_
  refine lv_istore_n (lv' := [(1, .int 0), (0, .ref o)]) hx hb d_MO_digest0_1 rfl hl (by decide) rfl (fun ls hl => ?_)
  refine lv_iconst (v := nI 0) hx hb d_MO_digest0_2 (by decide) ?_
  refine lv_istore_n (lv' := [(2, .int (nI 0)), (1, .int 0), (0, .ref o)]) hx hb d_MO_digest0_3 rfl hl (by decide) rfl (fun ls hl => ?_)
  exact loop (txt.length + 1) 0 ls (by omega) (by omega) (lv_sub hl [0, 1, 2] rfl)
end
section
/-! ===== array classes by their name ===== -/
theorem xcA_int {D : va_G} {tys : List (ClassId × FieldType)} {s : State} {cA cI : ClassId} (hK : va_K D classes (tys ++ [(cA, .int)]) s) (t0 : Nat) (h : tys[t0]? = some (cI, .int)) : cA = cI := by
  have h1 := (hK.2 tys.length (cA, .int) (by simp)).2
  have h2 := (hK.2 t0 (cI, .int) (by rw [List.getElem?_append_left (List.getElem?_eq_some_iff.mp h).1]; exact h)).2
  have h3 : s.vm.findClass ("[" ++ FieldType.int.toString) = some cA := h1
  have h4 : s.vm.findClass ("[" ++ FieldType.int.toString) = some cI := h2
  exact Option.some.inj (h3.symm.trans h4)
theorem xcA_bool {D : va_G} {tys : List (ClassId × FieldType)} {s : State} {cA cI : ClassId} (hK : va_K D classes (tys ++ [(cA, .boolean)]) s) (t0 : Nat) (h : tys[t0]? = some (cI, .boolean)) : cA = cI := by
  have h1 := (hK.2 tys.length (cA, .boolean) (by simp)).2
  have h2 := (hK.2 t0 (cI, .boolean) (by rw [List.getElem?_append_left (List.getElem?_eq_some_iff.mp h).1]; exact h)).2
  have h3 : s.vm.findClass ("[" ++ FieldType.boolean.toString) = some cA := h1
  have h4 : s.vm.findClass ("[" ++ FieldType.boolean.toString) = some cI := h2
  exact Option.some.inj (h3.symm.trans h4)
theorem xcA_long {D : va_G} {tys : List (ClassId × FieldType)} {s : State} {cA cI : ClassId} (hK : va_K D classes (tys ++ [(cA, .long)]) s) (t0 : Nat) (h : tys[t0]? = some (cI, .long)) : cA = cI := by
  have h1 := (hK.2 tys.length (cA, .long) (by simp)).2
  have h2 := (hK.2 t0 (cI, .long) (by rw [List.getElem?_append_left (List.getElem?_eq_some_iff.mp h).1]; exact h)).2
  have h3 : s.vm.findClass ("[" ++ FieldType.long.toString) = some cA := h1
  have h4 : s.vm.findClass ("[" ++ FieldType.long.toString) = some cI := h2
  exact Option.some.inj (h3.symm.trans h4)
theorem xc_IAE : Cond.castable xIAE xIAE ∈ xw1 := by unfold xw1; simp
theorem xc_ISE : Cond.castable xISE xISE ∈ xw1 := by unfold xw1; simp
theorem xc_NSE : Cond.castable xNSE xNSE ∈ xw1 := by unfold xw1; simp
/-! ===== shifting in a row ===== -/
theorem upd_s {f : Nat → Int32} {k : Nat} {x : Int32} : upd f k x k = x := by simp [upd]
theorem upd_n {f : Nat → Int32} {k j : Nat} {x : Int32} (h : j ≠ k) : upd f k x j = f j := by simp [upd, h]
def ShU (len n kk : Nat) (row row1 : Nat → Int32) : Prop := (∀ j, kk ≤ j → j < len → row1 (j + n) = row j) ∧ ∀ j, j < kk + n → row1 j = row j
theorem ShU_0 {len n : Nat} {row : Nat → Int32} : ShU len n len row row := ⟨fun j h1 h2 => absurd h1 (by omega), fun _ _ => rfl⟩
theorem ShU_s {len n kk : Nat} {row row1 : Nat → Int32} (h : ShU len n (kk + 1) row row1) (hn : 1 ≤ n) : ShU len n kk row (upd row1 (kk + n) (row1 kk)) := by
  refine ⟨fun j h1 h2 => ?_, fun j h1 => ?_⟩
  · by_cases hj : j = kk
    · subst hj; rw [upd_s]; exact h.2 j (by omega)
    · rw [upd_n (by omega)]; exact h.1 j (by omega) h2
  · rw [upd_n (by omega)]; exact h.2 j (by omega)
def Fil (i k : Nat) (v st : Int32) (row row1 : Nat → Int32) : Prop := (∀ j, j < k → row1 (i + j) = v + nI j * st) ∧ ∀ j, j < i ∨ i + k ≤ j → row1 j = row j
theorem Fil_0 {i : Nat} {v st : Int32} {row : Nat → Int32} : Fil i 0 v st row row := ⟨fun j h => absurd h (by omega), fun _ _ => rfl⟩
theorem Fil_s {i k : Nat} {v st : Int32} {row row1 : Nat → Int32} (h : Fil i k v st row row1) : Fil i (k + 1) v st row (upd row1 (i + k) (v + nI k * st)) := by
  refine ⟨fun j h1 => ?_, fun j h1 => ?_⟩
  · by_cases hj : j = k
    · subst hj; rw [upd_s]
    · rw [upd_n (by omega)]; exact h.1 j (by omega)
  · rw [upd_n (by omega)]; exact h.2 j (by omega)
theorem MR_ins2 {txt : List Int32} {row row1 row2 : Nat → Int32} {i n : Nat} {v st : Int32} (hM : MR txt row) (hi : i ≤ txt.length) (hn : txt.length + n ≤ 20000) (h1 : ShU txt.length n i row row1) (h2 : Fil i n v st row1 row2) : MR (insN txt i (newV v st n)) row2 := by
  refine MR_ins hM hi hn (fun j hj => ?_) h2.1 (fun j h3 h4 => ?_)
  · rw [h2.2 j (Or.inl hj)]; exact h1.2 j (by omega)
  · rw [h2.2 (j + n) (Or.inr (by omega))]; exact h1.1 j h3 h4
def ShD (i n k : Nat) (row row1 : Nat → Int32) : Prop := (∀ j, i ≤ j → j + n < k → row1 j = row (j + n)) ∧ ∀ j, j < i ∨ k ≤ j + n → row1 j = row j
theorem ShD_0 {i n : Nat} {row : Nat → Int32} : ShD i n (i + n) row row := ⟨fun j h1 h2 => absurd h1 (by omega), fun _ _ => rfl⟩
theorem ShD_s {i n k : Nat} {row row1 : Nat → Int32} (h : ShD i n k row row1) (hk : i + n ≤ k) : ShD i n (k + 1) row (upd row1 (k - n) (row1 k)) := by
  refine ⟨fun j h1 h2 => ?_, fun j h1 => ?_⟩
  · by_cases hj : j = k - n
    · subst hj; rw [upd_s, show k - n + n = k by omega]; exact h.2 k (by omega)
    · rw [upd_n hj]; exact h.1 j h1 (by omega)
  · rw [upd_n (by omega)]; exact h.2 j (by omega)
theorem MR_del2 {txt : List Int32} {row row1 : Nat → Int32} {i n : Nat} (hM : MR txt row) (hi : i + n ≤ txt.length) (h1 : ShD i n txt.length row row1) : MR (delN txt i n) row1 :=
  MR_del hM hi (fun j hj => h1.2 j (Or.inl hj)) (fun j h3 h4 => h1.1 j h3 h4)
/-! ===== the answers ===== -/
def insK (len : Nat) (i n : Int32) : Int32 := if okI len i n then (if nI len + n ≤ 20000 then 0 else 2) else 1
def insT (txt : List Int32) (i v st n : Int32) : List Int32 := if insK txt.length i n = 0 then insN txt i.toNatClampNeg (newV v st n.toNatClampNeg) else txt
def delK (len : Nat) (i n : Int32) : Int32 := if okD len i n then 0 else 1
def delT (txt : List Int32) (i n : Int32) : List Int32 := if okD txt.length i n then delN txt i.toNatClampNeg n.toNatClampNeg else txt
def getK (len : Nat) (i : Int32) : Int32 := if okG len i then 0 else 1
def lofK (len : Nat) (i : Int32) : Int32 := if okL len i then 0 else 1
theorem insK_ok {len : Nat} {i n : Int32} (h : okI len i n) (h2 : nI len + n ≤ 20000) : insK len i n = 0 := by unfold insK; rw [if_pos h, if_pos h2]
theorem insK_big {len : Nat} {i n : Int32} (h : okI len i n) (h2 : ¬ nI len + n ≤ 20000) : insK len i n = 2 := by unfold insK; rw [if_pos h, if_neg h2]
theorem insK_no {len : Nat} {i n : Int32} (h : ¬ okI len i n) : insK len i n = 1 := by unfold insK; rw [if_neg h]
theorem insT_ok {txt : List Int32} {v st : Int32} {a c : Nat} (h : insK txt.length (nI a) (nI c) = 0) (ha : a < 2 ^ 31) (hc : c < 2 ^ 31) : insT txt (nI a) v st (nI c) = insN txt a (newV v st c) := by
  unfold insT; rw [if_pos h, nI_clamp ha, nI_clamp hc]
theorem insT_no {txt : List Int32} {i v st n : Int32} (h : insK txt.length i n ≠ 0) : insT txt i v st n = txt := by unfold insT; rw [if_neg h]
theorem delT_ok {txt : List Int32} {a c : Nat} (h : okD txt.length (nI a) (nI c)) (ha : a < 2 ^ 31) (hc : c < 2 ^ 31) : delT txt (nI a) (nI c) = delN txt a c := by
  unfold delT; rw [if_pos h, nI_clamp ha, nI_clamp hc]
theorem delT_no {txt : List Int32} {i n : Int32} (h : ¬ okD txt.length i n) : delT txt i n = txt := by unfold delT; rw [if_neg h]
theorem big_nat {len c : Nat} (hl : len ≤ 20000) (hc : c ≤ 500) : nI len + nI c ≤ 20000 ↔ len + c ≤ 20000 := by
  rw [nI_add, show (20000 : Int32) = nI 20000 by decide]
  exact nI_leI (by omega) (by omega)
end
section
abbrev rmI : Room := { frames := 1, cells := 1, slots := 20000, locals := 20 }
set_option maxHeartbeats 4000000 in
set_option maxRecDepth 100000 in
/-- the constructor: a row of 20000 zeros -/
theorem c_MO_init (l : Launch) (D : va_G) (cI cZ cL : ClassId) (o : Nat) : CV l y_MO_init hd_MO_init rmI D (TY cI cZ cL) [.ref o] ([(o, .inr (2, [.null, .int 0, .int 0]))]) (fun _ : Nat => True) (fun r => wM o r cI (fun _ => 0) 0 0) := by
  refine CV.mk (by decide +kernel) (Nat.le_of_ble_eq_true rfl) ?_
  intro p e s m below meth c A ls C hin hA hP hD hl
  obtain ⟨hx, hb, hml, hown, hB, hlk, hr, htb, hK, hX⟩ := id C
  have hS : va_S A s.heap s.heap [] := va_S.rf
  have hl : lv_has ls 1 [(0, .ref o)] := hl
  have hin : meth.name = "<init>" := hin
  refine lv_aload_n hx hb d_MO_init_0 rfl (lv_at hl 0 rfl) ?_
  refine W.objInit hx hb hown (hB _ k_269) (hB _ k_16) (hB _ k_17) rfl (by rw [hml]; exact hl.1) rfl d_MO_init_1 (Nat.le_of_ble_eq_true rfl) (Nat.le_of_ble_eq_true rfl) ?_
  refine W.eq (g2 := F0 m 4 ls []) rfl ?_
  refine lv_aload_n hx hb d_MO_init_4 rfl (lv_at hl 0 rfl) ?_
  refine lv_sipush (v := nI 20000) hx hb d_MO_init_5 (by decide) ?_
  refine va_newa (atype := .int) (ty := .int) (a0 := (20000, .inl (fun _ => 0))) (N' := 20000) hx hb (hB _ k_66) rfl hK hP hD hS hA.1 (fun cA => rfl) (nI_pos (by omega)) (nI_clamp (by omega)) (by decide) (by decide) (by decide) d_MO_init_8 (fun r0 cA H hK2 hP hD hS => ?_)
  obtain rfl := (xcA_int hK2 0 rfl).symm
  have hP : va_P D classes ([(o, .inr (2, [.null, .int 0, .int 0])), (r0, .inl (cI, 20000, .inl (fun _ => 0)))]) H := hP
  have hD : va_D A ([(o, .inr (2, [.null, .int 0, .int 0])), (r0, .inl (cI, 20000, .inl (fun _ => 0)))]) := hD
  refine p_MOf hx hb hB hown hK hP hD hS 0 rfl k_270 hin (Nat.le_of_ble_eq_true rfl) d_MO_init_10 (fun H locs hP hD hS => ?_)
  have hP : va_P D classes ([(o, .inr (2, [.ref r0, .int 0, .int 0])), (r0, .inl (cI, 20000, .inl (fun _ => 0)))]) H := hP
  have hD : va_D A ([(o, .inr (2, [.ref r0, .int 0, .int 0])), (r0, .inl (cI, 20000, .inl (fun _ => 0)))]) := hD
  exact e_Cv C hS (r0) (trivial) hP hD (by decide) (by decide) d_MO_init_13
set_option maxHeartbeats 4000000 in
set_option maxRecDepth 100000 in
/-- insert0, when it may -/
theorem c_MO_insert0 (l : Launch) (D : va_G) (cI cZ cL : ClassId) (o r : Nat) (row : Nat → Int32) (txt : List Int32) (thr : Int32) (hM : MR txt row) (i : Nat) (v st : Int32) (n : Nat) (hi : i ≤ txt.length) (h1 : 1 ≤ n) (h2 : n ≤ 500) (h3 : txt.length + n ≤ 20000) : CI l y_MO_insert0 hd_MO_insert0 rmS D (TY cI cZ cL) [.ref o, .int (nI i), .int v, .int st, .int (nI n)] (wM o r cI row txt.length thr) (fun (z : Int32) (row2 : Nat → Int32) => z = nI (txt.length + n) ∧ MR (insN txt i (newV v st n)) row2) (fun row2 => wM o r cI row2 (txt.length + n) thr) := by
  refine CI.mk (by decide +kernel) (Nat.le_of_ble_eq_true rfl) ?_
  intro p e s m below meth c A ls C hA hP hD hl
  obtain ⟨hx, hb, hml, hown, hB, hlk, hr, htb, hK, hX⟩ := id C
  have hS : va_S A s.heap s.heap [] := va_S.rf
  have hl : lv_has ls 6 [(0, .ref o), (1, .int (nI i)), (2, .int v), (3, .int st), (4, .int (nI n))] := hl
  have after : ∀ (row1 : Nat → Int32), ShU txt.length n i row row1 → ∀ (g k : Nat) (row2 : Nat → Int32) (H : Heap) (locs : List Loc) (ls : Array Slot), k ≤ n → n + 1 ≤ k + g → Fil i k v st row1 row2 → va_P D classes (wM o r cI row2 txt.length thr) H → va_D A (wM o r cI row2 txt.length thr) → va_S A s.heap H locs → lv_has ls 6 [(5, .int (nI k)), (0, .ref o), (1, .int (nI i)), (2, .int v), (3, .int st), (4, .int (nI n))] → W p l e rmS s m ([.ref o, .int (nI i), .int v, .int st, .int (nI n)] : List Value).toArray below meth c H locs 0 0 (MQ below (QCi D (TY cI cZ cL) (fun (z : Int32) (row2 : Nat → Int32) => z = nI (txt.length + n) ∧ MR (insN txt i (newV v st n)) row2) (fun row2 => wM o r cI row2 (txt.length + n) thr) A) ([.ref o, .int (nI i), .int v, .int st, .int (nI n)] : List Value).toArray s rmS.cells rmS.slots A) (F0 m 95 ls []) := by
    intro row1 hS1 g
    induction g with
    | zero => intro k row2 H locs ls q1 q2; exact absurd q2 (by omega)
    | succ g ih =>
      intro k row2 H locs ls q1 q2 hF hP hD hS hl
      refine lv_iload hx hb d_MO_insert0_95 (lv_at hl 0 rfl) ?_
      refine lv_iload hx hb d_MO_insert0_97 (lv_at hl 5 rfl) ?_
      refine ln_icmp_ge (tgt := 123) hx hb d_MO_insert0_99 (by decide) (by omega) (by omega) (fun hc => ?_) (fun hc => ?_)
      · skip
        obtain rfl : n = k := by omega
        refine lv_aload_n hx hb d_MO_insert0_123 rfl (lv_at hl 1 rfl) ?_
        refine lv_dup hx hb d_MO_insert0_124 rfl ?_
        refine g_MO hx hb hB hown hK hP 0 rfl 1 (by decide) k_271 rfl d_MO_insert0_125 ?_
        refine lv_iload hx hb d_MO_insert0_128 (lv_at hl 5 rfl) ?_
        refine ln_iadd hx hb d_MO_insert0_130 ?_
        refine p_MO hx hb hB hown hK hP hD hS 0 rfl 1 (by decide) k_271 rfl rfl (Nat.le_of_ble_eq_true rfl) d_MO_insert0_131 (fun H locs hP hD hS => ?_)
        have hP : va_P D classes (wM o r cI row2 (txt.length + n) thr) H := hP
        have hD : va_D A (wM o r cI row2 (txt.length + n) thr) := hD
        refine lv_aload_n hx hb d_MO_insert0_134 rfl (lv_at hl 1 rfl) ?_
        refine g_MO hx hb hB hown hK hP 0 rfl 1 (by decide) k_271 rfl d_MO_insert0_135 ?_
        exact e_Ci C hS (row2) (⟨rfl, MR_ins2 hM hi h3 hS1 hF⟩) hP hD (by decide) (by decide) d_MO_insert0_138
      · skip
        refine lv_aload_n hx hb d_MO_insert0_102 rfl (lv_at hl 1 rfl) ?_
        refine g_MO hx hb hB hown hK hP 0 rfl 0 (by decide) k_270 rfl d_MO_insert0_103 ?_
        refine lv_iload_n hx hb d_MO_insert0_106 rfl (lv_at hl 2 rfl) ?_
        refine lv_iload hx hb d_MO_insert0_107 (lv_at hl 0 rfl) ?_
        refine ln_iadd hx hb d_MO_insert0_109 ?_
        refine lv_iload_n hx hb d_MO_insert0_110 rfl (lv_at hl 3 rfl) ?_
        refine lv_iload hx hb d_MO_insert0_111 (lv_at hl 0 rfl) ?_
        refine lv_iload_n hx hb d_MO_insert0_113 rfl (lv_at hl 4 rfl) ?_
        refine lv_imul hx hb d_MO_insert0_114 ?_
        refine lv_iadd hx hb d_MO_insert0_115 ?_
        refine ln_vast hx hb hK hP hD hS 1 0 rfl rfl (by omega) (by omega) d_MO_insert0_116 (fun H locs hP hD hS => ?_)
        have hP : va_P D classes (wM o r cI (upd row2 (i + k) (v + ((nI k) * st))) txt.length thr) H := hP
        have hD : va_D A (wM o r cI (upd row2 (i + k) (v + ((nI k) * st))) txt.length thr) := hD
        refine lv_iinc (v := (nI (k + 1))) (lv' := [(5, .int (nI (k + 1))), (0, .ref o), (1, .int (nI i)), (2, .int v), (3, .int st), (4, .int (nI n))]) hx hb d_MO_insert0_117 hl (k := 0) rfl (ln_p1 _) (by decide) rfl (fun ls hl => ?_)
        refine lv_goto (tgt := 95) hx hb d_MO_insert0_120 (by decide) ?_
        exact ih (k + 1) _ H locs ls (by omega) (by omega) (Fil_s hF) hP hD hS (lv_sub hl [0, 1, 2, 3, 4, 5] rfl)
  have loop : ∀ (kk : Nat) (row1 : Nat → Int32) (H : Heap) (locs : List Loc) (ls : Array Slot), i ≤ kk → kk ≤ txt.length → ShU txt.length n kk row row1 → va_P D classes (wM o r cI row1 txt.length thr) H → va_D A (wM o r cI row1 txt.length thr) → va_S A s.heap H locs → lv_has ls 6 [(5, .int (mI kk)), (0, .ref o), (1, .int (nI i)), (2, .int v), (3, .int st), (4, .int (nI n))] → W p l e rmS s m ([.ref o, .int (nI i), .int v, .int st, .int (nI n)] : List Value).toArray below meth c H locs 0 0 (MQ below (QCi D (TY cI cZ cL) (fun (z : Int32) (row2 : Nat → Int32) => z = nI (txt.length + n) ∧ MR (insN txt i (newV v st n)) row2) (fun row2 => wM o r cI row2 (txt.length + n) thr) A) ([.ref o, .int (nI i), .int v, .int st, .int (nI n)] : List Value).toArray s rmS.cells rmS.slots A) (F0 m 63 ls []) := by
    intro kk
    induction kk with
    | zero =>
      intro row1 H locs ls q1 q2 hS1 hP hD hS hl
      refine lv_iload hx hb d_MO_insert0_63 (lv_at hl 0 rfl) ?_
      refine lv_iload_n hx hb d_MO_insert0_65 rfl (lv_at hl 2 rfl) ?_
      refine lv_icmp_lt (tgt := 92) hx hb d_MO_insert0_66 (by decide) (fun hc => ?_) (fun hc => ?_)
      · skip
        have hq : 0 ≤ i := (mI_lt (by omega) (by omega)).mp hc
        have hq2 : 0 = i := by omega
        refine lv_iconst (v := nI 0) hx hb d_MO_insert0_92 (by decide) ?_
        refine lv_istore (lv' := [(5, .int (nI 0)), (0, .ref o), (1, .int (nI i)), (2, .int v), (3, .int st), (4, .int (nI n))]) hx hb d_MO_insert0_93 hl (by decide) rfl (fun ls hl => ?_)
        exact after row1 (hq2 ▸ hS1) (n + 1) 0 row1 H locs ls (by omega) (by omega) Fil_0 hP hD hS (lv_sub hl [0, 1, 2, 3, 4, 5] rfl)
      · skip
        exact absurd ((mI_lt (by omega) (by omega)).mpr (Nat.zero_le i)) hc
    | succ kk ih =>
      intro row1 H locs ls q1 q2 hS1 hP hD hS hl
      refine lv_iload hx hb d_MO_insert0_63 (lv_at hl 0 rfl) ?_
      refine lv_iload_n hx hb d_MO_insert0_65 rfl (lv_at hl 2 rfl) ?_
      refine lv_icmp_lt (tgt := 92) hx hb d_MO_insert0_66 (by decide) (fun hc => ?_) (fun hc => ?_)
      · skip
        have hq : kk + 1 ≤ i := (mI_lt (by omega) (by omega)).mp hc
        have hq2 : kk + 1 = i := by omega
        refine lv_iconst (v := nI 0) hx hb d_MO_insert0_92 (by decide) ?_
        refine lv_istore (lv' := [(5, .int (nI 0)), (0, .ref o), (1, .int (nI i)), (2, .int v), (3, .int st), (4, .int (nI n))]) hx hb d_MO_insert0_93 hl (by decide) rfl (fun ls hl => ?_)
        exact after row1 (hq2 ▸ hS1) (n + 1) 0 row1 H locs ls (by omega) (by omega) Fil_0 hP hD hS (lv_sub hl [0, 1, 2, 3, 4, 5] rfl)
      · skip
        have hq : i < kk + 1 := Nat.lt_of_not_le (fun z => hc ((mI_lt (by omega) (by omega)).mpr z))
        rw [mI_s] at hl
        refine lv_aload_n hx hb d_MO_insert0_69 rfl (lv_at hl 1 rfl) ?_
        refine g_MO hx hb hB hown hK hP 0 rfl 0 (by decide) k_270 rfl d_MO_insert0_70 ?_
        refine lv_iload hx hb d_MO_insert0_73 (lv_at hl 0 rfl) ?_
        refine lv_iload hx hb d_MO_insert0_75 (lv_at hl 5 rfl) ?_
        refine ln_iadd hx hb d_MO_insert0_77 ?_
        refine lv_aload_n hx hb d_MO_insert0_78 rfl (lv_at hl 1 rfl) ?_
        refine g_MO hx hb hB hown hK hP 0 rfl 0 (by decide) k_270 rfl d_MO_insert0_79 ?_
        refine lv_iload hx hb d_MO_insert0_82 (lv_at hl 0 rfl) ?_
        refine ln_vald hx hb hK hP 1 0 rfl rfl (by omega) (by omega) d_MO_insert0_84 ?_
        refine ln_vast hx hb hK hP hD hS 1 0 rfl rfl (by omega) (by omega) d_MO_insert0_85 (fun H locs hP hD hS => ?_)
        have hP : va_P D classes (wM o r cI (upd row1 (kk + n) (row1 kk)) txt.length thr) H := hP
        have hD : va_D A (wM o r cI (upd row1 (kk + n) (row1 kk)) txt.length thr) := hD
        refine lv_iinc (v := mI kk) (lv' := [(5, .int (mI kk)), (0, .ref o), (1, .int (nI i)), (2, .int v), (3, .int st), (4, .int (nI n))]) hx hb d_MO_insert0_86 hl (k := 0) rfl (mI_m1 kk) (by decide) rfl (fun ls hl => ?_)
        refine lv_goto (tgt := 63) hx hb d_MO_insert0_89 (by decide) ?_
        exact ih _ H locs ls (by omega) (by omega) (ShU_s hS1 h1) hP hD hS (lv_sub hl [0, 1, 2, 3, 4, 5] rfl)
  have hM1 := hM.1
  refine lv_iload_n hx hb d_MO_insert0_0 rfl (lv_at hl 1 rfl) ?_
  refine lv_if_lt (tgt := 30) hx hb d_MO_insert0_1 (by decide) (fun hc => ?_) (fun hc => ?_)
  · skip
    exact absurd hc (nI_pos (by omega))
  · skip
    refine lv_iload_n hx hb d_MO_insert0_4 rfl (lv_at hl 1 rfl) ?_
    refine lv_aload_n hx hb d_MO_insert0_5 rfl (lv_at hl 0 rfl) ?_
    refine g_MO hx hb hB hown hK hP 0 rfl 1 (by decide) k_271 rfl d_MO_insert0_6 ?_
    refine ln_icmp_gt (tgt := 30) hx hb d_MO_insert0_9 (by decide) (by omega) (by omega) (fun hc2 => ?_) (fun hc2 => ?_)
    · skip
      exact absurd hi (by omega)
    · skip
      refine lv_iload hx hb d_MO_insert0_12 (lv_at hl 4 rfl) ?_
      refine lv_iconst (v := nI 1) hx hb d_MO_insert0_14 (by decide) ?_
      refine ln_icmp_lt (tgt := 30) hx hb d_MO_insert0_15 (by decide) (by omega) (by omega) (fun hc3 => ?_) (fun hc3 => ?_)
      · skip
        exact absurd h1 (by omega)
      · skip
        refine lv_iload hx hb d_MO_insert0_18 (lv_at hl 4 rfl) ?_
        refine lv_sipush (v := nI 500) hx hb d_MO_insert0_20 (by decide) ?_
        refine ln_icmp_gt (tgt := 30) hx hb d_MO_insert0_23 (by decide) (by omega) (by omega) (fun hc4 => ?_) (fun hc4 => ?_)
        · skip
          exact absurd h2 (by omega)
        · skip
          refine lv_iconst (v := nI 1) hx hb d_MO_insert0_26 (by decide) ?_
          refine lv_goto (tgt := 31) hx hb d_MO_insert0_27 (by decide) ?_
          refine lv_eqi (y := bI true) (rfl) ?_
          refine call_Rs (As := [.int (bI true)]) (rest := []) C hA ks_MO_20 (c_MO_check_t l D cI cZ cL) (fun k q h => by simp at h) hS rfl hl.1 rfl (Nat.le_of_ble_eq_true rfl) ⟨by decide, by decide⟩ ⟨rfl, rfl⟩ ⟨Nat.zero_le _, Nat.zero_le _⟩ d_MO_insert0_31 ?_
          refine lv_aload_n hx hb d_MO_insert0_34 rfl (lv_at hl 0 rfl) ?_
          refine g_MO hx hb hB hown hK hP 0 rfl 1 (by decide) k_271 rfl d_MO_insert0_35 ?_
          refine lv_iload hx hb d_MO_insert0_38 (lv_at hl 4 rfl) ?_
          refine ln_iadd hx hb d_MO_insert0_40 ?_
          refine lv_sipush (v := nI 20000) hx hb d_MO_insert0_41 (by decide) ?_
          refine ln_icmp_le (tgt := 55) hx hb d_MO_insert0_44 (by decide) (by omega) (by omega) (fun hc5 => ?_) (fun hc5 => ?_)
          · skip
            refine lv_aload_n hx hb d_MO_insert0_55 rfl (lv_at hl 0 rfl) ?_
            refine g_MO hx hb hB hown hK hP 0 rfl 1 (by decide) k_271 rfl d_MO_insert0_56 ?_
            refine lv_iconst (v := nI 1) hx hb d_MO_insert0_59 (by decide) ?_
            refine lv_isub hx hb d_MO_insert0_60 ?_
            refine lv_eqi (y := mI txt.length) (rfl) ?_
            refine lv_istore (lv' := [(5, .int (mI txt.length)), (0, .ref o), (1, .int (nI i)), (2, .int v), (3, .int st), (4, .int (nI n))]) hx hb d_MO_insert0_61 hl (by decide) rfl (fun ls hl => ?_)
            exact loop txt.length row s.heap [] ls hi (Nat.le_refl _) ShU_0 hP hD hS (lv_sub hl [0, 1, 2, 3, 4, 5] rfl)
          · skip
            exact absurd h3 (by omega)
set_option maxHeartbeats 4000000 in
set_option maxRecDepth 100000 in
/-- insert0, its arguments are bad -/
theorem c_MO_insert0_x (l : Launch) (hfl : l.flags = pinnedFlags ++ [noTraceFlag]) (D : va_G) (cI cZ cL : ClassId) (o r : Nat) (row : Nat → Int32) (txt : List Int32) (thr : Int32) (hM : MR txt row) (i v st n : Int32) (hno : ¬ okI txt.length i n) : XT l y_MO_insert0 hd_MO_insert0 rmY D (TY cI cZ cL) [.ref o, .int i, .int v, .int st, .int n] (wM o r cI row txt.length thr) xIAE := by
  refine XT.mk (by decide +kernel) (Nat.le_of_ble_eq_true rfl) ⟨rfl, rfl⟩ ?_
  intro p e s m below meth c ls C hP hl
  obtain ⟨hx, hb, hml, hown, hB, hlk, hr, htb, hK, hX⟩ := id C
  have hA := Aok_new s
  have hS : va_S (fun q => s.heap.size ≤ q) s.heap s.heap [] := va_S.rf
  have hl : lv_has ls 6 [(0, .ref o), (1, .int i), (2, .int v), (3, .int st), (4, .int n)] := hl
  refine lv_iload_n hx hb d_MO_insert0_0 rfl (lv_at hl 1 rfl) ?_
  refine lv_if_lt (tgt := 30) hx hb d_MO_insert0_1 (by decide) (fun hc => ?_) (fun hc => ?_)
  · skip
    refine lv_iconst (v := nI 0) hx hb d_MO_insert0_30 (by decide) ?_
    refine lv_eqi (y := bI false) (rfl) ?_
    exact call_Xs (As := [.int (bI false)]) (rest := []) C ks_MO_20 (c_MO_check_f l hfl D cI cZ cL) (fun k q h => by simp at h) rfl hl.1 rfl (Nat.le_of_ble_eq_true rfl) ⟨by decide, by decide⟩ ⟨by decide, by decide⟩ d_MO_insert0_31
  · skip
    refine lv_iload_n hx hb d_MO_insert0_4 rfl (lv_at hl 1 rfl) ?_
    refine lv_aload_n hx hb d_MO_insert0_5 rfl (lv_at hl 0 rfl) ?_
    refine g_MO hx hb hB hown hK hP 0 rfl 1 (by decide) k_271 rfl d_MO_insert0_6 ?_
    refine lv_icmp_gt (tgt := 30) hx hb d_MO_insert0_9 (by decide) (fun hc2 => ?_) (fun hc2 => ?_)
    · skip
      refine lv_iconst (v := nI 0) hx hb d_MO_insert0_30 (by decide) ?_
      refine lv_eqi (y := bI false) (rfl) ?_
      exact call_Xs (As := [.int (bI false)]) (rest := []) C ks_MO_20 (c_MO_check_f l hfl D cI cZ cL) (fun k q h => by simp at h) rfl hl.1 rfl (Nat.le_of_ble_eq_true rfl) ⟨by decide, by decide⟩ ⟨by decide, by decide⟩ d_MO_insert0_31
    · skip
      refine lv_iload hx hb d_MO_insert0_12 (lv_at hl 4 rfl) ?_
      refine lv_iconst (v := 1) hx hb d_MO_insert0_14 (by decide) ?_
      refine lv_icmp_lt (tgt := 30) hx hb d_MO_insert0_15 (by decide) (fun hc3 => ?_) (fun hc3 => ?_)
      · skip
        refine lv_iconst (v := nI 0) hx hb d_MO_insert0_30 (by decide) ?_
        refine lv_eqi (y := bI false) (rfl) ?_
        exact call_Xs (As := [.int (bI false)]) (rest := []) C ks_MO_20 (c_MO_check_f l hfl D cI cZ cL) (fun k q h => by simp at h) rfl hl.1 rfl (Nat.le_of_ble_eq_true rfl) ⟨by decide, by decide⟩ ⟨by decide, by decide⟩ d_MO_insert0_31
      · skip
        refine lv_iload hx hb d_MO_insert0_18 (lv_at hl 4 rfl) ?_
        refine lv_sipush (v := 500) hx hb d_MO_insert0_20 (by decide) ?_
        refine lv_icmp_gt (tgt := 30) hx hb d_MO_insert0_23 (by decide) (fun hc4 => ?_) (fun hc4 => ?_)
        · skip
          refine lv_iconst (v := nI 0) hx hb d_MO_insert0_30 (by decide) ?_
          refine lv_eqi (y := bI false) (rfl) ?_
          exact call_Xs (As := [.int (bI false)]) (rest := []) C ks_MO_20 (c_MO_check_f l hfl D cI cZ cL) (fun k q h => by simp at h) rfl hl.1 rfl (Nat.le_of_ble_eq_true rfl) ⟨by decide, by decide⟩ ⟨by decide, by decide⟩ d_MO_insert0_31
        · skip
          exact absurd ⟨hc, hc2, hc3, hc4⟩ hno
set_option maxHeartbeats 4000000 in
set_option maxRecDepth 100000 in
/-- insert0, there is no room -/
theorem c_MO_insert0_y (l : Launch) (hfl : l.flags = pinnedFlags ++ [noTraceFlag]) (D : va_G) (cI cZ cL : ClassId) (o r : Nat) (row : Nat → Int32) (txt : List Int32) (thr : Int32) (hM : MR txt row) (i v st n : Int32) (hok : okI txt.length i n) (hbig : ¬ nI txt.length + n ≤ 20000) : XT l y_MO_insert0 hd_MO_insert0 rmY D (TY cI cZ cL) [.ref o, .int i, .int v, .int st, .int n] (wM o r cI row txt.length thr) xISE := by
  refine XT.mk (by decide +kernel) (Nat.le_of_ble_eq_true rfl) ⟨rfl, rfl⟩ ?_
  intro p e s m below meth c ls C hP hl
  obtain ⟨hx, hb, hml, hown, hB, hlk, hr, htb, hK, hX⟩ := id C
  have hA := Aok_new s
  have hS : va_S (fun q => s.heap.size ≤ q) s.heap s.heap [] := va_S.rf
  have hl : lv_has ls 6 [(0, .ref o), (1, .int i), (2, .int v), (3, .int st), (4, .int n)] := hl
  refine lv_iload_n hx hb d_MO_insert0_0 rfl (lv_at hl 1 rfl) ?_
  refine lv_if_lt (tgt := 30) hx hb d_MO_insert0_1 (by decide) (fun hc => ?_) (fun hc => ?_)
  · skip
    exact absurd hc hok.1
  · skip
    refine lv_iload_n hx hb d_MO_insert0_4 rfl (lv_at hl 1 rfl) ?_
    refine lv_aload_n hx hb d_MO_insert0_5 rfl (lv_at hl 0 rfl) ?_
    refine g_MO hx hb hB hown hK hP 0 rfl 1 (by decide) k_271 rfl d_MO_insert0_6 ?_
    refine lv_icmp_gt (tgt := 30) hx hb d_MO_insert0_9 (by decide) (fun hc2 => ?_) (fun hc2 => ?_)
    · skip
      exact absurd hc2 hok.2.1
    · skip
      refine lv_iload hx hb d_MO_insert0_12 (lv_at hl 4 rfl) ?_
      refine lv_iconst (v := 1) hx hb d_MO_insert0_14 (by decide) ?_
      refine lv_icmp_lt (tgt := 30) hx hb d_MO_insert0_15 (by decide) (fun hc3 => ?_) (fun hc3 => ?_)
      · skip
        exact absurd hc3 hok.2.2.1
      · skip
        refine lv_iload hx hb d_MO_insert0_18 (lv_at hl 4 rfl) ?_
        refine lv_sipush (v := 500) hx hb d_MO_insert0_20 (by decide) ?_
        refine lv_icmp_gt (tgt := 30) hx hb d_MO_insert0_23 (by decide) (fun hc4 => ?_) (fun hc4 => ?_)
        · skip
          exact absurd hc4 hok.2.2.2
        · skip
          refine lv_iconst (v := nI 1) hx hb d_MO_insert0_26 (by decide) ?_
          refine lv_goto (tgt := 31) hx hb d_MO_insert0_27 (by decide) ?_
          refine lv_eqi (y := bI true) (rfl) ?_
          refine call_Rs (As := [.int (bI true)]) (rest := []) C hA ks_MO_20 (c_MO_check_t l D cI cZ cL) (fun k q h => by simp at h) hS rfl hl.1 rfl (Nat.le_of_ble_eq_true rfl) ⟨by decide, by decide⟩ ⟨rfl, rfl⟩ ⟨Nat.zero_le _, Nat.zero_le _⟩ d_MO_insert0_31 ?_
          refine lv_aload_n hx hb d_MO_insert0_34 rfl (lv_at hl 0 rfl) ?_
          refine g_MO hx hb hB hown hK hP 0 rfl 1 (by decide) k_271 rfl d_MO_insert0_35 ?_
          refine lv_iload hx hb d_MO_insert0_38 (lv_at hl 4 rfl) ?_
          refine lv_iadd hx hb d_MO_insert0_40 ?_
          refine lv_sipush (v := 20000) hx hb d_MO_insert0_41 (by decide) ?_
          refine lv_icmp_le (tgt := 55) hx hb d_MO_insert0_44 (by decide) (fun hc5 => ?_) (fun hc5 => ?_)
          · skip
            exact absurd hc5 hbig
          · skip
            exact throw0 hfl C xs_MO_ISE (by decide +kernel) k_289 k_167 k_8 hl.1 d_MO_insert0_47 d_MO_insert0_50 d_MO_insert0_51 d_MO_insert0_54 (by decide) (by decide) (by decide) (by decide)
set_option maxHeartbeats 4000000 in
set_option maxRecDepth 100000 in
/-- delete0, when it may -/
theorem c_MO_delete0 (l : Launch) (D : va_G) (cI cZ cL : ClassId) (o r : Nat) (row : Nat → Int32) (txt : List Int32) (thr : Int32) (hM : MR txt row) (i n : Nat) (h1 : 1 ≤ n) (hi : i + n ≤ txt.length) : CI l y_MO_delete0 hd_MO_delete0 rmS D (TY cI cZ cL) [.ref o, .int (nI i), .int (nI n)] (wM o r cI row txt.length thr) (fun (z : Int32) (row2 : Nat → Int32) => z = nI (txt.length - n) ∧ MR (delN txt i n) row2) (fun row2 => wM o r cI row2 (txt.length - n) thr) := by
  refine CI.mk (by decide +kernel) (Nat.le_of_ble_eq_true rfl) ?_
  intro p e s m below meth c A ls C hA hP hD hl
  obtain ⟨hx, hb, hml, hown, hB, hlk, hr, htb, hK, hX⟩ := id C
  have hS : va_S A s.heap s.heap [] := va_S.rf
  have hl : lv_has ls 4 [(0, .ref o), (1, .int (nI i)), (2, .int (nI n))] := hl
  have hM1 := hM.1
  have loop : ∀ (g k : Nat) (row1 : Nat → Int32) (H : Heap) (locs : List Loc) (ls : Array Slot), i + n ≤ k → k ≤ txt.length → txt.length + 1 ≤ k + g → ShD i n k row row1 → va_P D classes (wM o r cI row1 txt.length thr) H → va_D A (wM o r cI row1 txt.length thr) → va_S A s.heap H locs → lv_has ls 4 [(3, .int (nI k)), (0, .ref o), (1, .int (nI i)), (2, .int (nI n))] → W p l e rmS s m ([.ref o, .int (nI i), .int (nI n)] : List Value).toArray below meth c H locs 0 0 (MQ below (QCi D (TY cI cZ cL) (fun (z : Int32) (row2 : Nat → Int32) => z = nI (txt.length - n) ∧ MR (delN txt i n) row2) (fun row2 => wM o r cI row2 (txt.length - n) thr) A) ([.ref o, .int (nI i), .int (nI n)] : List Value).toArray s rmS.cells rmS.slots A) (F0 m 39 ls []) := by
    intro g
    induction g with
    | zero => intro k row1 H locs ls q0 q1 q2; exact absurd q2 (by omega)
    | succ g ih =>
      intro k row1 H locs ls q0 q1 q2 hF hP hD hS hl
      refine lv_iload_n hx hb d_MO_delete0_39 rfl (lv_at hl 0 rfl) ?_
      refine lv_aload_n hx hb d_MO_delete0_40 rfl (lv_at hl 1 rfl) ?_
      refine g_MO hx hb hB hown hK hP 0 rfl 1 (by decide) k_271 rfl d_MO_delete0_41 ?_
      refine ln_icmp_ge (tgt := 67) hx hb d_MO_delete0_44 (by decide) (by omega) (by omega) (fun hc => ?_) (fun hc => ?_)
      · skip
        obtain rfl : k = txt.length := by omega
        refine lv_aload_n hx hb d_MO_delete0_67 rfl (lv_at hl 1 rfl) ?_
        refine lv_dup hx hb d_MO_delete0_68 rfl ?_
        refine g_MO hx hb hB hown hK hP 0 rfl 1 (by decide) k_271 rfl d_MO_delete0_69 ?_
        refine lv_iload_n hx hb d_MO_delete0_72 rfl (lv_at hl 3 rfl) ?_
        refine ln_isub hx hb d_MO_delete0_73 (by omega) ?_
        refine p_MO hx hb hB hown hK hP hD hS 0 rfl 1 (by decide) k_271 rfl rfl (Nat.le_of_ble_eq_true rfl) d_MO_delete0_74 (fun H locs hP hD hS => ?_)
        have hP : va_P D classes (wM o r cI row1 (txt.length - n) thr) H := hP
        have hD : va_D A (wM o r cI row1 (txt.length - n) thr) := hD
        refine lv_aload_n hx hb d_MO_delete0_77 rfl (lv_at hl 1 rfl) ?_
        refine g_MO hx hb hB hown hK hP 0 rfl 1 (by decide) k_271 rfl d_MO_delete0_78 ?_
        exact e_Ci C hS (row1) (⟨rfl, MR_del2 hM hi hF⟩) hP hD (by decide) (by decide) d_MO_delete0_81
      · skip
        refine lv_aload_n hx hb d_MO_delete0_47 rfl (lv_at hl 1 rfl) ?_
        refine g_MO hx hb hB hown hK hP 0 rfl 0 (by decide) k_270 rfl d_MO_delete0_48 ?_
        refine lv_iload_n hx hb d_MO_delete0_51 rfl (lv_at hl 0 rfl) ?_
        refine lv_iload_n hx hb d_MO_delete0_52 rfl (lv_at hl 3 rfl) ?_
        refine ln_isub hx hb d_MO_delete0_53 (by omega) ?_
        refine lv_aload_n hx hb d_MO_delete0_54 rfl (lv_at hl 1 rfl) ?_
        refine g_MO hx hb hB hown hK hP 0 rfl 0 (by decide) k_270 rfl d_MO_delete0_55 ?_
        refine lv_iload_n hx hb d_MO_delete0_58 rfl (lv_at hl 0 rfl) ?_
        refine ln_vald hx hb hK hP 1 0 rfl rfl (by omega) (by omega) d_MO_delete0_59 ?_
        refine ln_vast hx hb hK hP hD hS 1 0 rfl rfl (by omega) (by omega) d_MO_delete0_60 (fun H locs hP hD hS => ?_)
        have hP : va_P D classes (wM o r cI (upd row1 (k - n) (row1 k)) txt.length thr) H := hP
        have hD : va_D A (wM o r cI (upd row1 (k - n) (row1 k)) txt.length thr) := hD
        refine lv_iinc (v := (nI (k + 1))) (lv' := [(3, .int (nI (k + 1))), (0, .ref o), (1, .int (nI i)), (2, .int (nI n))]) hx hb d_MO_delete0_61 hl (k := 0) rfl (ln_p1 _) (by decide) rfl (fun ls hl => ?_)
        refine lv_goto (tgt := 39) hx hb d_MO_delete0_64 (by decide) ?_
        exact ih (k + 1) _ H locs ls (by omega) (by omega) (by omega) (ShD_s hF q0) hP hD hS (lv_sub hl [0, 1, 2, 3] rfl)
  refine lv_iload_n hx hb d_MO_delete0_0 rfl (lv_at hl 1 rfl) ?_
  refine lv_if_lt (tgt := 31) hx hb d_MO_delete0_1 (by decide) (fun hc => ?_) (fun hc => ?_)
  · skip
    exact absurd hc (nI_pos (by omega))
  · skip
    refine lv_iload_n hx hb d_MO_delete0_4 rfl (lv_at hl 2 rfl) ?_
    refine lv_iconst (v := nI 1) hx hb d_MO_delete0_5 (by decide) ?_
    refine ln_icmp_lt (tgt := 31) hx hb d_MO_delete0_6 (by decide) (by omega) (by omega) (fun hc2 => ?_) (fun hc2 => ?_)
    · skip
      exact absurd h1 (by omega)
    · skip
      refine lv_iload_n hx hb d_MO_delete0_9 rfl (lv_at hl 2 rfl) ?_
      refine lv_aload_n hx hb d_MO_delete0_10 rfl (lv_at hl 0 rfl) ?_
      refine g_MO hx hb hB hown hK hP 0 rfl 1 (by decide) k_271 rfl d_MO_delete0_11 ?_
      refine ln_icmp_gt (tgt := 31) hx hb d_MO_delete0_14 (by decide) (by omega) (by omega) (fun hc3 => ?_) (fun hc3 => ?_)
      · skip
        exact absurd hi (by omega)
      · skip
        refine lv_iload_n hx hb d_MO_delete0_17 rfl (lv_at hl 1 rfl) ?_
        refine lv_aload_n hx hb d_MO_delete0_18 rfl (lv_at hl 0 rfl) ?_
        refine g_MO hx hb hB hown hK hP 0 rfl 1 (by decide) k_271 rfl d_MO_delete0_19 ?_
        refine lv_iload_n hx hb d_MO_delete0_22 rfl (lv_at hl 2 rfl) ?_
        refine ln_isub hx hb d_MO_delete0_23 (by omega) ?_
        refine ln_icmp_gt (tgt := 31) hx hb d_MO_delete0_24 (by decide) (by omega) (by omega) (fun hc4 => ?_) (fun hc4 => ?_)
        · skip
          exact absurd hi (by omega)
        · skip
          refine lv_iconst (v := nI 1) hx hb d_MO_delete0_27 (by decide) ?_
          refine lv_goto (tgt := 32) hx hb d_MO_delete0_28 (by decide) ?_
          refine lv_eqi (y := bI true) (rfl) ?_
          refine call_Rs (As := [.int (bI true)]) (rest := []) C hA ks_MO_20 (c_MO_check_t l D cI cZ cL) (fun k q h => by simp at h) hS rfl hl.1 rfl (Nat.le_of_ble_eq_true rfl) ⟨by decide, by decide⟩ ⟨rfl, rfl⟩ ⟨Nat.zero_le _, Nat.zero_le _⟩ d_MO_delete0_32 ?_
          refine lv_iload_n hx hb d_MO_delete0_35 rfl (lv_at hl 1 rfl) ?_
          refine lv_iload_n hx hb d_MO_delete0_36 rfl (lv_at hl 2 rfl) ?_
          refine ln_iadd hx hb d_MO_delete0_37 ?_
          refine lv_istore_n (lv' := [(3, .int (nI (i + n))), (0, .ref o), (1, .int (nI i)), (2, .int (nI n))]) hx hb d_MO_delete0_38 rfl hl (by decide) rfl (fun ls hl => ?_)
          exact loop (txt.length + 1) (i + n) row s.heap [] ls (Nat.le_refl _) hi (by omega) ShD_0 hP hD hS (lv_sub hl [0, 1, 2, 3] rfl)
set_option maxHeartbeats 4000000 in
set_option maxRecDepth 100000 in
/-- delete0, its arguments are bad -/
theorem c_MO_delete0_x (l : Launch) (hfl : l.flags = pinnedFlags ++ [noTraceFlag]) (D : va_G) (cI cZ cL : ClassId) (o r : Nat) (row : Nat → Int32) (txt : List Int32) (thr : Int32) (i n : Int32) (hno : ¬ okD txt.length i n) : XT l y_MO_delete0 hd_MO_delete0 rmY D (TY cI cZ cL) [.ref o, .int i, .int n] (wM o r cI row txt.length thr) xIAE := by
  refine XT.mk (by decide +kernel) (Nat.le_of_ble_eq_true rfl) ⟨rfl, rfl⟩ ?_
  intro p e s m below meth c ls C hP hl
  obtain ⟨hx, hb, hml, hown, hB, hlk, hr, htb, hK, hX⟩ := id C
  have hA := Aok_new s
  have hS : va_S (fun q => s.heap.size ≤ q) s.heap s.heap [] := va_S.rf
  have hl : lv_has ls 4 [(0, .ref o), (1, .int i), (2, .int n)] := hl
  refine lv_iload_n hx hb d_MO_delete0_0 rfl (lv_at hl 1 rfl) ?_
  refine lv_if_lt (tgt := 31) hx hb d_MO_delete0_1 (by decide) (fun hc => ?_) (fun hc => ?_)
  · skip
    refine lv_iconst (v := nI 0) hx hb d_MO_delete0_31 (by decide) ?_
    refine lv_eqi (y := bI false) (rfl) ?_
    exact call_Xs (As := [.int (bI false)]) (rest := []) C ks_MO_20 (c_MO_check_f l hfl D cI cZ cL) (fun k q h => by simp at h) rfl hl.1 rfl (Nat.le_of_ble_eq_true rfl) ⟨by decide, by decide⟩ ⟨by decide, by decide⟩ d_MO_delete0_32
  · skip
    refine lv_iload_n hx hb d_MO_delete0_4 rfl (lv_at hl 2 rfl) ?_
    refine lv_iconst (v := 1) hx hb d_MO_delete0_5 (by decide) ?_
    refine lv_icmp_lt (tgt := 31) hx hb d_MO_delete0_6 (by decide) (fun hc2 => ?_) (fun hc2 => ?_)
    · skip
      refine lv_iconst (v := nI 0) hx hb d_MO_delete0_31 (by decide) ?_
      refine lv_eqi (y := bI false) (rfl) ?_
      exact call_Xs (As := [.int (bI false)]) (rest := []) C ks_MO_20 (c_MO_check_f l hfl D cI cZ cL) (fun k q h => by simp at h) rfl hl.1 rfl (Nat.le_of_ble_eq_true rfl) ⟨by decide, by decide⟩ ⟨by decide, by decide⟩ d_MO_delete0_32
    · skip
      refine lv_iload_n hx hb d_MO_delete0_9 rfl (lv_at hl 2 rfl) ?_
      refine lv_aload_n hx hb d_MO_delete0_10 rfl (lv_at hl 0 rfl) ?_
      refine g_MO hx hb hB hown hK hP 0 rfl 1 (by decide) k_271 rfl d_MO_delete0_11 ?_
      refine lv_icmp_gt (tgt := 31) hx hb d_MO_delete0_14 (by decide) (fun hc3 => ?_) (fun hc3 => ?_)
      · skip
        refine lv_iconst (v := nI 0) hx hb d_MO_delete0_31 (by decide) ?_
        refine lv_eqi (y := bI false) (rfl) ?_
        exact call_Xs (As := [.int (bI false)]) (rest := []) C ks_MO_20 (c_MO_check_f l hfl D cI cZ cL) (fun k q h => by simp at h) rfl hl.1 rfl (Nat.le_of_ble_eq_true rfl) ⟨by decide, by decide⟩ ⟨by decide, by decide⟩ d_MO_delete0_32
      · skip
        refine lv_iload_n hx hb d_MO_delete0_17 rfl (lv_at hl 1 rfl) ?_
        refine lv_aload_n hx hb d_MO_delete0_18 rfl (lv_at hl 0 rfl) ?_
        refine g_MO hx hb hB hown hK hP 0 rfl 1 (by decide) k_271 rfl d_MO_delete0_19 ?_
        refine lv_iload_n hx hb d_MO_delete0_22 rfl (lv_at hl 2 rfl) ?_
        refine lv_isub hx hb d_MO_delete0_23 ?_
        refine lv_icmp_gt (tgt := 31) hx hb d_MO_delete0_24 (by decide) (fun hc4 => ?_) (fun hc4 => ?_)
        · skip
          refine lv_iconst (v := nI 0) hx hb d_MO_delete0_31 (by decide) ?_
          refine lv_eqi (y := bI false) (rfl) ?_
          exact call_Xs (As := [.int (bI false)]) (rest := []) C ks_MO_20 (c_MO_check_f l hfl D cI cZ cL) (fun k q h => by simp at h) rfl hl.1 rfl (Nat.le_of_ble_eq_true rfl) ⟨by decide, by decide⟩ ⟨by decide, by decide⟩ d_MO_delete0_32
        · skip
          exact absurd ⟨hc, hc2, hc3, hc4⟩ hno
end
section
abbrev rmT : Room := { frames := 4, cells := 0, slots := 0, locals := 130 }
abbrev rmQ : Room := { frames := 9, cells := 1, slots := 6, locals := 160 }
set_option maxHeartbeats 4000000 in
set_option maxRecDepth 100000 in
/-- insert -/
theorem c_MO_insert (l : Launch) (hfl : l.flags = pinnedFlags ++ [noTraceFlag]) (D : va_G) (cI cZ cL : ClassId) (o r : Nat) (row : Nat → Int32) (txt : List Int32) (thr : Int32) (hM : MR txt row) (i v st n : Int32) : CI l y_MO_insert hd_MO_insert rmQ D (TY cI cZ cL) [.ref o, .int i, .int v, .int st, .int n] (wM o r cI row txt.length thr) (fun (z : Int32) (u : (Nat → Int32) × Nat × Int32) => u.2.1 = (insT txt i v st n).length ∧ u.2.2 = insK txt.length i n ∧ MR (insT txt i v st n) u.1 ∧ (insK txt.length i n = 0 → z = nI (insT txt i v st n).length)) (fun u => wM o r cI u.1 u.2.1 u.2.2) := by
  refine CI.mkW (by decide +kernel) (Nat.le_of_ble_eq_true rfl) ?_
  intro p e s m below meth c A ls C hA hP hD hl
  obtain ⟨hx, hb, hml, hown, hB, hlk, hr, htb, hK, hX⟩ := id C
  have hS : va_S A s.heap s.heap [] := va_S.rf
  have hl : lv_has ls 6 [(0, .ref o), (1, .int i), (2, .int v), (3, .int st), (4, .int n)] := hl
  have hM1 := hM.1
  refine lv_aload_n hx hb d_MO_insert_0 rfl (lv_at hl 0 rfl) ?_
  refine lv_iconst (v := nI 0) hx hb d_MO_insert_1 (by decide) ?_
  refine p_MO hx hb hB hown hK hP hD hS 0 rfl 2 (by decide) k_272 rfl rfl (Nat.le_of_ble_eq_true rfl) d_MO_insert_2 (fun H locs hP hD hS => ?_)
  have hP : va_P D classes (wM o r cI row txt.length (nI 0)) H := hP
  have hD : va_D A (wM o r cI row txt.length (nI 0)) := hD
  refine lv_aload_n hx hb d_MO_insert_5 rfl (lv_at hl 0 rfl) ?_
  refine lv_iload_n hx hb d_MO_insert_6 rfl (lv_at hl 1 rfl) ?_
  refine lv_iload_n hx hb d_MO_insert_7 rfl (lv_at hl 2 rfl) ?_
  refine lv_iload_n hx hb d_MO_insert_8 rfl (lv_at hl 3 rfl) ?_
  refine lv_iload hx hb d_MO_insert_9 (lv_at hl 4 rfl) ?_
  by_cases hok : okI txt.length i n
  · skip
    by_cases hbig : nI txt.length + n ≤ 20000
    · skip
      obtain ⟨a, c, ha, hc1, hc2, rfl, rfl⟩ := okI_nat (by omega) hok
      have hK0 := insK_ok hok hbig
      have hT := insT_ok (v := v) (st := st) hK0 (by omega) (by omega)
      have hb3 := (big_nat hM1 hc2).mp hbig
      refine call_Vi (As := [.int (nI a), .int v, .int st, .int (nI c)]) (rest := []) (ci := 2) (wr := []) C hA kv_MO_37 (c_MO_insert0 l D cI cZ cL o r row txt (nI 0) hM a v st c ha hc1 hc2 hb3) hP hD hS [0, 1] [] rfl rfl ⟨by decide, by decide⟩ (by decide) 0 rfl rfl rfl rfl hl.1 rfl (Nat.le_of_ble_eq_true rfl) ⟨by decide, by decide⟩ ⟨by decide, by decide⟩ d_MO_insert_11 (fun zz row2 H locs hz hP hD hS => ?_)
      have hP : va_P D classes (wM o r cI row2 (txt.length + c) (nI 0)) H := hP
      have hD : va_D A (wM o r cI row2 (txt.length + c) (nI 0)) := hD
      exact e_Ci C hS ((row2, txt.length + c, nI 0)) (⟨by rw [hT, insN_len ha, newV_len], by rw [hK0]; rfl, by rw [hT]; exact hz.2, fun _ => by rw [hT, insN_len ha, newV_len]; exact hz.1⟩) hP hD (by decide) (by decide) d_MO_insert_14
    · skip
      have hK0 := insK_big hok hbig
      have hT := insT_no (txt := txt) (i := i) (v := v) (st := st) (n := n) (by rw [hK0]; decide)
      refine call_Xv (As := [.int i, .int v, .int st, .int n]) (rest := []) (ci := 2) (hpc := 25) C hA kv_MO_37 (c_MO_insert0_y l hfl D cI cZ cL o r row txt (nI 0) hM i v st n hok hbig) hP hS 0 rfl rfl rfl rfl hl.1 rfl (Nat.le_of_ble_eq_true rfl) ⟨by decide, by decide⟩ ⟨by decide, by decide⟩ d_MO_insert_11 xc_ISE (Or.inr ⟨_, _, _, rfl, by decide, by decide, k_288, rfl, by decide, by decide, rfl, k_289⟩) (fun xx H1 hz1 hk1 hS => ?_)
      have hP := keepW hP hk1
      generalize H1 = H at hP hS ⊢
      refine lv_astore (lv' := [(5, .ref xx), (0, .ref o), (1, .int i), (2, .int v), (3, .int st), (4, .int n)]) hx hb d_MO_insert_25 hl (by decide) rfl (fun ls hl => ?_)
      refine lv_aload_n hx hb d_MO_insert_27 rfl (lv_at hl 1 rfl) ?_
      refine lv_iconst (v := nI 2) hx hb d_MO_insert_28 (by decide) ?_
      refine p_MO hx hb hB hown hK hP hD hS 0 rfl 2 (by decide) k_272 rfl rfl (Nat.le_of_ble_eq_true rfl) d_MO_insert_29 (fun H locs hP hD hS => ?_)
      have hP : va_P D classes (wM o r cI row txt.length (nI 2)) H := hP
      have hD : va_D A (wM o r cI row txt.length (nI 2)) := hD
      refine lv_iconst (v := nI 0) hx hb d_MO_insert_32 (by decide) ?_
      exact e_Ci C hS ((row, txt.length, nI 2)) (⟨by rw [hT], by rw [hK0]; rfl, by rw [hT]; exact hM, fun q => absurd q (by rw [hK0]; decide)⟩) hP hD (by decide) (by decide) d_MO_insert_33
  · skip
    have hK0 := insK_no hok
    have hT := insT_no (txt := txt) (i := i) (v := v) (st := st) (n := n) (by rw [hK0]; decide)
    refine call_Xv (As := [.int i, .int v, .int st, .int n]) (rest := []) (ci := 2) (hpc := 15) C hA kv_MO_37 (c_MO_insert0_x l hfl D cI cZ cL o r row txt (nI 0) hM i v st n hok) hP hS 0 rfl rfl rfl rfl hl.1 rfl (Nat.le_of_ble_eq_true rfl) ⟨by decide, by decide⟩ ⟨by decide, by decide⟩ d_MO_insert_11 xc_IAE (Or.inl ⟨_, _, rfl, by decide, by decide, rfl, k_288⟩) (fun xx H1 hz1 hk1 hS => ?_)
    have hP := keepW hP hk1
    generalize H1 = H at hP hS ⊢
    refine lv_astore (lv' := [(5, .ref xx), (0, .ref o), (1, .int i), (2, .int v), (3, .int st), (4, .int n)]) hx hb d_MO_insert_15 hl (by decide) rfl (fun ls hl => ?_)
    refine lv_aload_n hx hb d_MO_insert_17 rfl (lv_at hl 1 rfl) ?_
    refine lv_iconst (v := nI 1) hx hb d_MO_insert_18 (by decide) ?_
    refine p_MO hx hb hB hown hK hP hD hS 0 rfl 2 (by decide) k_272 rfl rfl (Nat.le_of_ble_eq_true rfl) d_MO_insert_19 (fun H locs hP hD hS => ?_)
    have hP : va_P D classes (wM o r cI row txt.length (nI 1)) H := hP
    have hD : va_D A (wM o r cI row txt.length (nI 1)) := hD
    refine lv_goto (tgt := 32) hx hb d_MO_insert_22 (by decide) ?_
    refine lv_iconst (v := nI 0) hx hb d_MO_insert_32 (by decide) ?_
    exact e_Ci C hS ((row, txt.length, nI 1)) (⟨by rw [hT], by rw [hK0]; rfl, by rw [hT]; exact hM, fun q => absurd q (by rw [hK0]; decide)⟩) hP hD (by decide) (by decide) d_MO_insert_33
set_option maxHeartbeats 4000000 in
set_option maxRecDepth 100000 in
/-- delete -/
theorem c_MO_delete (l : Launch) (hfl : l.flags = pinnedFlags ++ [noTraceFlag]) (D : va_G) (cI cZ cL : ClassId) (o r : Nat) (row : Nat → Int32) (txt : List Int32) (thr : Int32) (hM : MR txt row) (i n : Int32) : CI l y_MO_delete hd_MO_delete rmQ D (TY cI cZ cL) [.ref o, .int i, .int n] (wM o r cI row txt.length thr) (fun (z : Int32) (u : (Nat → Int32) × Nat × Int32) => u.2.1 = (delT txt i n).length ∧ u.2.2 = delK txt.length i n ∧ MR (delT txt i n) u.1 ∧ (delK txt.length i n = 0 → z = nI (delT txt i n).length)) (fun u => wM o r cI u.1 u.2.1 u.2.2) := by
  refine CI.mkW (by decide +kernel) (Nat.le_of_ble_eq_true rfl) ?_
  intro p e s m below meth c A ls C hA hP hD hl
  obtain ⟨hx, hb, hml, hown, hB, hlk, hr, htb, hK, hX⟩ := id C
  have hS : va_S A s.heap s.heap [] := va_S.rf
  have hl : lv_has ls 4 [(0, .ref o), (1, .int i), (2, .int n)] := hl
  have hM1 := hM.1
  refine lv_aload_n hx hb d_MO_delete_0 rfl (lv_at hl 0 rfl) ?_
  refine lv_iconst (v := nI 0) hx hb d_MO_delete_1 (by decide) ?_
  refine p_MO hx hb hB hown hK hP hD hS 0 rfl 2 (by decide) k_272 rfl rfl (Nat.le_of_ble_eq_true rfl) d_MO_delete_2 (fun H locs hP hD hS => ?_)
  have hP : va_P D classes (wM o r cI row txt.length (nI 0)) H := hP
  have hD : va_D A (wM o r cI row txt.length (nI 0)) := hD
  refine lv_aload_n hx hb d_MO_delete_5 rfl (lv_at hl 0 rfl) ?_
  refine lv_iload_n hx hb d_MO_delete_6 rfl (lv_at hl 1 rfl) ?_
  refine lv_iload_n hx hb d_MO_delete_7 rfl (lv_at hl 2 rfl) ?_
  by_cases hok : okD txt.length i n
  · skip
    have hK0 : delK txt.length i n = 0 := by unfold delK; rw [if_pos hok]
    obtain ⟨a, c, hc1, hac, rfl, rfl⟩ := okD_nat (by omega) hok
    have hT := delT_ok hok (by omega) (by omega)
    refine call_Vi (As := [.int (nI a), .int (nI c)]) (rest := []) (ci := 2) (wr := []) C hA kv_MO_41 (c_MO_delete0 l D cI cZ cL o r row txt (nI 0) hM a c hc1 hac) hP hD hS [0, 1] [] rfl rfl ⟨by decide, by decide⟩ (by decide) 0 rfl rfl rfl rfl hl.1 rfl (Nat.le_of_ble_eq_true rfl) ⟨by decide, by decide⟩ ⟨by decide, by decide⟩ d_MO_delete_8 (fun zz row2 H locs hz hP hD hS => ?_)
    have hP : va_P D classes (wM o r cI row2 (txt.length - c) (nI 0)) H := hP
    have hD : va_D A (wM o r cI row2 (txt.length - c) (nI 0)) := hD
    exact e_Ci C hS ((row2, txt.length - c, nI 0)) (⟨by rw [hT, delN_len hac], by rw [hK0]; rfl, by rw [hT]; exact hz.2, fun _ => by rw [hT, delN_len hac]; exact hz.1⟩) hP hD (by decide) (by decide) d_MO_delete_11
  · skip
    have hK0 : delK txt.length i n = 1 := by unfold delK; rw [if_neg hok]
    have hT := delT_no hok
    refine call_Xv (As := [.int i, .int n]) (rest := []) (ci := 2) (hpc := 12) C hA kv_MO_41 (c_MO_delete0_x l hfl D cI cZ cL o r row txt (nI 0) i n hok) hP hS 0 rfl rfl rfl rfl hl.1 rfl (Nat.le_of_ble_eq_true rfl) ⟨by decide, by decide⟩ ⟨by decide, by decide⟩ d_MO_delete_8 xc_IAE (Or.inl ⟨_, _, rfl, by decide, by decide, rfl, k_288⟩) (fun xx H1 hz1 hk1 hS => ?_)
    have hP := keepW hP hk1
    generalize H1 = H at hP hS ⊢
    refine lv_astore_n (lv' := [(3, .ref xx), (0, .ref o), (1, .int i), (2, .int n)]) hx hb d_MO_delete_12 rfl hl (by decide) rfl (fun ls hl => ?_)
    refine lv_aload_n hx hb d_MO_delete_13 rfl (lv_at hl 1 rfl) ?_
    refine lv_iconst (v := nI 1) hx hb d_MO_delete_14 (by decide) ?_
    refine p_MO hx hb hB hown hK hP hD hS 0 rfl 2 (by decide) k_272 rfl rfl (Nat.le_of_ble_eq_true rfl) d_MO_delete_15 (fun H locs hP hD hS => ?_)
    have hP : va_P D classes (wM o r cI row txt.length (nI 1)) H := hP
    have hD : va_D A (wM o r cI row txt.length (nI 1)) := hD
    refine lv_iconst (v := nI 0) hx hb d_MO_delete_18 (by decide) ?_
    exact e_Ci C hS ((row, txt.length, nI 1)) (⟨by rw [hT], by rw [hK0]; rfl, by rw [hT]; exact hM, fun q => absurd q (by rw [hK0]; decide)⟩) hP hD (by decide) (by decide) d_MO_delete_19
set_option maxHeartbeats 4000000 in
set_option maxRecDepth 100000 in
/-- get -/
theorem c_MO_get (l : Launch) (hfl : l.flags = pinnedFlags ++ [noTraceFlag]) (D : va_G) (cI cZ cL : ClassId) (o r : Nat) (row : Nat → Int32) (txt : List Int32) (thr : Int32) (hM : MR txt row) (i : Int32) : CI l y_MO_get hd_MO_get rmQ D (TY cI cZ cL) [.ref o, .int i] (wM o r cI row txt.length thr) (fun (z : Int32) (u : Int32) => u = (if okG txt.length i then 0 else 1) ∧ (okG txt.length i → z = txt.getD i.toNatClampNeg 0)) (fun u => wM o r cI row txt.length u) := by
  refine CI.mkW (by decide +kernel) (Nat.le_of_ble_eq_true rfl) ?_
  intro p e s m below meth c A ls C hA hP hD hl
  obtain ⟨hx, hb, hml, hown, hB, hlk, hr, htb, hK, hX⟩ := id C
  have hS : va_S A s.heap s.heap [] := va_S.rf
  have hl : lv_has ls 3 [(0, .ref o), (1, .int i)] := hl
  have hM1 := hM.1
  have hcl := cnt_lenle txt txt.length
  refine lv_aload_n hx hb d_MO_get_0 rfl (lv_at hl 0 rfl) ?_
  refine lv_iconst (v := nI 0) hx hb d_MO_get_1 (by decide) ?_
  refine p_MO hx hb hB hown hK hP hD hS 0 rfl 2 (by decide) k_272 rfl rfl (Nat.le_of_ble_eq_true rfl) d_MO_get_2 (fun H locs hP hD hS => ?_)
  have hP : va_P D classes (wM o r cI row txt.length (nI 0)) H := hP
  have hD : va_D A (wM o r cI row txt.length (nI 0)) := hD
  refine lv_aload_n hx hb d_MO_get_5 rfl (lv_at hl 0 rfl) ?_
  refine lv_iload_n hx hb d_MO_get_6 rfl (lv_at hl 1 rfl) ?_
  by_cases hok : okG txt.length i
  · skip
    have hk0 := hok
    obtain ⟨a, ha, rfl⟩ := okG_nat (by omega) hok
    have hcl2 : (nI a).toNatClampNeg = a := nI_clamp (by omega)
    refine call_Ri (As := [.int (nI a)]) (rest := []) (ci := 2) C hA kv_MO_45 (c_MO_get0 l D cI cZ cL o r row txt (nI 0) hM a ha) hP hS 0 rfl rfl rfl rfl hl.1 rfl (Nat.le_of_ble_eq_true rfl) ⟨by decide, by decide⟩ ⟨rfl, rfl⟩ ⟨Nat.zero_le _, Nat.zero_le _⟩ d_MO_get_7 (fun zz hz => ?_)
    exact e_Ci C hS (nI 0) (⟨by rw [if_pos hk0]; rfl, fun _ => by rw [hcl2]; exact hz⟩) hP hD (by decide) (by decide) d_MO_get_10
  · skip
    refine call_Xv (As := [.int i]) (rest := []) (ci := 2) (hpc := 11) C hA kv_MO_45 (c_MO_get0_x l hfl D cI cZ cL o r row txt (nI 0) i hok) hP hS 0 rfl rfl rfl rfl hl.1 rfl (Nat.le_of_ble_eq_true rfl) ⟨by decide, by decide⟩ ⟨by decide, by decide⟩ d_MO_get_7 xc_NSE (Or.inl ⟨_, _, rfl, by decide, by decide, rfl, k_311⟩) (fun xx H1 hz1 hk1 hS => ?_)
    have hP := keepW hP hk1
    generalize H1 = H at hP hS ⊢
    refine lv_astore_n (lv' := [(2, .ref xx), (0, .ref o), (1, .int i)]) hx hb d_MO_get_11 rfl hl (by decide) rfl (fun ls hl => ?_)
    refine lv_aload_n hx hb d_MO_get_12 rfl (lv_at hl 1 rfl) ?_
    refine lv_iconst (v := nI 1) hx hb d_MO_get_13 (by decide) ?_
    refine p_MO hx hb hB hown hK hP hD hS 0 rfl 2 (by decide) k_272 rfl rfl (Nat.le_of_ble_eq_true rfl) d_MO_get_14 (fun H locs hP hD hS => ?_)
    have hP : va_P D classes (wM o r cI row txt.length (nI 1)) H := hP
    have hD : va_D A (wM o r cI row txt.length (nI 1)) := hD
    refine lv_iconst (v := nI 0) hx hb d_MO_get_17 (by decide) ?_
    exact e_Ci C hS (nI 1) (⟨by rw [if_neg hok]; rfl, fun q => absurd q hok⟩) hP hD (by decide) (by decide) d_MO_get_18
set_option maxHeartbeats 4000000 in
set_option maxRecDepth 100000 in
/-- line -/
theorem c_MO_line (l : Launch) (hfl : l.flags = pinnedFlags ++ [noTraceFlag]) (D : va_G) (cI cZ cL : ClassId) (o r : Nat) (row : Nat → Int32) (txt : List Int32) (thr : Int32) (hM : MR txt row) (i : Int32) : CI l y_MO_line hd_MO_line rmQ D (TY cI cZ cL) [.ref o, .int i] (wM o r cI row txt.length thr) (fun (z : Int32) (u : Int32) => u = (if okL (cnt txt txt.length) i then 0 else 1) ∧ (okL (cnt txt txt.length) i → ∃ k, z = nI k ∧ k ≤ txt.length ∧ i.toNatClampNeg ≤ cnt txt k ∧ ∀ j, j < k → cnt txt j < i.toNatClampNeg)) (fun u => wM o r cI row txt.length u) := by
  refine CI.mkW (by decide +kernel) (Nat.le_of_ble_eq_true rfl) ?_
  intro p e s m below meth c A ls C hA hP hD hl
  obtain ⟨hx, hb, hml, hown, hB, hlk, hr, htb, hK, hX⟩ := id C
  have hS : va_S A s.heap s.heap [] := va_S.rf
  have hl : lv_has ls 3 [(0, .ref o), (1, .int i)] := hl
  have hM1 := hM.1
  have hcl := cnt_lenle txt txt.length
  refine lv_aload_n hx hb d_MO_line_0 rfl (lv_at hl 0 rfl) ?_
  refine lv_iconst (v := nI 0) hx hb d_MO_line_1 (by decide) ?_
  refine p_MO hx hb hB hown hK hP hD hS 0 rfl 2 (by decide) k_272 rfl rfl (Nat.le_of_ble_eq_true rfl) d_MO_line_2 (fun H locs hP hD hS => ?_)
  have hP : va_P D classes (wM o r cI row txt.length (nI 0)) H := hP
  have hD : va_D A (wM o r cI row txt.length (nI 0)) := hD
  refine lv_aload_n hx hb d_MO_line_5 rfl (lv_at hl 0 rfl) ?_
  refine lv_iload_n hx hb d_MO_line_6 rfl (lv_at hl 1 rfl) ?_
  by_cases hok : okL (cnt txt txt.length) i
  · skip
    have hk0 := hok
    obtain ⟨a, ha, rfl⟩ := okL_nat (by omega) hok
    have hcl2 : (nI a).toNatClampNeg = a := nI_clamp (by omega)
    refine call_Ri (As := [.int (nI a)]) (rest := []) (ci := 2) C hA kv_MO_55 (c_MO_line0 l D cI cZ cL o r row txt (nI 0) hM a ha) hP hS 0 rfl rfl rfl rfl hl.1 rfl (Nat.le_of_ble_eq_true rfl) ⟨by decide, by decide⟩ ⟨rfl, rfl⟩ ⟨Nat.zero_le _, Nat.zero_le _⟩ d_MO_line_7 (fun zz hz => ?_)
    exact e_Ci C hS (nI 0) (⟨by rw [if_pos hk0]; rfl, fun _ => by rw [hcl2]; exact hz⟩) hP hD (by decide) (by decide) d_MO_line_10
  · skip
    refine call_Xv (As := [.int i]) (rest := []) (ci := 2) (hpc := 11) C hA kv_MO_55 (c_MO_line0_x l hfl D cI cZ cL o r row txt (nI 0) hM i hok) hP hS 0 rfl rfl rfl rfl hl.1 rfl (Nat.le_of_ble_eq_true rfl) ⟨by decide, by decide⟩ ⟨by decide, by decide⟩ d_MO_line_7 xc_NSE (Or.inl ⟨_, _, rfl, by decide, by decide, rfl, k_311⟩) (fun xx H1 hz1 hk1 hS => ?_)
    have hP := keepW hP hk1
    generalize H1 = H at hP hS ⊢
    refine lv_astore_n (lv' := [(2, .ref xx), (0, .ref o), (1, .int i)]) hx hb d_MO_line_11 rfl hl (by decide) rfl (fun ls hl => ?_)
    refine lv_aload_n hx hb d_MO_line_12 rfl (lv_at hl 1 rfl) ?_
    refine lv_iconst (v := nI 1) hx hb d_MO_line_13 (by decide) ?_
    refine p_MO hx hb hB hown hK hP hD hS 0 rfl 2 (by decide) k_272 rfl rfl (Nat.le_of_ble_eq_true rfl) d_MO_line_14 (fun H locs hP hD hS => ?_)
    have hP : va_P D classes (wM o r cI row txt.length (nI 1)) H := hP
    have hD : va_D A (wM o r cI row txt.length (nI 1)) := hD
    refine lv_iconst (v := nI 0) hx hb d_MO_line_17 (by decide) ?_
    exact e_Ci C hS (nI 1) (⟨by rw [if_neg hok]; rfl, fun q => absurd q hok⟩) hP hD (by decide) (by decide) d_MO_line_18
set_option maxHeartbeats 4000000 in
set_option maxRecDepth 100000 in
/-- lineOf -/
theorem c_MO_lineOf (l : Launch) (hfl : l.flags = pinnedFlags ++ [noTraceFlag]) (D : va_G) (cI cZ cL : ClassId) (o r : Nat) (row : Nat → Int32) (txt : List Int32) (thr : Int32) (hM : MR txt row) (i : Int32) : CI l y_MO_lineOf hd_MO_lineOf rmQ D (TY cI cZ cL) [.ref o, .int i] (wM o r cI row txt.length thr) (fun (z : Int32) (u : Int32) => u = (if okL txt.length i then 0 else 1) ∧ (okL txt.length i → z = nI (cnt txt i.toNatClampNeg))) (fun u => wM o r cI row txt.length u) := by
  refine CI.mkW (by decide +kernel) (Nat.le_of_ble_eq_true rfl) ?_
  intro p e s m below meth c A ls C hA hP hD hl
  obtain ⟨hx, hb, hml, hown, hB, hlk, hr, htb, hK, hX⟩ := id C
  have hS : va_S A s.heap s.heap [] := va_S.rf
  have hl : lv_has ls 3 [(0, .ref o), (1, .int i)] := hl
  have hM1 := hM.1
  have hcl := cnt_lenle txt txt.length
  refine lv_aload_n hx hb d_MO_lineOf_0 rfl (lv_at hl 0 rfl) ?_
  refine lv_iconst (v := nI 0) hx hb d_MO_lineOf_1 (by decide) ?_
  refine p_MO hx hb hB hown hK hP hD hS 0 rfl 2 (by decide) k_272 rfl rfl (Nat.le_of_ble_eq_true rfl) d_MO_lineOf_2 (fun H locs hP hD hS => ?_)
  have hP : va_P D classes (wM o r cI row txt.length (nI 0)) H := hP
  have hD : va_D A (wM o r cI row txt.length (nI 0)) := hD
  refine lv_aload_n hx hb d_MO_lineOf_5 rfl (lv_at hl 0 rfl) ?_
  refine lv_iload_n hx hb d_MO_lineOf_6 rfl (lv_at hl 1 rfl) ?_
  by_cases hok : okL txt.length i
  · skip
    have hk0 := hok
    obtain ⟨a, ha, rfl⟩ := okL_nat (by omega) hok
    have hcl2 : (nI a).toNatClampNeg = a := nI_clamp (by omega)
    refine call_Ri (As := [.int (nI a)]) (rest := []) (ci := 2) C hA kv_MO_58 (c_MO_lineOf0 l D cI cZ cL o r row txt (nI 0) hM a ha) hP hS 0 rfl rfl rfl rfl hl.1 rfl (Nat.le_of_ble_eq_true rfl) ⟨by decide, by decide⟩ ⟨rfl, rfl⟩ ⟨Nat.zero_le _, Nat.zero_le _⟩ d_MO_lineOf_7 (fun zz hz => ?_)
    exact e_Ci C hS (nI 0) (⟨by rw [if_pos hk0]; rfl, fun _ => by rw [hcl2]; exact hz⟩) hP hD (by decide) (by decide) d_MO_lineOf_10
  · skip
    refine call_Xv (As := [.int i]) (rest := []) (ci := 2) (hpc := 11) C hA kv_MO_58 (c_MO_lineOf0_x l hfl D cI cZ cL o r row txt (nI 0) i hok) hP hS 0 rfl rfl rfl rfl hl.1 rfl (Nat.le_of_ble_eq_true rfl) ⟨by decide, by decide⟩ ⟨by decide, by decide⟩ d_MO_lineOf_7 xc_IAE (Or.inl ⟨_, _, rfl, by decide, by decide, rfl, k_288⟩) (fun xx H1 hz1 hk1 hS => ?_)
    have hP := keepW hP hk1
    generalize H1 = H at hP hS ⊢
    refine lv_astore_n (lv' := [(2, .ref xx), (0, .ref o), (1, .int i)]) hx hb d_MO_lineOf_11 rfl hl (by decide) rfl (fun ls hl => ?_)
    refine lv_aload_n hx hb d_MO_lineOf_12 rfl (lv_at hl 1 rfl) ?_
    refine lv_iconst (v := nI 1) hx hb d_MO_lineOf_13 (by decide) ?_
    refine p_MO hx hb hB hown hK hP hD hS 0 rfl 2 (by decide) k_272 rfl rfl (Nat.le_of_ble_eq_true rfl) d_MO_lineOf_14 (fun H locs hP hD hS => ?_)
    have hP : va_P D classes (wM o r cI row txt.length (nI 1)) H := hP
    have hD : va_D A (wM o r cI row txt.length (nI 1)) := hD
    refine lv_iconst (v := nI 0) hx hb d_MO_lineOf_17 (by decide) ?_
    exact e_Ci C hS (nI 1) (⟨by rw [if_neg hok]; rfl, fun q => absurd q hok⟩) hP hD (by decide) (by decide) d_MO_lineOf_18
set_option maxHeartbeats 4000000 in
set_option maxRecDepth 100000 in
/-- length -/
theorem c_MO_length (l : Launch) (D : va_G) (cI cZ cL : ClassId) (o r : Nat) (row : Nat → Int32) (txt : List Int32) (thr : Int32) (hM : MR txt row) : CI l y_MO_length hd_MO_length rmT D (TY cI cZ cL) [.ref o] (wM o r cI row txt.length thr) (fun (z : Int32) (u : Int32) => z = nI txt.length) (fun u => wM o r cI row txt.length u) := by
  refine CI.mk (by decide +kernel) (Nat.le_of_ble_eq_true rfl) ?_
  intro p e s m below meth c A ls C hA hP hD hl
  obtain ⟨hx, hb, hml, hown, hB, hlk, hr, htb, hK, hX⟩ := id C
  have hS : va_S A s.heap s.heap [] := va_S.rf
  have hl : lv_has ls 1 [(0, .ref o)] := hl
  refine lv_aload_n hx hb d_MO_length_0 rfl (lv_at hl 0 rfl) ?_
  refine lv_iconst (v := nI 0) hx hb d_MO_length_1 (by decide) ?_
  refine p_MO hx hb hB hown hK hP hD hS 0 rfl 2 (by decide) k_272 rfl rfl (Nat.le_of_ble_eq_true rfl) d_MO_length_2 (fun H locs hP hD hS => ?_)
  have hP : va_P D classes (wM o r cI row txt.length (nI 0)) H := hP
  have hD : va_D A (wM o r cI row txt.length (nI 0)) := hD
  refine lv_aload_n hx hb d_MO_length_5 rfl (lv_at hl 0 rfl) ?_
  refine call_Ri (As := []) (rest := []) (ci := 2) C hA kv_MO_48 (c_MO_length0 l D cI cZ cL o r row txt (nI 0)) hP hS 0 rfl rfl rfl rfl hl.1 rfl (Nat.le_of_ble_eq_true rfl) ⟨by decide, by decide⟩ ⟨rfl, rfl⟩ ⟨Nat.zero_le _, Nat.zero_le _⟩ d_MO_length_6 (fun zz hz => ?_)
  exact e_Ci C hS (nI 0) (hz) hP hD (by decide) (by decide) d_MO_length_9
set_option maxHeartbeats 4000000 in
set_option maxRecDepth 100000 in
/-- lines -/
theorem c_MO_lines (l : Launch) (D : va_G) (cI cZ cL : ClassId) (o r : Nat) (row : Nat → Int32) (txt : List Int32) (thr : Int32) (hM : MR txt row) : CI l y_MO_lines hd_MO_lines rmT D (TY cI cZ cL) [.ref o] (wM o r cI row txt.length thr) (fun (z : Int32) (u : Int32) => z = nI (cnt txt txt.length + 1)) (fun u => wM o r cI row txt.length u) := by
  refine CI.mk (by decide +kernel) (Nat.le_of_ble_eq_true rfl) ?_
  intro p e s m below meth c A ls C hA hP hD hl
  obtain ⟨hx, hb, hml, hown, hB, hlk, hr, htb, hK, hX⟩ := id C
  have hS : va_S A s.heap s.heap [] := va_S.rf
  have hl : lv_has ls 1 [(0, .ref o)] := hl
  refine lv_aload_n hx hb d_MO_lines_0 rfl (lv_at hl 0 rfl) ?_
  refine lv_iconst (v := nI 0) hx hb d_MO_lines_1 (by decide) ?_
  refine p_MO hx hb hB hown hK hP hD hS 0 rfl 2 (by decide) k_272 rfl rfl (Nat.le_of_ble_eq_true rfl) d_MO_lines_2 (fun H locs hP hD hS => ?_)
  have hP : va_P D classes (wM o r cI row txt.length (nI 0)) H := hP
  have hD : va_D A (wM o r cI row txt.length (nI 0)) := hD
  refine lv_aload_n hx hb d_MO_lines_5 rfl (lv_at hl 0 rfl) ?_
  refine call_Ri (As := []) (rest := []) (ci := 2) C hA kv_MO_52 (c_MO_lines0 l D cI cZ cL o r row txt (nI 0) hM) hP hS 0 rfl rfl rfl rfl hl.1 rfl (Nat.le_of_ble_eq_true rfl) ⟨by decide, by decide⟩ ⟨rfl, rfl⟩ ⟨Nat.zero_le _, Nat.zero_le _⟩ d_MO_lines_6 (fun zz hz => ?_)
  exact e_Ci C hS (nI 0) (hz) hP hD (by decide) (by decide) d_MO_lines_9
set_option maxHeartbeats 4000000 in
set_option maxRecDepth 100000 in
/-- digest -/
theorem c_MO_digest (l : Launch) (D : va_G) (cI cZ cL : ClassId) (o r : Nat) (row : Nat → Int32) (txt : List Int32) (thr : Int32) (hM : MR txt row) : CI l y_MO_digest hd_MO_digest rmT D (TY cI cZ cL) [.ref o] (wM o r cI row txt.length thr) (fun (z : Int32) (u : Int32) => z = dgN txt txt.length) (fun u => wM o r cI row txt.length u) := by
  refine CI.mk (by decide +kernel) (Nat.le_of_ble_eq_true rfl) ?_
  intro p e s m below meth c A ls C hA hP hD hl
  obtain ⟨hx, hb, hml, hown, hB, hlk, hr, htb, hK, hX⟩ := id C
  have hS : va_S A s.heap s.heap [] := va_S.rf
  have hl : lv_has ls 1 [(0, .ref o)] := hl
  refine lv_aload_n hx hb d_MO_digest_0 rfl (lv_at hl 0 rfl) ?_
  refine lv_iconst (v := nI 0) hx hb d_MO_digest_1 (by decide) ?_
  refine p_MO hx hb hB hown hK hP hD hS 0 rfl 2 (by decide) k_272 rfl rfl (Nat.le_of_ble_eq_true rfl) d_MO_digest_2 (fun H locs hP hD hS => ?_)
  have hP : va_P D classes (wM o r cI row txt.length (nI 0)) H := hP
  have hD : va_D A (wM o r cI row txt.length (nI 0)) := hD
  refine lv_aload_n hx hb d_MO_digest_5 rfl (lv_at hl 0 rfl) ?_
  refine call_Ri (As := []) (rest := []) (ci := 2) C hA kv_MO_61 (c_MO_digest0 l D cI cZ cL o r row txt (nI 0) hM) hP hS 0 rfl rfl rfl rfl hl.1 rfl (Nat.le_of_ble_eq_true rfl) ⟨by decide, by decide⟩ ⟨rfl, rfl⟩ ⟨Nat.zero_le _, Nat.zero_le _⟩ d_MO_digest_6 (fun zz hz => ?_)
  exact e_Ci C hS (nI 0) (hz) hP hD (by decide) (by decide) d_MO_digest_9
end
section
/-! ===== chunks: their numbers and what they hold, in order ===== -/
abbrev Chs : Type := List (Nat × List Int32)
def flat (cs : Chs) : List Int32 := cs.flatMap Prod.snd
def ids (cs : Chs) : List Nat := cs.map Prod.fst
theorem flat_nil : flat [] = [] := rfl
theorem flat_cons (x : Nat × List Int32) (l : Chs) : flat (x :: l) = x.2 ++ flat l := by simp [flat]
theorem flat_app (a b : Chs) : flat (a ++ b) = flat a ++ flat b := by simp [flat]
theorem ids_app (a b : Chs) : ids (a ++ b) = ids a ++ ids b := by simp [ids]
theorem ids_cons (x : Nat × List Int32) (l : Chs) : ids (x :: l) = x.1 :: ids l := rfl
theorem ids_len (a : Chs) : (ids a).length = a.length := by simp [ids]
def pl (cs : Chs) (j : Nat) : Nat := (flat (cs.take j)).length
theorem pl_0 (cs : Chs) : pl cs 0 = 0 := by simp [pl, flat]
theorem pl_at (l : Chs) (x : Nat × List Int32) (r : Chs) : pl (l ++ x :: r) l.length = (flat l).length := by simp [pl]
theorem pl_at1 (l : Chs) (x : Nat × List Int32) (r : Chs) : pl (l ++ x :: r) (l.length + 1) = (flat l).length + x.2.length := by
  unfold pl
  rw [List.take_append, List.take_of_length_le (by omega), show l.length + 1 - l.length = 1 by omega]
  simp [flat]
theorem pl_all (cs : Chs) : pl cs cs.length = (flat cs).length := by simp [pl]
theorem pl_mono {cs : Chs} {a b : Nat} (h : a ≤ b) : pl cs a ≤ pl cs b := by
  unfold pl
  have h1 : (cs.take b).take a = cs.take a := by rw [List.take_take, Nat.min_eq_left h]
  rw [← h1]
  conv => rhs; rw [← List.take_append_drop a (cs.take b)]
  rw [flat_app, List.length_append]
  omega
theorem ex_at {cs : Chs} {p : Nat} (h : p < cs.length) : ∃ (l : Chs) (c : Nat) (xs : List Int32) (r : Chs), cs = l ++ (c, xs) :: r ∧ l.length = p := by
  refine ⟨cs.take p, (cs[p]).1, (cs[p]).2, cs.drop (p + 1), ?_, by simp; omega⟩
  conv => lhs; rw [← List.take_append_drop p cs]
  rw [List.drop_eq_getElem_cons h]
/-- a chunk as the arrays hold it -/
def Ck (V : Nat → Int32) (E : Nat → Bool) (F B : Nat → Nat) (x : Nat × List Int32) : Prop :=
  F x.1 = x.2.length ∧ B x.1 = x.2.count 10 ∧ x.2.length ≤ 128 ∧ ∀ k, k < x.2.length → V (128 * x.1 + k) = x.2.getD k 0 ∧ E (128 * x.1 + k) = (x.2.getD k 0 == 10)
def Ord (O : Nat → Nat) (is : List Nat) : Prop := ∀ i c, is[i]? = some c → O i = c
def Rep (cs : Chs) (fl : List Nat) (us : Nat) (V : Nat → Int32) (E : Nat → Bool) (F B O R : Nat → Nat) : Prop :=
  (∀ x ∈ cs, Ck V E F B x) ∧ Ord O (ids cs) ∧ Ord R fl ∧ (ids cs ++ fl).Nodup ∧ (∀ c ∈ ids cs ++ fl, c < us) ∧ cs.length + fl.length = us ∧ us ≤ 628 ∧ 1 ≤ cs.length
theorem Ck_keep {V V' : Nat → Int32} {E E' : Nat → Bool} {F F' B B' : Nat → Nat} {x : Nat × List Int32} (h : Ck V E F B x) (hF : F' x.1 = F x.1) (hB : B' x.1 = B x.1) (hV : ∀ k, k < 128 → V' (128 * x.1 + k) = V (128 * x.1 + k)) (hE : ∀ k, k < 128 → E' (128 * x.1 + k) = E (128 * x.1 + k)) : Ck V' E' F' B' x := by
  obtain ⟨h1, h2, h3, h4⟩ := h
  refine ⟨hF.trans h1, hB.trans h2, h3, fun k hk => ?_⟩
  rw [hV k (by omega), hE k (by omega)]
  exact h4 k hk
/-- what is known of the chunk at a place -/
theorem Rep_at {l r : Chs} {c : Nat} {xs : List Int32} {fl : List Nat} {us : Nat} {V : Nat → Int32} {E : Nat → Bool} {F B O R : Nat → Nat} (h : Rep (l ++ (c, xs) :: r) fl us V E F B O R) :
    O l.length = c ∧ c < 628 ∧ F c = xs.length ∧ B c = xs.count 10 ∧ xs.length ≤ 128 ∧ (∀ k, k < xs.length → V (128 * c + k) = xs.getD k 0) ∧ (∀ k, k < xs.length → E (128 * c + k) = (xs.getD k 0 == 10)) := by
  obtain ⟨hC, hO, hR, hN, hU, hL, h6, h1⟩ := h
  have hc := hC (c, xs) (by simp)
  refine ⟨hO _ _ (by rw [ids_app, ids_cons, List.getElem?_append_right (by rw [ids_len]; exact Nat.le_refl _), ids_len]; simp), ?_, hc.1, hc.2.1, hc.2.2.1, fun k hk => (hc.2.2.2 k hk).1, fun k hk => (hc.2.2.2 k hk).2⟩
  have := hU c (by rw [ids_app, ids_cons]; simp)
  omega
theorem Rep_len {cs : Chs} {fl : List Nat} {us : Nat} {V : Nat → Int32} {E : Nat → Bool} {F B O R : Nat → Nat} (h : Rep cs fl us V E F B O R) : 1 ≤ cs.length ∧ cs.length ≤ 628 ∧ fl.length < 628 ∧ us ≤ 628 := by
  obtain ⟨hC, hO, hR, hN, hU, hL, h6, h1⟩ := h
  exact ⟨h1, by omega, by omega, h6⟩
/-- the other chunks have other numbers -/
theorem nodup_ne {l r : Chs} {c : Nat} {xs : List Int32} {fl : List Nat} (hN : (ids (l ++ (c, xs) :: r) ++ fl).Nodup) : (∀ x ∈ l, x.1 ≠ c) ∧ (∀ x ∈ r, x.1 ≠ c) ∧ ∀ d ∈ fl, d ≠ c := by
  rw [ids_app, ids_cons, List.append_assoc, List.nodup_append] at hN
  obtain ⟨-, h2, h3⟩ := hN
  have h2' : c ∉ ids r ++ fl := (List.nodup_cons.mp h2).1
  refine ⟨fun x hx hc => ?_, fun x hx hc => ?_, fun d hd hc => ?_⟩
  · exact h3 x.1 (List.mem_map_of_mem hx) c (by simp) hc
  · exact h2' (List.mem_append_left _ (hc ▸ List.mem_map_of_mem hx))
  · exact h2' (List.mem_append_right _ (hc ▸ hd))
/-- one chunk's contents replaced -/
theorem Rep_set {l r : Chs} {c : Nat} {xs ys : List Int32} {fl : List Nat} {us : Nat} {V V' : Nat → Int32} {E E' : Nat → Bool} {F F' B B' O R : Nat → Nat} (h : Rep (l ++ (c, xs) :: r) fl us V E F B O R)
    (hy : Ck V' E' F' B' (c, ys)) (hF : ∀ j, j ≠ c → F' j = F j) (hB : ∀ j, j ≠ c → B' j = B j) (hV : ∀ j, j < 128 * c ∨ 128 * c + 128 ≤ j → V' j = V j) (hE : ∀ j, j < 128 * c ∨ 128 * c + 128 ≤ j → E' j = E j) : Rep (l ++ (c, ys) :: r) fl us V' E' F' B' O R := by
  obtain ⟨hC, hO, hR, hN, hU, hL, h6, h1⟩ := h
  have hi : ids (l ++ (c, ys) :: r) = ids (l ++ (c, xs) :: r) := by rw [ids_app, ids_app, ids_cons, ids_cons]
  obtain ⟨n1, n2, -⟩ := nodup_ne hN
  have keep : ∀ x : Nat × List Int32, x.1 ≠ c → Ck V E F B x → Ck V' E' F' B' x := fun x hx hk => Ck_keep hk (hF _ hx) (hB _ hx) (fun k hk => hV _ (by omega)) (fun k hk => hE _ (by omega))
  refine ⟨fun x hx => ?_, by rw [hi]; exact hO, hR, by rw [hi]; exact hN, by rw [hi]; exact hU, by simpa using hL, h6, by simp; omega⟩
  rcases List.mem_append.mp hx with hx | hx
  · exact keep x (n1 x hx) (hC x (List.mem_append_left _ hx))
  · rcases List.mem_cons.mp hx with rfl | hx
    · exact hy
    · exact keep x (n2 x hx) (hC x (List.mem_append_right _ (List.mem_cons_of_mem _ hx)))
/-! ===== seeking ===== -/
def Pass (cs : Chs) (i : Nat) (b : Bool) (ag : Nat) : Prop := ∀ j, j < ag → (if b = true then pl cs (j + 1) < i else pl cs (j + 1) ≤ i)
def Sk (cs : Chs) (i : Nat) (b : Bool) (ag rs : Nat) : Prop := ag < cs.length ∧ pl cs ag + rs = i ∧ (ag + 1 = cs.length ∨ (if b = true then i ≤ pl cs (ag + 1) else i < pl cs (ag + 1))) ∧ Pass cs i b ag
theorem Pass_0 (cs : Chs) (i : Nat) (b : Bool) : Pass cs i b 0 := fun j h => absurd h (by omega)
theorem Pass_s {cs : Chs} {i : Nat} {b : Bool} {ag : Nat} (h : Pass cs i b ag) (h2 : if b = true then pl cs (ag + 1) < i else pl cs (ag + 1) ≤ i) : Pass cs i b (ag + 1) := by
  intro j hj
  by_cases q : j = ag
  · subst q; exact h2
  · exact h j (by omega)
/-- where it ends: in range -/
theorem Sk_t {l r : Chs} {x : Nat × List Int32} {i rs : Nat} (h : Sk (l ++ x :: r) i true l.length rs) (hi : i ≤ (flat (l ++ x :: r)).length) : i = (flat l).length + rs ∧ rs ≤ x.2.length := by
  obtain ⟨h1, h2, h3, -⟩ := h
  rw [pl_at] at h2
  rw [pl_at1] at h3
  refine ⟨h2.symm, ?_⟩
  rcases h3 with h3 | h3
  · have hr : r = [] := by
      have : r.length = 0 := by rw [List.length_append, List.length_cons] at h3; omega
      exact List.length_eq_zero_iff.mp this
    subst hr
    rw [flat_app, flat_cons, List.length_append, List.length_append, flat_nil] at hi
    simp only [List.length_nil] at hi
    omega
  · simp at h3
    omega
theorem Sk_f {l r : Chs} {x : Nat × List Int32} {i rs : Nat} (h : Sk (l ++ x :: r) i false l.length rs) (hi : i < (flat (l ++ x :: r)).length) : i = (flat l).length + rs ∧ rs < x.2.length := by
  obtain ⟨h1, h2, h3, -⟩ := h
  rw [pl_at] at h2
  rw [pl_at1] at h3
  refine ⟨h2.symm, ?_⟩
  rcases h3 with h3 | h3
  · have hr : r = [] := by
      have : r.length = 0 := by rw [List.length_append, List.length_cons] at h3; omega
      exact List.length_eq_zero_iff.mp this
    subst hr
    rw [flat_app, flat_cons, List.length_append, List.length_append] at hi
    rw [flat_nil] at hi
    simp only [List.length_nil] at hi
    omega
  · simp at h3
    omega
/-! ===== neighbours ===== -/
def Adj : Chs → Prop
  | [] => True
  | [_] => True
  | x :: y :: l => 64 ≤ x.2.length + y.2.length ∧ Adj (y :: l)
theorem Adj_app : ∀ (l : Chs) (x : Nat × List Int32) (r : Chs), Adj (l ++ x :: r) ↔ Adj (l ++ [x]) ∧ Adj (x :: r)
  | [], x, r => by simp [Adj]
  | [a], x, r => by simp [Adj]
  | a :: b :: l, x, r => by
    have ih := Adj_app (b :: l) x r
    simp only [List.cons_append, Adj] at ih ⊢
    rw [ih, and_assoc]
theorem Adj_cons2 {x y : Nat × List Int32} {r : Chs} : Adj (x :: y :: r) ↔ 64 ≤ x.2.length + y.2.length ∧ Adj (y :: r) := Iff.rfl
theorem Adj_hd {x y : Nat × List Int32} {r : Chs} (h : Adj (x :: r)) (hl : x.2.length ≤ y.2.length) : Adj (y :: r) := by
  cases r with
  | nil => trivial
  | cons z r => exact ⟨by have := h.1; omega, h.2⟩
theorem Adj_tl : ∀ {l : Chs} {x y : Nat × List Int32}, Adj (l ++ [x]) → x.2.length ≤ y.2.length → Adj (l ++ [y])
  | [], _, _, _, _ => trivial
  | [a], x, y, h, hl => ⟨by have := h.1; omega, trivial⟩
  | a :: b :: l, x, y, h, hl => by
    have h' : 64 ≤ a.2.length + b.2.length ∧ Adj (b :: l ++ [x]) := h
    exact (show 64 ≤ a.2.length + b.2.length ∧ Adj (b :: l ++ [y]) from ⟨h'.1, Adj_tl h'.2 hl⟩)
theorem Adj_many : ∀ (n : Nat) (cs : Chs), cs.length ≤ n → Adj cs → 64 * (cs.length / 2) ≤ (flat cs).length
  | 0, cs, h, _ => by
    have : cs.length = 0 := by omega
    rw [this]; simp
  | n + 1, [], _, _ => by simp
  | n + 1, [x], _, _ => by simp
  | n + 1, [x, y], _, h => by
    rw [flat_cons, flat_cons, List.length_append, List.length_append]
    have := h.1
    simp only [List.length_cons, List.length_nil]
    omega
  | n + 1, x :: y :: z :: l, hn, h => by
    have ih := Adj_many n (z :: l) (by simp at hn ⊢; omega) h.2.2
    rw [flat_cons, flat_cons, List.length_append, List.length_append]
    have := h.1
    simp only [List.length_cons] at ih ⊢
    omega
end
section
/-! ===== copying and shifting in arrays ===== -/
def Cp {α : Type} (a b t : Nat) (V V' : Nat → α) : Prop := (∀ j, j < t → V' (b + j) = V (a + j)) ∧ ∀ j, j < b ∨ b + t ≤ j → V' j = V j
theorem Cp_0 {α : Type} {a b : Nat} {V : Nat → α} : Cp a b 0 V V := ⟨fun j h => absurd h (by omega), fun _ _ => rfl⟩
theorem Cp_s {α : Type} {a b t : Nat} {V V' V'' : Nat → α} (h : Cp a b t V V') (h1 : V'' (b + t) = V (a + t)) (h2 : ∀ j, j ≠ b + t → V'' j = V' j) : Cp a b (t + 1) V V'' := by
  refine ⟨fun j hj => ?_, fun j hj => ?_⟩
  · by_cases q : j = t
    · subst q; exact h1
    · rw [h2 _ (by omega)]; exact h.1 j (by omega)
  · rw [h2 _ (by omega)]; exact h.2 j (by omega)
/-- one up from the end n down to kk, in a stretch that begins at b -/
def Up1 {α : Type} (b n kk : Nat) (V V' : Nat → α) : Prop := (∀ j, kk ≤ j → j < n → V' (b + j + 1) = V (b + j)) ∧ ∀ j, j ≤ b + kk ∨ b + n + 1 ≤ j → V' j = V j
theorem Up1_0 {α : Type} {b n : Nat} {V : Nat → α} : Up1 b n n V V := ⟨fun j h1 h2 => absurd h1 (by omega), fun _ _ => rfl⟩
theorem Up1_s {α : Type} {b n kk : Nat} {V V' V'' : Nat → α} (h : Up1 b n (kk + 1) V V') (hk : kk < n) (h1 : V'' (b + kk + 1) = V' (b + kk)) (h2 : ∀ j, j ≠ b + kk + 1 → V'' j = V' j) : Up1 b n kk V V'' := by
  refine ⟨fun j q1 q2 => ?_, fun j q1 => ?_⟩
  · by_cases q : j = kk
    · subst q; rw [h1]; exact h.2 _ (by omega)
    · rw [h2 _ (by omega)]; exact h.1 j (by omega) q2
  · rw [h2 _ (by omega)]; exact h.2 j (by omega)
/-- one down from place a up to k -/
def Dn1 {α : Type} (b a k : Nat) (V V' : Nat → α) : Prop := (∀ j, a ≤ j → j < k → V' (b + j) = V (b + j + 1)) ∧ ∀ j, j < b + a ∨ b + k ≤ j → V' j = V j
theorem Dn1_0 {α : Type} {b a : Nat} {V : Nat → α} : Dn1 b a a V V := ⟨fun j h1 h2 => absurd h1 (by omega), fun _ _ => rfl⟩
theorem Dn1_s {α : Type} {b a k : Nat} {V V' V'' : Nat → α} (h : Dn1 b a k V V') (hk : a ≤ k) (h1 : V'' (b + k) = V' (b + k + 1)) (h2 : ∀ j, j ≠ b + k → V'' j = V' j) : Dn1 b a (k + 1) V V'' := by
  refine ⟨fun j q1 q2 => ?_, fun j q1 => ?_⟩
  · by_cases q : j = k
    · subst q; rw [h1]; exact h.2 _ (by omega)
    · rw [h2 _ (by omega)]; exact h.1 j q1 (by omega)
  · rw [h2 _ (by omega)]; exact h.2 j (by omega)
/-! ===== a chunk is split ===== -/
def Fresh (cs : Chs) (fl : List Nat) (us d : Nat) (R : Nat → Nat) : Prop := (ids cs ++ fl).Nodup ∧ d ∉ ids cs ++ fl ∧ (∀ c ∈ ids cs ++ fl, c < us) ∧ d < us ∧ cs.length + 1 + fl.length = us ∧ us ≤ 628 ∧ Ord R fl
theorem Fresh_0 {cs : Chs} {us : Nat} {V : Nat → Int32} {E : Nat → Bool} {F B O R : Nat → Nat} (h : Rep cs [] us V E F B O R) (hu : cs.length ≤ 627) : Fresh cs [] (us + 1) us R ∧ us = cs.length := by
  obtain ⟨hC, hO, hR, hN, hU, hL, h6, h1⟩ := h
  simp only [List.length_nil, Nat.add_zero] at hL
  refine ⟨⟨hN, fun hm => ?_, fun c hc => ?_, by omega, by simp only [List.length_nil]; omega, by omega, hR⟩, hL.symm⟩
  · have := hU us hm; omega
  · have := hU c hc; omega
theorem Fresh_1 {cs : Chs} {fl : List Nat} {d us : Nat} {V : Nat → Int32} {E : Nat → Bool} {F B O R : Nat → Nat} (h : Rep cs (fl ++ [d]) us V E F B O R) : Fresh cs fl us d R ∧ R fl.length = d := by
  obtain ⟨hC, hO, hR, hN, hU, hL, h6, h1⟩ := h
  have hN2 := hN
  rw [← List.append_assoc, List.nodup_append] at hN2
  obtain ⟨n1, -, n3⟩ := hN2
  refine ⟨⟨n1, fun hm => n3 d hm d (by simp) rfl, fun c hc => hU c ?_, hU d (by simp), by simp at hL; omega, h6, fun i c hi => ?_⟩, hR _ _ (by simp)⟩
  · rw [← List.append_assoc]; exact List.mem_append_left _ hc
  · refine hR i c ?_
    rw [List.getElem?_append_left (List.getElem?_eq_some_iff.mp hi).1]
    exact hi
theorem Fresh_ne {cs : Chs} {fl : List Nat} {d us : Nat} {R : Nat → Nat} (h : Fresh cs fl us d R) : ∀ x ∈ cs, x.1 ≠ d := fun x hx hc => h.2.1 (List.mem_append_left _ (hc ▸ List.mem_map_of_mem hx))
theorem count_td (xs : List Int32) (k : Nat) : (xs.take k).count 10 + (xs.drop k).count 10 = xs.count 10 := by
  rw [← List.count_append, List.take_append_drop]
theorem Ord_ins {O O' : Nat → Nat} {li ri : List Nat} {c d : Nat} (h : Ord O (li ++ c :: ri)) (h0 : ∀ j, j ≤ li.length → O' j = O j) (h1 : O' (li.length + 1) = d) (h2 : ∀ j, li.length + 1 ≤ j → j < (li ++ c :: ri).length → O' (j + 1) = O j) : Ord O' (li ++ c :: d :: ri) := by
  intro i x hi
  have hlt := (List.getElem?_eq_some_iff.mp hi).1
  rw [List.length_append, List.length_cons, List.length_cons] at hlt
  by_cases q : i < li.length
  · rw [h0 i (by omega)]
    refine h i x ?_
    rw [List.getElem?_append_left q] at hi ⊢
    exact hi
  · rw [List.getElem?_append_right (by omega)] at hi
    by_cases q2 : i = li.length
    · subst q2
      rw [h0 _ (Nat.le_refl _)]
      refine h _ x ?_
      rw [List.getElem?_append_right (Nat.le_refl _)]
      simpa using hi
    · by_cases q3 : i = li.length + 1
      · subst q3
        rw [h1]
        simpa using hi
      · obtain ⟨k, rfl⟩ : ∃ k, i = li.length + 2 + k := ⟨i - li.length - 2, by omega⟩
        rw [show li.length + 2 + k = (li.length + 1 + k) + 1 by omega, h2 _ (by omega) (by rw [List.length_append, List.length_cons]; omega)]
        refine h _ x ?_
        rw [List.getElem?_append_right (by omega), show li.length + 1 + k - li.length = k + 1 by omega, List.getElem?_cons_succ]
        rw [show li.length + 2 + k - li.length = k + 1 + 1 by omega, List.getElem?_cons_succ, List.getElem?_cons_succ] at hi
        exact hi
theorem Rep_split {l r : Chs} {c d : Nat} {xs : List Int32} {fl fl' : List Nat} {us us' : Nat} {V V' : Nat → Int32} {E E' : Nat → Bool} {F F' B B' O O' R : Nat → Nat} (h : Rep (l ++ (c, xs) :: r) fl us V E F B O R) (hx : xs.length = 128) (hf : Fresh (l ++ (c, xs) :: r) fl' us' d R)
    (hV : Cp (128 * c + 64) (128 * d) 64 V V') (hE : Cp (128 * c + 64) (128 * d) 64 E E') (f1 : F' d = 64) (f2 : F' c = 64) (f3 : ∀ j, j ≠ c → j ≠ d → F' j = F j) (b1 : B' d = (xs.drop 64).count 10) (b2 : B' c = B c - (xs.drop 64).count 10) (b3 : ∀ j, j ≠ c → j ≠ d → B' j = B j)
    (o0 : ∀ j, j ≤ l.length → O' j = O j) (o1 : O' (l.length + 1) = d) (o2 : ∀ j, l.length + 1 ≤ j → j < (l ++ (c, xs) :: r).length → O' (j + 1) = O j) : Rep (l ++ (c, xs.take 64) :: (d, xs.drop 64) :: r) fl' us' V' E' F' B' O' R := by
  obtain ⟨hC, hO, hR, hN, hU, hL, h6, h1⟩ := h
  obtain ⟨n1, n2, -⟩ := nodup_ne hN
  have nd := Fresh_ne hf
  obtain ⟨g1, g2, g3, g4, g5, g6, g7⟩ := hf
  have hcd : c ≠ d := nd (c, xs) (by simp)
  have hck := hC (c, xs) (by simp)
  obtain ⟨k1, k2, k3, k4⟩ := hck
  simp only at k1 k2 k3 k4
  have keep : ∀ x : Nat × List Int32, x.1 ≠ c → x.1 ≠ d → Ck V E F B x → Ck V' E' F' B' x := fun x q1 q2 hk => Ck_keep hk (f3 _ q1 q2) (b3 _ q1 q2) (fun k hk => hV.2 _ (by omega)) (fun k hk => hE.2 _ (by omega))
  have htd := count_td xs 64
  have hids : ids (l ++ (c, xs.take 64) :: (d, xs.drop 64) :: r) = ids l ++ c :: d :: ids r := by rw [ids_app, ids_cons, ids_cons]
  have hids0 : ids (l ++ (c, xs) :: r) = ids l ++ c :: ids r := by rw [ids_app, ids_cons]
  have hperm : (ids (l ++ (c, xs.take 64) :: (d, xs.drop 64) :: r) ++ fl').Perm (d :: (ids (l ++ (c, xs) :: r) ++ fl')) := by
    rw [hids, hids0]
    have : (ids l ++ c :: d :: ids r).Perm (d :: (ids l ++ c :: ids r)) := by
      refine (List.Perm.append_left (ids l) (List.Perm.swap d c (ids r))).trans ?_
      exact List.perm_middle
    exact (this.append_right fl')
  refine ⟨fun x hx => ?_, ?_, g7, hperm.nodup_iff.mpr (List.nodup_cons.mpr ⟨g2, g1⟩), fun z hz => ?_, ?_, g6, by simp; omega⟩
  · rcases List.mem_append.mp hx with hx | hx
    · exact keep x (n1 x hx) (nd x (List.mem_append_left _ hx)) (hC x (List.mem_append_left _ hx))
    · rcases List.mem_cons.mp hx with rfl | hx
      · refine ⟨by simp [f2]; omega, by simp only; omega, by simp; omega, fun k hk => ?_⟩
        simp only [List.length_take] at hk
        simp only
        rw [hV.2 _ (by omega), hE.2 _ (by omega), getD_take (by omega)]
        exact k4 k (by omega)
      · rcases List.mem_cons.mp hx with rfl | hx
        · refine ⟨by simp [f1]; omega, b1, by simp; omega, fun k hk => ?_⟩
          simp only [List.length_drop] at hk
          simp only
          rw [hV.1 k (by omega), hE.1 k (by omega), getD_drop, Nat.add_assoc]
          exact k4 (64 + k) (by omega)
        · have hm : x ∈ l ++ (c, xs) :: r := List.mem_append_right _ (List.mem_cons_of_mem _ hx)
          exact keep x (n2 x hx) (nd x hm) (hC x hm)
  · rw [hids]
    rw [hids0] at hO
    refine Ord_ins hO (fun j hj => o0 j (by rw [ids_len] at hj; exact hj)) (by rw [ids_len]; exact o1) (fun j q1 q2 => o2 j (by rw [ids_len] at q1; exact q1) ?_)
    rw [List.length_append, List.length_cons, ids_len, ids_len] at q2
    rw [List.length_append, List.length_cons]
    exact q2
  · rcases List.mem_cons.mp (hperm.mem_iff.mp hz) with rfl | hz
    · exact g4
    · exact g3 z hz
  · rw [List.length_append, List.length_cons, List.length_cons]
    rw [List.length_append, List.length_cons] at g5
    omega
theorem flat_split (l r : Chs) (c d : Nat) (xs : List Int32) : flat (l ++ (c, xs.take 64) :: (d, xs.drop 64) :: r) = flat (l ++ (c, xs) :: r) := by
  rw [flat_app, flat_app, flat_cons, flat_cons, flat_cons]
  simp only
  rw [← List.append_assoc (xs.take 64), List.take_append_drop]
end
section
/-! ===== two chunks are joined ===== -/
theorem Ord_del {O O' : Nat → Nat} {li ri : List Nat} {c d : Nat} (h : Ord O (li ++ c :: d :: ri)) (h0 : ∀ j, j ≤ li.length → O' j = O j) (h2 : ∀ j, li.length + 1 ≤ j → j + 1 < (li ++ c :: d :: ri).length → O' j = O (j + 1)) : Ord O' (li ++ c :: ri) := by
  intro i x hi
  have hlt := (List.getElem?_eq_some_iff.mp hi).1
  rw [List.length_append, List.length_cons] at hlt
  by_cases q : i < li.length
  · rw [h0 i (by omega)]
    refine h i x ?_
    rw [List.getElem?_append_left q] at hi ⊢
    exact hi
  · rw [List.getElem?_append_right (by omega)] at hi
    by_cases q2 : i = li.length
    · subst q2
      rw [h0 _ (Nat.le_refl _)]
      refine h _ x ?_
      rw [List.getElem?_append_right (Nat.le_refl _)]
      simpa using hi
    · obtain ⟨k, rfl⟩ : ∃ k, i = li.length + 1 + k := ⟨i - li.length - 1, by omega⟩
      rw [h2 _ (by omega) (by rw [List.length_append, List.length_cons, List.length_cons]; omega)]
      refine h _ x ?_
      rw [List.getElem?_append_right (by omega), show li.length + 1 + k + 1 - li.length = k + 1 + 1 by omega, List.getElem?_cons_succ, List.getElem?_cons_succ]
      rw [show li.length + 1 + k - li.length = k + 1 by omega, List.getElem?_cons_succ] at hi
      exact hi
theorem Rep_join {l r : Chs} {c d : Nat} {xs ys : List Int32} {fl : List Nat} {us : Nat} {V V' : Nat → Int32} {E E' : Nat → Bool} {F F' B B' O O' R : Nat → Nat} (h : Rep (l ++ (c, xs) :: (d, ys) :: r) fl us V E F B O R) (hx : xs.length + ys.length ≤ 128)
    (hV : Cp (128 * d) (128 * c + xs.length) ys.length V V') (hE : Cp (128 * d) (128 * c + xs.length) ys.length E E') (f2 : F' c = xs.length + ys.length) (f3 : ∀ j, j ≠ c → F' j = F j) (b2 : B' c = B c + B d) (b3 : ∀ j, j ≠ c → B' j = B j)
    (o0 : ∀ j, j ≤ l.length → O' j = O j) (o2 : ∀ j, l.length + 1 ≤ j → j + 1 < (l ++ (c, xs) :: (d, ys) :: r).length → O' j = O (j + 1)) : Rep (l ++ (c, xs ++ ys) :: r) (fl ++ [d]) us V' E' F' B' O' (upN R fl.length d) := by
  obtain ⟨hC, hO, hR, hN, hU, hL, h6, h1⟩ := h
  obtain ⟨n1, n2, -⟩ := nodup_ne hN
  have hcd : d ≠ c := n2 (d, ys) (by simp)
  obtain ⟨k1, k2, k3, k4⟩ := hC (c, xs) (by simp)
  obtain ⟨j1, j2, j3, j4⟩ := hC (d, ys) (by simp)
  simp only at k1 k2 k3 k4 j1 j2 j3 j4
  have keep : ∀ x : Nat × List Int32, x.1 ≠ c → Ck V E F B x → Ck V' E' F' B' x := fun x q1 hk => Ck_keep hk (f3 _ q1) (b3 _ q1) (fun k hk => hV.2 _ (by omega)) (fun k hk => hE.2 _ (by omega))
  have hids : ids (l ++ (c, xs ++ ys) :: r) = ids l ++ c :: ids r := by rw [ids_app, ids_cons]
  have hids0 : ids (l ++ (c, xs) :: (d, ys) :: r) = ids l ++ c :: d :: ids r := by rw [ids_app, ids_cons, ids_cons]
  have hperm : (ids (l ++ (c, xs ++ ys) :: r) ++ (fl ++ [d])).Perm (ids (l ++ (c, xs) :: (d, ys) :: r) ++ fl) := by
    rw [hids, hids0]
    have e1 : ((ids l ++ c :: ids r) ++ (fl ++ [d])).Perm (d :: ((ids l ++ c :: ids r) ++ fl)) := by
      rw [← List.append_assoc]
      exact List.perm_append_comm
    have e2 : (ids l ++ c :: d :: ids r).Perm (d :: (ids l ++ c :: ids r)) := by
      refine (List.Perm.append_left (ids l) (List.Perm.swap d c (ids r))).trans ?_
      exact List.perm_middle
    exact e1.trans (e2.append_right fl).symm
  refine ⟨fun x hx2 => ?_, ?_, fun i z hi => ?_, hperm.nodup_iff.mpr hN, fun z hz => hU z (hperm.mem_iff.mp hz), ?_, h6, by simp; omega⟩
  · rcases List.mem_append.mp hx2 with hx2 | hx2
    · exact keep x (n1 x hx2) (hC x (List.mem_append_left _ hx2))
    · rcases List.mem_cons.mp hx2 with rfl | hx2
      · refine ⟨by simp only [List.length_append]; exact f2, by simp only [List.count_append]; omega, by simp only [List.length_append]; exact hx, fun k hk => ?_⟩
        simp only [List.length_append] at hk
        simp only
        by_cases q : k < xs.length
        · rw [hV.2 _ (by omega), hE.2 _ (by omega), getD_app_l q]
          exact k4 k q
        · obtain ⟨t, rfl⟩ : ∃ t, k = xs.length + t := ⟨k - xs.length, by omega⟩
          rw [← Nat.add_assoc, hV.1 t (by omega), hE.1 t (by omega), getD_app_r (by omega), show xs.length + t - xs.length = t by omega]
          exact j4 t (by omega)
      · exact keep x (n2 x (List.mem_cons_of_mem _ hx2)) (hC x (List.mem_append_right _ (List.mem_cons_of_mem _ (List.mem_cons_of_mem _ hx2))))
  · rw [hids]
    rw [hids0] at hO
    refine Ord_del hO (fun j hj => o0 j (by rw [ids_len] at hj; exact hj)) (fun j q1 q2 => o2 j (by rw [ids_len] at q1; exact q1) ?_)
    rw [List.length_append, List.length_cons, List.length_cons, ids_len, ids_len] at q2
    rw [List.length_append, List.length_cons, List.length_cons]
    exact q2
  · have hlt := (List.getElem?_eq_some_iff.mp hi).1
    rw [List.length_append, List.length_singleton] at hlt
    by_cases q : i < fl.length
    · rw [upN_n (by omega)]
      rw [List.getElem?_append_left q] at hi
      exact hR i z hi
    · obtain rfl : fl.length = i := by omega
      rw [upN_s]
      simpa using hi
  · rw [List.length_append, List.length_cons, List.length_append, List.length_singleton]
    rw [List.length_append, List.length_cons, List.length_cons] at hL
    omega
theorem flat_join (l r : Chs) (c d : Nat) (xs ys : List Int32) : flat (l ++ (c, xs ++ ys) :: r) = flat (l ++ (c, xs) :: (d, ys) :: r) := by
  rw [flat_app, flat_app, flat_cons, flat_cons, flat_cons]
  simp only
  rw [List.append_assoc]
/-! ===== one value comes in, one goes ===== -/
theorem ins1_getD {xs : List Int32} {rs : Nat} {v : Int32} (h : rs ≤ xs.length) (k : Nat) : (insN xs rs [v]).getD k 0 = if k < rs then xs.getD k 0 else if k = rs then v else xs.getD (k - 1) 0 := by
  unfold insN
  have hl : (xs.take rs).length = rs := by simp; omega
  rw [List.append_assoc]
  by_cases q : k < rs
  · rw [if_pos q, getD_app_l (by rw [hl]; exact q), getD_take q]
  · rw [if_neg q, getD_app_r (by rw [hl]; omega), hl]
    by_cases q2 : k = rs
    · subst q2
      rw [if_pos rfl, Nat.sub_self]
      rfl
    · rw [if_neg q2]
      obtain ⟨t, rfl⟩ : ∃ t, k = rs + 1 + t := ⟨k - rs - 1, by omega⟩
      rw [show rs + 1 + t - rs = t + 1 by omega, show rs + 1 + t - 1 = rs + t by omega]
      show (v :: xs.drop rs).getD (t + 1) 0 = _
      rw [List.getD_cons_succ, getD_drop]
theorem ins1_count (xs : List Int32) (rs : Nat) (v : Int32) : (insN xs rs [v]).count 10 = xs.count 10 + (if v = 10 then 1 else 0) := by
  unfold insN
  have := count_td xs rs
  rw [List.count_append, List.count_append]
  by_cases q : v = 10
  · subst q; simp; omega
  · rw [if_neg q]
    have h0 : ([v] : List Int32).count 10 = 0 := by simp [List.count_eq_zero, q, Ne.symm q]
    omega
theorem Ck_ins {V V' : Nat → Int32} {E E' : Nat → Bool} {F F' B B' : Nat → Nat} {c : Nat} {xs : List Int32} {rs : Nat} {v : Int32} (h : Ck V E F B (c, xs)) (hx : xs.length < 128) (hr : rs ≤ xs.length)
    (h1 : ∀ j, rs ≤ j → j < xs.length → V' (128 * c + j + 1) = V (128 * c + j)) (h2 : ∀ j, j < rs → V' (128 * c + j) = V (128 * c + j)) (h3 : V' (128 * c + rs) = v)
    (e1 : ∀ j, rs ≤ j → j < xs.length → E' (128 * c + j + 1) = E (128 * c + j)) (e2 : ∀ j, j < rs → E' (128 * c + j) = E (128 * c + j)) (e3 : E' (128 * c + rs) = (v == 10))
    (f1 : F' c = xs.length + 1) (b1 : B' c = xs.count 10 + (if v = 10 then 1 else 0)) : Ck V' E' F' B' (c, insN xs rs [v]) := by
  obtain ⟨k1, k2, k3, k4⟩ := h
  simp only at k1 k2 k3 k4
  refine ⟨by simp only; rw [insN_len hr]; exact f1, by simp only; rw [ins1_count]; exact b1, by simp only; rw [insN_len hr]; exact hx, fun k hk => ?_⟩
  simp only at hk ⊢
  rw [insN_len hr] at hk
  have hk : k < xs.length + 1 := hk
  rw [ins1_getD hr]
  by_cases q : k < rs
  · rw [if_pos q, h2 k q, e2 k q]
    exact k4 k (by omega)
  · rw [if_neg q]
    by_cases q2 : k = rs
    · subst q2
      rw [if_pos rfl]
      exact ⟨h3, e3⟩
    · rw [if_neg q2]
      obtain ⟨t, rfl⟩ : ∃ t, k = t + 1 := ⟨k - 1, by omega⟩
      rw [← Nat.add_assoc, h1 t (by omega) (by omega), e1 t (by omega) (by omega), Nat.add_sub_cancel]
      exact k4 t (by omega)
theorem take_pre (a b : List Int32) (k : Nat) : (a ++ b).take (a.length + k) = a ++ b.take k := by
  rw [List.take_append, List.take_of_length_le (Nat.le_add_right _ _), Nat.add_sub_cancel_left]
theorem drop_pre (a b : List Int32) (k : Nat) : (a ++ b).drop (a.length + k) = b.drop k := by
  rw [List.drop_append, List.drop_of_length_le (Nat.le_add_right _ _), Nat.add_sub_cancel_left, List.nil_append]
theorem flat_ins {l r : Chs} {c rs : Nat} {xs : List Int32} {v : Int32} (hr : rs ≤ xs.length) : flat (l ++ (c, insN xs rs [v]) :: r) = insN (flat (l ++ (c, xs) :: r)) ((flat l).length + rs) [v] := by
  rw [flat_app, flat_app, flat_cons, flat_cons]
  simp only
  unfold insN
  rw [take_pre, drop_pre, List.take_append_of_le_length hr, List.drop_append_of_le_length hr]
  simp
theorem del1_getD {xs : List Int32} {rs : Nat} (h : rs < xs.length) (k : Nat) : (delN xs rs 1).getD k 0 = if k < rs then xs.getD k 0 else xs.getD (k + 1) 0 := by
  unfold delN
  have hl : (xs.take rs).length = rs := by simp; omega
  by_cases q : k < rs
  · rw [if_pos q, getD_app_l (by rw [hl]; exact q), getD_take q]
  · rw [if_neg q, getD_app_r (by rw [hl]; omega), hl, getD_drop, show rs + 1 + (k - rs) = k + 1 by omega]
theorem del1_count {xs : List Int32} {rs : Nat} (h : rs < xs.length) : (delN xs rs 1).count 10 + (if xs.getD rs 0 = 10 then 1 else 0) = xs.count 10 := by
  unfold delN
  have h1 := count_td xs rs
  rw [List.count_append]
  have h2 : xs.drop rs = xs.getD rs 0 :: xs.drop (rs + 1) := by
    rw [List.drop_eq_getElem_cons h]
    simp [List.getD_eq_getElem?_getD, List.getElem?_eq_getElem h]
  rw [h2, List.count_cons] at h1
  by_cases q : xs.getD rs 0 = 10
  · rw [if_pos q]
    simp only [q, beq_self_eq_true, if_true] at h1
    omega
  · rw [if_neg q]
    rw [if_neg (by simpa using q)] at h1
    omega
theorem Ck_del {V V' : Nat → Int32} {E E' : Nat → Bool} {F F' B B' : Nat → Nat} {c : Nat} {xs : List Int32} {rs : Nat} (h : Ck V E F B (c, xs)) (hr : rs < xs.length)
    (hV : Dn1 (128 * c) rs (xs.length - 1) V V') (hE : Dn1 (128 * c) rs (xs.length - 1) E E') (f1 : F' c = xs.length - 1) (b1 : B' c = xs.count 10 - (if xs.getD rs 0 = 10 then 1 else 0)) : Ck V' E' F' B' (c, delN xs rs 1) := by
  obtain ⟨k1, k2, k3, k4⟩ := h
  simp only at k1 k2 k3 k4
  have hl := delN_len (txt := xs) (i := rs) (n := 1) (by omega)
  have hc := del1_count hr
  refine ⟨by simp only; rw [hl]; exact f1, by simp only; omega, by simp only; rw [hl]; omega, fun k hk => ?_⟩
  simp only at hk ⊢
  rw [hl] at hk
  rw [del1_getD hr]
  by_cases q : k < rs
  · rw [if_pos q, hV.2 _ (by omega), hE.2 _ (by omega)]
    exact k4 k (by omega)
  · rw [if_neg q, hV.1 k (by omega) (by omega), hE.1 k (by omega) (by omega)]
    exact k4 (k + 1) (by omega)
theorem flat_del {l r : Chs} {c rs : Nat} {xs : List Int32} (hr : rs < xs.length) : flat (l ++ (c, delN xs rs 1) :: r) = delN (flat (l ++ (c, xs) :: r)) ((flat l).length + rs) 1 := by
  rw [flat_app, flat_app, flat_cons, flat_cons]
  simp only
  unfold delN
  rw [take_pre, Nat.add_assoc, drop_pre, List.take_append_of_le_length (by omega), List.drop_append_of_le_length (by omega)]
  simp
end
section
abbrev wT (q : Nat → Nat) (cI cZ : ClassId) (V : Nat → Int32) (E : Nat → Bool) (F B O R : Nat → Nat) (fr us ch ct ln ag rs : Nat) : va_W := [(q 0, .inr (0, [.ref (q 1), .ref (q 2), .ref (q 3), .ref (q 4), .ref (q 5), .ref (q 6), .int (nI fr), .int (nI us), .int (nI ch), .int (nI ct), .int (nI ln), .int (nI ag), .int (nI rs)])), (q 1, .inl (cI, 80384, .inl V)), (q 2, .inl (cZ, 80384, .inl (bF E))), (q 3, .inl (cI, 628, .inl (nF F))), (q 4, .inl (cI, 628, .inl (nF B))), (q 5, .inl (cI, 628, .inl (nF O))), (q 6, .inl (cI, 628, .inl (nF R)))]
theorem Rep_get {cs : Chs} {fl : List Nat} {us : Nat} {V : Nat → Int32} {E : Nat → Bool} {F B O R : Nat → Nat} {ag : Nat} (h : Rep cs fl us V E F B O R) (hp : ag < cs.length) : ∃ (c : Nat) (xs : List Int32), O ag = c ∧ c < 628 ∧ F c = xs.length ∧ xs.length ≤ 128 ∧ pl cs (ag + 1) = pl cs ag + xs.length := by
  obtain ⟨l, c, xs, r, rfl, rfl⟩ := ex_at hp
  obtain ⟨h1, h2, h3, -, h5, -⟩ := Rep_at h
  exact ⟨c, xs, h1, h2, h3, h5, by rw [pl_at, pl_at1]⟩
set_option maxHeartbeats 4000000 in
set_option maxRecDepth 100000 in
/-- seek: the chunk and the place in it -/
theorem c_LT_seek (l : Launch) (D : va_G) (cI cZ cL : ClassId) (q : Nat → Nat) (V : Nat → Int32) (E : Nat → Bool) (F B O R : Nat → Nat) (fr us ct ln ag0 rs0 : Nat) (fl : List Nat) (cs : Chs) (hR : Rep cs fl us V E F B O R) (i : Nat) (b : Bool) (hi : i ≤ 20000) : CV l y_LT_seek hd_LT_seek rmz D (TY cI cZ cL) [.ref (q 0), .int (nI i), .int (bI b)] (wT q cI cZ V E F B O R fr us cs.length ct ln ag0 rs0) (fun u : Nat × Nat => Sk cs i b u.1 u.2) (fun u => wT q cI cZ V E F B O R fr us cs.length ct ln u.1 u.2) := by
  refine CV.mk (by decide +kernel) (Nat.le_of_ble_eq_true rfl) ?_
  intro p e s m below meth c A ls C hin hA hP hD hl
  obtain ⟨hx, hb, hml, hown, hB, hlk, hr, htb, hK, hX⟩ := id C
  have hS : va_S A s.heap s.heap [] := va_S.rf
  have hl : lv_has ls 3 [(0, .ref (q 0)), (1, .int (nI i)), (2, .int (bI b))] := hl
  obtain ⟨hl1, hl2, hl3, hl4⟩ := Rep_len hR
  have loop : ∀ (g ag rs : Nat) (H : Heap) (locs : List Loc), ag < cs.length → cs.length ≤ ag + g → pl cs ag + rs = i → Pass cs i b ag → va_P D classes (wT q cI cZ V E F B O R fr us cs.length ct ln ag rs) H → va_D A (wT q cI cZ V E F B O R fr us cs.length ct ln ag rs) → va_S A s.heap H locs → W p l e rmz s m ([.ref (q 0), .int (nI i), .int (bI b)] : List Value).toArray below meth c H locs 0 0 (MQ below (QCv D (TY cI cZ cL) (fun u : Nat × Nat => Sk cs i b u.1 u.2) (fun u => wT q cI cZ V E F B O R fr us cs.length ct ln u.1 u.2) A) ([.ref (q 0), .int (nI i), .int (bI b)] : List Value).toArray s rmz.cells rmz.slots A) (F0 m 10 ls []) := by
    intro g
    induction g with
    | zero => intro ag rs H locs h1 h2; exact absurd h2 (by omega)
    | succ g ih =>
      intro ag rs H locs h1 h2 h3 h4 hP hD hS
      refine lv_aload_n hx hb d_LT_seek_10 rfl (lv_at hl 0 rfl) ?_
      refine g_LT hx hb hB hown hK hP 0 rfl 11 (by decide) k_37 rfl d_LT_seek_11 ?_
      refine lv_aload_n hx hb d_LT_seek_14 rfl (lv_at hl 0 rfl) ?_
      refine g_LT hx hb hB hown hK hP 0 rfl 8 (by decide) k_32 rfl d_LT_seek_15 ?_
      refine lv_iconst (v := nI 1) hx hb d_LT_seek_18 (by decide) ?_
      refine ln_isub hx hb d_LT_seek_19 (by omega) ?_
      refine ln_icmp_ge (tgt := 105) hx hb d_LT_seek_20 (by decide) (by omega) (by omega) (fun hc => ?_) (fun hc => ?_)
      · skip
        exact e_Cv C hS ((ag, rs)) (⟨h1, h3, Or.inl (by omega), h4⟩) hP hD (by decide) (by decide) d_LT_seek_105
      · skip
        obtain ⟨c1, xs, hO, hc6, hF, hxs, hpl⟩ := Rep_get hR h1
        have go : xs.length ≤ rs → (if b = true then pl cs (ag + 1) < i else pl cs (ag + 1) ≤ i) → W p l e rmz s m ([.ref (q 0), .int (nI i), .int (bI b)] : List Value).toArray below meth c H locs 0 0 (MQ below (QCv D (TY cI cZ cL) (fun u : Nat × Nat => Sk cs i b u.1 u.2) (fun u => wT q cI cZ V E F B O R fr us cs.length ct ln u.1 u.2) A) ([.ref (q 0), .int (nI i), .int (bI b)] : List Value).toArray s rmz.cells rmz.slots A) (F0 m 69 ls []) := by
          intro hge hps
          refine lv_aload_n hx hb d_LT_seek_69 rfl (lv_at hl 0 rfl) ?_
          refine lv_dup hx hb d_LT_seek_70 rfl ?_
          refine g_LT hx hb hB hown hK hP 0 rfl 12 (by decide) k_38 rfl d_LT_seek_71 ?_
          refine lv_aload_n hx hb d_LT_seek_74 rfl (lv_at hl 0 rfl) ?_
          refine g_LT hx hb hB hown hK hP 0 rfl 2 (by decide) k_26 rfl d_LT_seek_75 ?_
          refine lv_aload_n hx hb d_LT_seek_78 rfl (lv_at hl 0 rfl) ?_
          refine g_LT hx hb hB hown hK hP 0 rfl 4 (by decide) k_28 rfl d_LT_seek_79 ?_
          refine lv_aload_n hx hb d_LT_seek_82 rfl (lv_at hl 0 rfl) ?_
          refine g_LT hx hb hB hown hK hP 0 rfl 11 (by decide) k_37 rfl d_LT_seek_83 ?_
          refine ln_iald hx hb hK hP 5 0 rfl rfl (by omega) (by omega) d_LT_seek_86 ?_
          refine ln_eqn (b := c1) (hO) ?_
          refine ln_iald hx hb hK hP 3 0 rfl rfl (by omega) (by omega) d_LT_seek_87 ?_
          refine ln_eqn (b := xs.length) (hF) ?_
          refine ln_isub hx hb d_LT_seek_88 (by omega) ?_
          refine p_LT hx hb hB hown hK hP hD hS 0 rfl 12 (by decide) k_38 rfl rfl (Nat.le_of_ble_eq_true rfl) d_LT_seek_89 (fun H locs hP hD hS => ?_)
          have hP : va_P D classes (wT q cI cZ V E F B O R fr us cs.length ct ln ag (rs - xs.length)) H := hP
          have hD : va_D A (wT q cI cZ V E F B O R fr us cs.length ct ln ag (rs - xs.length)) := hD
          refine lv_aload_n hx hb d_LT_seek_92 rfl (lv_at hl 0 rfl) ?_
          refine lv_dup hx hb d_LT_seek_93 rfl ?_
          refine g_LT hx hb hB hown hK hP 0 rfl 11 (by decide) k_37 rfl d_LT_seek_94 ?_
          refine lv_iconst (v := nI 1) hx hb d_LT_seek_97 (by decide) ?_
          refine ln_iadd hx hb d_LT_seek_98 ?_
          refine p_LT hx hb hB hown hK hP hD hS 0 rfl 11 (by decide) k_37 rfl rfl (Nat.le_of_ble_eq_true rfl) d_LT_seek_99 (fun H locs hP hD hS => ?_)
          have hP : va_P D classes (wT q cI cZ V E F B O R fr us cs.length ct ln (ag + 1) (rs - xs.length)) H := hP
          have hD : va_D A (wT q cI cZ V E F B O R fr us cs.length ct ln (ag + 1) (rs - xs.length)) := hD
          refine lv_goto (tgt := 10) hx hb d_LT_seek_102 (by decide) ?_
          exact ih (ag + 1) (rs - xs.length) H locs (by omega) (by omega) (by omega) (Pass_s h4 hps) hP hD hS
        refine lv_aload_n hx hb d_LT_seek_23 rfl (lv_at hl 0 rfl) ?_
        refine g_LT hx hb hB hown hK hP 0 rfl 12 (by decide) k_38 rfl d_LT_seek_24 ?_
        refine lv_aload_n hx hb d_LT_seek_27 rfl (lv_at hl 0 rfl) ?_
        refine g_LT hx hb hB hown hK hP 0 rfl 2 (by decide) k_26 rfl d_LT_seek_28 ?_
        refine lv_aload_n hx hb d_LT_seek_31 rfl (lv_at hl 0 rfl) ?_
        refine g_LT hx hb hB hown hK hP 0 rfl 4 (by decide) k_28 rfl d_LT_seek_32 ?_
        refine lv_aload_n hx hb d_LT_seek_35 rfl (lv_at hl 0 rfl) ?_
        refine g_LT hx hb hB hown hK hP 0 rfl 11 (by decide) k_37 rfl d_LT_seek_36 ?_
        refine ln_iald hx hb hK hP 5 0 rfl rfl (by omega) (by omega) d_LT_seek_39 ?_
        refine ln_eqn (b := c1) (hO) ?_
        refine ln_iald hx hb hK hP 3 0 rfl rfl (by omega) (by omega) d_LT_seek_40 ?_
        refine ln_eqn (b := xs.length) (hF) ?_
        refine ln_icmp_gt (tgt := 69) hx hb d_LT_seek_41 (by decide) (by omega) (by omega) (fun hc2 => ?_) (fun hc2 => ?_)
        · skip
          exact go (by omega) (by by_cases hb2 : b = true <;> simp only [hb2, if_true] <;> (try simp only [Bool.false_eq_true, if_false]) <;> omega)
        · skip
          refine lv_aload_n hx hb d_LT_seek_44 rfl (lv_at hl 0 rfl) ?_
          refine g_LT hx hb hB hown hK hP 0 rfl 12 (by decide) k_38 rfl d_LT_seek_45 ?_
          refine lv_aload_n hx hb d_LT_seek_48 rfl (lv_at hl 0 rfl) ?_
          refine g_LT hx hb hB hown hK hP 0 rfl 2 (by decide) k_26 rfl d_LT_seek_49 ?_
          refine lv_aload_n hx hb d_LT_seek_52 rfl (lv_at hl 0 rfl) ?_
          refine g_LT hx hb hB hown hK hP 0 rfl 4 (by decide) k_28 rfl d_LT_seek_53 ?_
          refine lv_aload_n hx hb d_LT_seek_56 rfl (lv_at hl 0 rfl) ?_
          refine g_LT hx hb hB hown hK hP 0 rfl 11 (by decide) k_37 rfl d_LT_seek_57 ?_
          refine ln_iald hx hb hK hP 5 0 rfl rfl (by omega) (by omega) d_LT_seek_60 ?_
          refine ln_eqn (b := c1) (hO) ?_
          refine ln_iald hx hb hK hP 3 0 rfl rfl (by omega) (by omega) d_LT_seek_61 ?_
          refine ln_eqn (b := xs.length) (hF) ?_
          refine ln_icmp_ne (tgt := 105) hx hb d_LT_seek_62 (by decide) (by omega) (by omega) (fun hc3 => ?_) (fun hc3 => ?_)
          · skip
            exact e_Cv C hS ((ag, rs)) (⟨h1, h3, Or.inr (by by_cases hb2 : b = true <;> simp only [hb2, if_true] <;> (try simp only [Bool.false_eq_true, if_false]) <;> omega), h4⟩) hP hD (by decide) (by decide) d_LT_seek_105
          · skip
            refine lv_iload_n hx hb d_LT_seek_65 rfl (lv_at hl 2 rfl) ?_
            refine ln_if_ne (tgt := 105) hx hb d_LT_seek_66 (by decide) (fun hc4 => ?_) (fun hc4 => ?_)
            · skip
              subst hc4
              exact e_Cv C hS ((ag, rs)) (⟨h1, h3, Or.inr (by simp only [if_true]; omega), h4⟩) hP hD (by decide) (by decide) d_LT_seek_105
            · skip
              subst hc4
              exact go (by omega) (by simp only [Bool.false_eq_true, if_false]; omega)
  refine lv_aload_n hx hb d_LT_seek_0 rfl (lv_at hl 0 rfl) ?_
  refine lv_iconst (v := nI 0) hx hb d_LT_seek_1 (by decide) ?_
  refine p_LT hx hb hB hown hK hP hD hS 0 rfl 11 (by decide) k_37 rfl rfl (Nat.le_of_ble_eq_true rfl) d_LT_seek_2 (fun H locs hP hD hS => ?_)
  have hP : va_P D classes (wT q cI cZ V E F B O R fr us cs.length ct ln 0 rs0) H := hP
  have hD : va_D A (wT q cI cZ V E F B O R fr us cs.length ct ln 0 rs0) := hD
  refine lv_aload_n hx hb d_LT_seek_5 rfl (lv_at hl 0 rfl) ?_
  refine lv_iload_n hx hb d_LT_seek_6 rfl (lv_at hl 1 rfl) ?_
  refine p_LT hx hb hB hown hK hP hD hS 0 rfl 12 (by decide) k_38 rfl rfl (Nat.le_of_ble_eq_true rfl) d_LT_seek_7 (fun H locs hP hD hS => ?_)
  have hP : va_P D classes (wT q cI cZ V E F B O R fr us cs.length ct ln 0 i) H := hP
  have hD : va_D A (wT q cI cZ V E F B O R fr us cs.length ct ln 0 i) := hD
  exact loop cs.length 0 i H locs (by omega) (by omega) (by rw [pl_0]; omega) (Pass_0 cs i b) hP hD hS
set_option maxHeartbeats 4000000 in
set_option maxRecDepth 100000 in
/-- isLittle -/
theorem c_LT_isLittle (l : Launch) (D : va_G) (cI cZ cL : ClassId) (q : Nat → Nat) (V : Nat → Int32) (E : Nat → Bool) (F B O R : Nat → Nat) (fr us ch ct ln ag rs : Nat) (fl : List Nat) (lo ro : Chs) (c1 d1 : Nat) (xs ys : List Int32) (hR : Rep (lo ++ (c1, xs) :: (d1, ys) :: ro) fl us V E F B O R) : RI l y_LT_isLittle hd_LT_isLittle rmz D (TY cI cZ cL) [.ref (q 0), .int (nI lo.length)] (wT q cI cZ V E F B O R fr us ch ct ln ag rs) (fun z => z = bI (decide (xs.length + ys.length ≤ 64))) := by
  refine RI.mk (by decide +kernel) (Nat.le_of_ble_eq_true rfl) ?_
  intro p e s m below meth c ls C hP hl
  obtain ⟨hx, hb, hml, hown, hB, hlk, hr, htb, hK, hX⟩ := id C
  have hA := Aok_new s
  have hS : va_S (fun q => s.heap.size ≤ q) s.heap s.heap [] := va_S.rf
  have hl : lv_has ls 2 [(0, .ref (q 0)), (1, .int (nI lo.length))] := hl
  obtain ⟨o1, o2, o3, o4, o5, o6, o7⟩ := Rep_at hR
  have hR2 : Rep ((lo ++ [(c1, xs)]) ++ (d1, ys) :: ro) fl us V E F B O R := by simpa using hR
  obtain ⟨p1, p2, p3, p4, p5, p6, p7⟩ := Rep_at hR2
  rw [List.length_append, List.length_singleton] at p1
  have hlen := (Rep_len hR).2.1
  rw [List.length_append, List.length_cons, List.length_cons] at hlen
  refine lv_aload_n hx hb d_LT_isLittle_0 rfl (lv_at hl 0 rfl) ?_
  refine g_LT hx hb hB hown hK hP 0 rfl 2 (by decide) k_26 rfl d_LT_isLittle_1 ?_
  refine lv_aload_n hx hb d_LT_isLittle_4 rfl (lv_at hl 0 rfl) ?_
  refine g_LT hx hb hB hown hK hP 0 rfl 4 (by decide) k_28 rfl d_LT_isLittle_5 ?_
  refine lv_iload_n hx hb d_LT_isLittle_8 rfl (lv_at hl 1 rfl) ?_
  refine ln_iald hx hb hK hP 5 0 rfl rfl (by omega) (by omega) d_LT_isLittle_9 ?_
  refine ln_eqn (b := c1) (o1) ?_
  refine ln_iald hx hb hK hP 3 0 rfl rfl (by omega) (by omega) d_LT_isLittle_10 ?_
  refine ln_eqn (b := xs.length) (o3) ?_
  refine lv_aload_n hx hb d_LT_isLittle_11 rfl (lv_at hl 0 rfl) ?_
  refine g_LT hx hb hB hown hK hP 0 rfl 2 (by decide) k_26 rfl d_LT_isLittle_12 ?_
  refine lv_aload_n hx hb d_LT_isLittle_15 rfl (lv_at hl 0 rfl) ?_
  refine g_LT hx hb hB hown hK hP 0 rfl 4 (by decide) k_28 rfl d_LT_isLittle_16 ?_
  refine lv_iload_n hx hb d_LT_isLittle_19 rfl (lv_at hl 1 rfl) ?_
  refine lv_iconst (v := nI 1) hx hb d_LT_isLittle_20 (by decide) ?_
  refine ln_iadd hx hb d_LT_isLittle_21 ?_
  refine ln_iald hx hb hK hP 5 0 rfl rfl (by omega) (by omega) d_LT_isLittle_22 ?_
  refine ln_eqn (b := d1) (p1) ?_
  refine ln_iald hx hb hK hP 3 0 rfl rfl (by omega) (by omega) d_LT_isLittle_23 ?_
  refine ln_eqn (b := ys.length) (p3) ?_
  refine ln_iadd hx hb d_LT_isLittle_24 ?_
  refine lv_bipush (v := nI 64) hx hb d_LT_isLittle_25 (by decide) ?_
  refine ln_icmp_gt (tgt := 34) hx hb d_LT_isLittle_27 (by decide) (by omega) (by omega) (fun hc => ?_) (fun hc => ?_)
  · skip
    refine lv_iconst (v := nI 0) hx hb d_LT_isLittle_34 (by decide) ?_
    refine lv_eqi (y := bI (decide (xs.length + ys.length ≤ 64))) (by rw [decide_eq_false (by omega)]; rfl) ?_
    exact e_Rz C rfl d_LT_isLittle_35
  · skip
    refine lv_iconst (v := nI 1) hx hb d_LT_isLittle_30 (by decide) ?_
    refine lv_goto (tgt := 35) hx hb d_LT_isLittle_31 (by decide) ?_
    refine lv_eqi (y := bI (decide (xs.length + ys.length ≤ 64))) (by rw [decide_eq_true (by omega)]; rfl) ?_
    exact e_Rz C rfl d_LT_isLittle_35
end
section
theorem snoc_of {fl : List Nat} (h : 0 < fl.length) : ∃ (f : List Nat) (d : Nat), fl = f ++ [d] := by
  have hne : fl ≠ [] := fun q => by rw [q] at h; exact absurd h (by simp)
  exact ⟨fl.dropLast, fl.getLast hne, (List.dropLast_concat_getLast hne).symm⟩
def UpO (n kk : Nat) (O O1 : Nat → Nat) : Prop := (∀ j, kk ≤ j → j < n → O1 (j + 1) = O j) ∧ ∀ j, j ≤ kk → O1 j = O j
theorem UpO_0 {n : Nat} {O : Nat → Nat} : UpO n n O O := ⟨fun j h1 h2 => absurd h1 (by omega), fun _ _ => rfl⟩
theorem UpO_s {n kk : Nat} {O O1 : Nat → Nat} (h : UpO n (kk + 1) O O1) : UpO n kk O (upN O1 (kk + 1) (O1 kk)) := by
  refine ⟨fun j q1 q2 => ?_, fun j q1 => ?_⟩
  · by_cases q : j = kk
    · subst q; rw [upN_s]; exact h.2 _ (by omega)
    · rw [upN_n (by omega)]; exact h.1 j (by omega) q2
  · rw [upN_n (by omega)]; exact h.2 j (by omega)
theorem cnt_all {xs : List Int32} {k : Nat} (h : xs.length ≤ k) : cnt xs k = xs.count 10 := by unfold cnt; rw [List.take_of_length_le h]
set_option maxHeartbeats 4000000 in
set_option maxRecDepth 100000 in
/-- split: the second half of a full chunk goes into a new one -/
theorem c_LT_split (l : Launch) (D : va_G) (cI cZ cL : ClassId) (q : Nat → Nat) (V : Nat → Int32) (E : Nat → Bool) (F B O R : Nat → Nat) (fr us ch ct ln ag rs : Nat) (fl : List Nat) (lo ro : Chs) (c1 : Nat) (xs : List Int32) (hR : Rep (lo ++ (c1, xs) :: ro) fl us V E F B O R) (hfr : fr = fl.length) (hch : ch = (lo ++ (c1, xs) :: ro).length) (hxs : xs.length = 128) (hc6 : ch ≤ 626) : CV l y_LT_split hd_LT_split rmz D (TY cI cZ cL) [.ref (q 0), .int (nI lo.length)] (wT q cI cZ V E F B O R fr us ch ct ln ag rs) (fun u : Nat × List Nat × Nat × (Nat → Int32) × (Nat → Bool) × (Nat → Nat) × (Nat → Nat) × (Nat → Nat) => Rep (lo ++ (c1, xs.take 64) :: (u.1, xs.drop 64) :: ro) u.2.1 u.2.2.1 u.2.2.2.1 u.2.2.2.2.1 u.2.2.2.2.2.1 u.2.2.2.2.2.2.1 u.2.2.2.2.2.2.2 R) (fun u => wT q cI cZ u.2.2.2.1 u.2.2.2.2.1 u.2.2.2.2.2.1 u.2.2.2.2.2.2.1 u.2.2.2.2.2.2.2 R (u.2.1).length u.2.2.1 (ch + 1) ct ln ag rs) := by
  refine CV.mk (by decide +kernel) (Nat.le_of_ble_eq_true rfl) ?_
  intro p e s m below meth c A ls C hin hA hP hD hl
  obtain ⟨hx, hb, hml, hown, hB, hlk, hr, htb, hK, hX⟩ := id C
  have hS : va_S A s.heap s.heap [] := va_S.rf
  have hl : lv_has ls 5 [(0, .ref (q 0)), (1, .int (nI lo.length))] := hl
  obtain ⟨o1, o2, o3, o4, o5, o6, o7⟩ := Rep_at hR
  have hch2 : ch = lo.length + ro.length + 1 := by rw [hch, List.length_append, List.length_cons]; omega
  have hlen := Rep_len hR
  have tail : ∀ (d1 : Nat) (fl' : List Nat) (us' : Nat) (H : Heap) (locs : List Loc) (ls : Array Slot), Fresh (lo ++ (c1, xs) :: ro) fl' us' d1 R → va_P D classes (wT q cI cZ V E F B O R fl'.length us' ch ct ln ag rs) H → va_D A (wT q cI cZ V E F B O R fl'.length us' ch ct ln ag rs) → va_S A s.heap H locs → lv_has ls 5 [(3, .int (nI d1)), (2, .int (nI c1)), (0, .ref (q 0)), (1, .int (nI lo.length))] → W p l e rmz s m ([.ref (q 0), .int (nI lo.length)] : List Value).toArray below meth c H locs 0 0 (MQ below (QCv D (TY cI cZ cL) (fun u : Nat × List Nat × Nat × (Nat → Int32) × (Nat → Bool) × (Nat → Nat) × (Nat → Nat) × (Nat → Nat) => Rep (lo ++ (c1, xs.take 64) :: (u.1, xs.drop 64) :: ro) u.2.1 u.2.2.1 u.2.2.2.1 u.2.2.2.2.1 u.2.2.2.2.2.1 u.2.2.2.2.2.2.1 u.2.2.2.2.2.2.2 R) (fun u => wT q cI cZ u.2.2.2.1 u.2.2.2.2.1 u.2.2.2.2.2.1 u.2.2.2.2.2.2.1 u.2.2.2.2.2.2.2 R (u.2.1).length u.2.2.1 (ch + 1) ct ln ag rs) A) ([.ref (q 0), .int (nI lo.length)] : List Value).toArray s rmz.cells rmz.slots A) (F0 m 52 ls []) := by
    intro d1 fl' us' H locs ls hFr hP hD hS hl
    have hcd : c1 ≠ d1 := Fresh_ne hFr (c1, xs) (by simp)
    have hd6 : d1 < 628 := Nat.lt_of_lt_of_le hFr.2.2.2.1 hFr.2.2.2.2.2.1
    have loop2 : ∀ (V1 : Nat → Int32) (E1 : Nat → Bool) (F2 B2 : Nat → Nat), (∀ O3 : Nat → Nat, (∀ j, j ≤ lo.length → O3 j = O j) → O3 (lo.length + 1) = d1 → (∀ j, lo.length + 1 ≤ j → j < (lo ++ (c1, xs) :: ro).length → O3 (j + 1) = O j) → Rep (lo ++ (c1, xs.take 64) :: (d1, xs.drop 64) :: ro) fl' us' V1 E1 F2 B2 O3 R) → ∀ (kk : Nat) (O1 : Nat → Nat) (H : Heap) (locs : List Loc) (ls : Array Slot), lo.length + 1 ≤ kk → kk ≤ ch → UpO ch kk O O1 → va_P D classes (wT q cI cZ V1 E1 F2 B2 O1 R fl'.length us' ch ct ln ag rs) H → va_D A (wT q cI cZ V1 E1 F2 B2 O1 R fl'.length us' ch ct ln ag rs) → va_S A s.heap H locs → lv_has ls 5 [(4, .int (nI kk)), (3, .int (nI d1)), (2, .int (nI c1)), (0, .ref (q 0)), (1, .int (nI lo.length))] → W p l e rmz s m ([.ref (q 0), .int (nI lo.length)] : List Value).toArray below meth c H locs 0 0 (MQ below (QCv D (TY cI cZ cL) (fun u : Nat × List Nat × Nat × (Nat → Int32) × (Nat → Bool) × (Nat → Nat) × (Nat → Nat) × (Nat → Nat) => Rep (lo ++ (c1, xs.take 64) :: (u.1, xs.drop 64) :: ro) u.2.1 u.2.2.1 u.2.2.2.1 u.2.2.2.2.1 u.2.2.2.2.2.1 u.2.2.2.2.2.2.1 u.2.2.2.2.2.2.2 R) (fun u => wT q cI cZ u.2.2.2.1 u.2.2.2.2.1 u.2.2.2.2.2.1 u.2.2.2.2.2.2.1 u.2.2.2.2.2.2.2 R (u.2.1).length u.2.2.1 (ch + 1) ct ln ag rs) A) ([.ref (q 0), .int (nI lo.length)] : List Value).toArray s rmz.cells rmz.slots A) (F0 m 209 ls []) := by
      intro V1 E1 F2 B2 hfin kk
      induction kk with
      | zero => intro O1 H locs ls h1; exact absurd h1 (by omega)
      | succ kk ih =>
        intro O1 H locs ls h1 h2 hU hP hD hS hl
        refine lv_iload hx hb d_LT_split_209 (lv_at hl 0 rfl) ?_
        refine lv_iload_n hx hb d_LT_split_211 rfl (lv_at hl 4 rfl) ?_
        refine lv_iconst (v := nI 1) hx hb d_LT_split_212 (by decide) ?_
        refine ln_iadd hx hb d_LT_split_213 ?_
        refine ln_icmp_le (tgt := 239) hx hb d_LT_split_214 (by decide) (by omega) (by omega) (fun hc => ?_) (fun hc => ?_)
        · skip
          have hk : kk = lo.length := by omega
          subst hk
          refine lv_aload_n hx hb d_LT_split_239 rfl (lv_at hl 3 rfl) ?_
          refine g_LT hx hb hB hown hK hP 0 rfl 4 (by decide) k_28 rfl d_LT_split_240 ?_
          refine lv_iload_n hx hb d_LT_split_243 rfl (lv_at hl 4 rfl) ?_
          refine lv_iconst (v := nI 1) hx hb d_LT_split_244 (by decide) ?_
          refine ln_iadd hx hb d_LT_split_245 ?_
          refine lv_iload_n hx hb d_LT_split_246 rfl (lv_at hl 1 rfl) ?_
          refine ln_iast hx hb hK hP hD hS 5 0 rfl rfl (by omega) (by omega) d_LT_split_247 (fun H locs hP hD hS => ?_)
          have hP : va_P D classes (wT q cI cZ V1 E1 F2 B2 (upN O1 (lo.length + 1) d1) R fl'.length us' ch ct ln ag rs) H := hP
          have hD : va_D A (wT q cI cZ V1 E1 F2 B2 (upN O1 (lo.length + 1) d1) R fl'.length us' ch ct ln ag rs) := hD
          refine lv_aload_n hx hb d_LT_split_248 rfl (lv_at hl 3 rfl) ?_
          refine lv_dup hx hb d_LT_split_249 rfl ?_
          refine g_LT hx hb hB hown hK hP 0 rfl 8 (by decide) k_32 rfl d_LT_split_250 ?_
          refine lv_iconst (v := nI 1) hx hb d_LT_split_253 (by decide) ?_
          refine ln_iadd hx hb d_LT_split_254 ?_
          refine p_LT hx hb hB hown hK hP hD hS 0 rfl 8 (by decide) k_32 rfl rfl (Nat.le_of_ble_eq_true rfl) d_LT_split_255 (fun H locs hP hD hS => ?_)
          have hP : va_P D classes (wT q cI cZ V1 E1 F2 B2 (upN O1 (lo.length + 1) d1) R fl'.length us' (ch + 1) ct ln ag rs) H := hP
          have hD : va_D A (wT q cI cZ V1 E1 F2 B2 (upN O1 (lo.length + 1) d1) R fl'.length us' (ch + 1) ct ln ag rs) := hD
          exact e_Cv C hS ((d1, fl', us', V1, E1, F2, B2, upN O1 (lo.length + 1) d1)) (hfin (upN O1 (lo.length + 1) d1) (fun j hj => by rw [upN_n (by omega)]; exact hU.2 j (by omega)) upN_s (fun j q1 q2 => by rw [upN_n (by omega)]; exact hU.1 j (by omega) (by omega))) hP hD (by decide) (by decide) d_LT_split_258
        · skip
          refine lv_aload_n hx hb d_LT_split_217 rfl (lv_at hl 3 rfl) ?_
          refine g_LT hx hb hB hown hK hP 0 rfl 4 (by decide) k_28 rfl d_LT_split_218 ?_
          refine lv_iload hx hb d_LT_split_221 (lv_at hl 0 rfl) ?_
          refine lv_aload_n hx hb d_LT_split_223 rfl (lv_at hl 3 rfl) ?_
          refine g_LT hx hb hB hown hK hP 0 rfl 4 (by decide) k_28 rfl d_LT_split_224 ?_
          refine lv_iload hx hb d_LT_split_227 (lv_at hl 0 rfl) ?_
          refine lv_iconst (v := nI 1) hx hb d_LT_split_229 (by decide) ?_
          refine ln_isub hx hb d_LT_split_230 (by omega) ?_
          refine ln_eqn (b := kk) (by omega) ?_
          refine ln_iald hx hb hK hP 5 0 rfl rfl (by omega) (by omega) d_LT_split_231 ?_
          refine ln_iast hx hb hK hP hD hS 5 0 rfl rfl (by omega) (by omega) d_LT_split_232 (fun H locs hP hD hS => ?_)
          have hP : va_P D classes (wT q cI cZ V1 E1 F2 B2 (upN O1 (kk + 1) (O1 kk)) R fl'.length us' ch ct ln ag rs) H := hP
          have hD : va_D A (wT q cI cZ V1 E1 F2 B2 (upN O1 (kk + 1) (O1 kk)) R fl'.length us' ch ct ln ag rs) := hD
          refine lv_iinc (v := (nI (kk + 1 - 1))) (lv' := [(4, .int (nI (kk + 1 - 1))), (3, .int (nI d1)), (2, .int (nI c1)), (0, .ref (q 0)), (1, .int (nI lo.length))]) hx hb d_LT_split_233 hl (k := 0) rfl (ln_m1 (by omega)) (by decide) rfl (fun ls hl => ?_)
          refine lv_goto (tgt := 209) hx hb d_LT_split_236 (by decide) ?_
          exact ih _ H locs ls (by omega) (by omega) (UpO_s hU) hP hD hS (lv_sub hl [0, 1, 2, 3, 4] rfl)
    have loop : ∀ (g t : Nat) (V1 : Nat → Int32) (E1 : Nat → Bool) (F1 B1 : Nat → Nat) (H : Heap) (locs : List Loc) (ls : Array Slot), t ≤ 64 → 65 ≤ t + g → Cp (128 * c1 + 64) (128 * d1) t V V1 → Cp (128 * c1 + 64) (128 * d1) t E E1 → F1 d1 = t → (∀ j, j ≠ d1 → F1 j = F j) → B1 d1 = cnt (xs.drop 64) t → (∀ j, j ≠ d1 → B1 j = B j) → va_P D classes (wT q cI cZ V1 E1 F1 B1 O R fl'.length us' ch ct ln ag rs) H → va_D A (wT q cI cZ V1 E1 F1 B1 O R fl'.length us' ch ct ln ag rs) → va_S A s.heap H locs → lv_has ls 5 [(4, .int (nI (64 + t))), (3, .int (nI d1)), (2, .int (nI c1)), (0, .ref (q 0)), (1, .int (nI lo.length))] → W p l e rmz s m ([.ref (q 0), .int (nI lo.length)] : List Value).toArray below meth c H locs 0 0 (MQ below (QCv D (TY cI cZ cL) (fun u : Nat × List Nat × Nat × (Nat → Int32) × (Nat → Bool) × (Nat → Nat) × (Nat → Nat) × (Nat → Nat) => Rep (lo ++ (c1, xs.take 64) :: (u.1, xs.drop 64) :: ro) u.2.1 u.2.2.1 u.2.2.2.1 u.2.2.2.2.1 u.2.2.2.2.2.1 u.2.2.2.2.2.2.1 u.2.2.2.2.2.2.2 R) (fun u => wT q cI cZ u.2.2.2.1 u.2.2.2.2.1 u.2.2.2.2.2.1 u.2.2.2.2.2.2.1 u.2.2.2.2.2.2.2 R (u.2.1).length u.2.2.1 (ch + 1) ct ln ag rs) A) ([.ref (q 0), .int (nI lo.length)] : List Value).toArray s rmz.cells rmz.slots A) (F0 m 70 ls []) := by
      intro g
      induction g with
      | zero => intro t V1 E1 F1 B1 H locs ls h1 h2; exact absurd h2 (by omega)
      | succ g ih =>
        intro t V1 E1 F1 B1 H locs ls h1 h2 hV hE hF1 hF2 hB1 hB2 hP hD hS hl
        refine lv_iload hx hb d_LT_split_70 (lv_at hl 0 rfl) ?_
        refine lv_sipush (v := nI 128) hx hb d_LT_split_72 (by decide) ?_
        refine ln_icmp_ge (tgt := 180) hx hb d_LT_split_75 (by decide) (by omega) (by omega) (fun hc => ?_) (fun hc => ?_)
        · skip
          obtain rfl : t = 64 := by omega
          have hc64 : cnt (xs.drop 64) 64 = (xs.drop 64).count 10 := cnt_all (by simp; omega)
          have htd := count_td xs 64
          have hBc := hB2 c1 hcd
          have hFc := hF2 c1 hcd
          refine lv_aload_n hx hb d_LT_split_180 rfl (lv_at hl 3 rfl) ?_
          refine g_LT hx hb hB hown hK hP 0 rfl 2 (by decide) k_26 rfl d_LT_split_181 ?_
          refine lv_iload_n hx hb d_LT_split_184 rfl (lv_at hl 2 rfl) ?_
          refine lv_bipush (v := nI 64) hx hb d_LT_split_185 (by decide) ?_
          refine ln_iast hx hb hK hP hD hS 3 0 rfl rfl (by omega) (by omega) d_LT_split_187 (fun H locs hP hD hS => ?_)
          have hP : va_P D classes (wT q cI cZ V1 E1 (upN F1 c1 64) B1 O R fl'.length us' ch ct ln ag rs) H := hP
          have hD : va_D A (wT q cI cZ V1 E1 (upN F1 c1 64) B1 O R fl'.length us' ch ct ln ag rs) := hD
          refine lv_aload_n hx hb d_LT_split_188 rfl (lv_at hl 3 rfl) ?_
          refine g_LT hx hb hB hown hK hP 0 rfl 3 (by decide) k_27 rfl d_LT_split_189 ?_
          refine lv_iload_n hx hb d_LT_split_192 rfl (lv_at hl 2 rfl) ?_
          refine lv_dup2_11 hx hb d_LT_split_193 rfl rfl ?_
          refine ln_iald hx hb hK hP 4 0 rfl rfl (by omega) (by omega) d_LT_split_194 ?_
          refine lv_aload_n hx hb d_LT_split_195 rfl (lv_at hl 3 rfl) ?_
          refine g_LT hx hb hB hown hK hP 0 rfl 3 (by decide) k_27 rfl d_LT_split_196 ?_
          refine lv_iload_n hx hb d_LT_split_199 rfl (lv_at hl 1 rfl) ?_
          refine ln_iald hx hb hK hP 4 0 rfl rfl (by omega) (by omega) d_LT_split_200 ?_
          refine ln_isub hx hb d_LT_split_201 (by omega) ?_
          refine ln_iast hx hb hK hP hD hS 4 0 rfl rfl (by omega) (by omega) d_LT_split_202 (fun H locs hP hD hS => ?_)
          have hP : va_P D classes (wT q cI cZ V1 E1 (upN F1 c1 64) (upN B1 c1 ((B1 c1) - (B1 d1))) O R fl'.length us' ch ct ln ag rs) H := hP
          have hD : va_D A (wT q cI cZ V1 E1 (upN F1 c1 64) (upN B1 c1 ((B1 c1) - (B1 d1))) O R fl'.length us' ch ct ln ag rs) := hD
          refine lv_aload_n hx hb d_LT_split_203 rfl (lv_at hl 3 rfl) ?_
          refine g_LT hx hb hB hown hK hP 0 rfl 8 (by decide) k_32 rfl d_LT_split_204 ?_
          refine lv_istore (lv' := [(4, .int (nI ch)), (3, .int (nI d1)), (2, .int (nI c1)), (0, .ref (q 0)), (1, .int (nI lo.length))]) hx hb d_LT_split_207 hl (by decide) rfl (fun ls hl => ?_)
          exact loop2 V1 E1 _ _ (fun O3 q1 q2 q3 => Rep_split hR hxs hFr hV hE (by rw [upN_n (Ne.symm hcd)]; exact hF1) upN_s (fun j z1 z2 => by rw [upN_n z1]; exact hF2 j z2) (by rw [upN_n (Ne.symm hcd)]; omega) (by rw [upN_s]; omega) (fun j z1 z2 => by rw [upN_n z1]; exact hB2 j z2) q1 q2 q3) ch O H locs ls (by omega) (by omega) UpO_0 hP hD hS (lv_sub hl [0, 1, 2, 3, 4] rfl)
        · skip
          have hcs := cnt_s (txt := xs.drop 64) (k := t) (by simp; omega)
          rw [getD_drop] at hcs
          have next : ∀ (B2 : Nat → Nat) (H : Heap) (locs : List Loc), B2 d1 = cnt (xs.drop 64) (t + 1) → (∀ j, j ≠ d1 → B2 j = B j) → va_P D classes (wT q cI cZ (upd V1 (128 * d1 + t) (V1 (128 * c1 + (64 + t)))) (upB E1 (128 * d1 + t) (E1 (128 * c1 + (64 + t)))) F1 B2 O R fl'.length us' ch ct ln ag rs) H → va_D A (wT q cI cZ (upd V1 (128 * d1 + t) (V1 (128 * c1 + (64 + t)))) (upB E1 (128 * d1 + t) (E1 (128 * c1 + (64 + t)))) F1 B2 O R fl'.length us' ch ct ln ag rs) → va_S A s.heap H locs → W p l e rmz s m ([.ref (q 0), .int (nI lo.length)] : List Value).toArray below meth c H locs 0 0 (MQ below (QCv D (TY cI cZ cL) (fun u : Nat × List Nat × Nat × (Nat → Int32) × (Nat → Bool) × (Nat → Nat) × (Nat → Nat) × (Nat → Nat) => Rep (lo ++ (c1, xs.take 64) :: (u.1, xs.drop 64) :: ro) u.2.1 u.2.2.1 u.2.2.2.1 u.2.2.2.2.1 u.2.2.2.2.2.1 u.2.2.2.2.2.2.1 u.2.2.2.2.2.2.2 R) (fun u => wT q cI cZ u.2.2.2.1 u.2.2.2.2.1 u.2.2.2.2.2.1 u.2.2.2.2.2.2.1 u.2.2.2.2.2.2.2 R (u.2.1).length u.2.2.1 (ch + 1) ct ln ag rs) A) ([.ref (q 0), .int (nI lo.length)] : List Value).toArray s rmz.cells rmz.slots A) (F0 m 164 ls []) := by
            intro B2 H locs hb1 hb2 hP hD hS
            refine lv_aload_n hx hb d_LT_split_164 rfl (lv_at hl 3 rfl) ?_
            refine g_LT hx hb hB hown hK hP 0 rfl 2 (by decide) k_26 rfl d_LT_split_165 ?_
            refine lv_iload_n hx hb d_LT_split_168 rfl (lv_at hl 1 rfl) ?_
            refine lv_dup2_11 hx hb d_LT_split_169 rfl rfl ?_
            refine ln_iald hx hb hK hP 3 0 rfl rfl (by omega) (by omega) d_LT_split_170 ?_
            refine lv_iconst (v := nI 1) hx hb d_LT_split_171 (by decide) ?_
            refine ln_iadd hx hb d_LT_split_172 ?_
            refine ln_iast hx hb hK hP hD hS 3 0 rfl rfl (by omega) (by omega) d_LT_split_173 (fun H locs hP hD hS => ?_)
            have hP : va_P D classes (wT q cI cZ (upd V1 (128 * d1 + t) (V1 (128 * c1 + (64 + t)))) (upB E1 (128 * d1 + t) (E1 (128 * c1 + (64 + t)))) (upN F1 d1 ((F1 d1) + 1)) B2 O R fl'.length us' ch ct ln ag rs) H := hP
            have hD : va_D A (wT q cI cZ (upd V1 (128 * d1 + t) (V1 (128 * c1 + (64 + t)))) (upB E1 (128 * d1 + t) (E1 (128 * c1 + (64 + t)))) (upN F1 d1 ((F1 d1) + 1)) B2 O R fl'.length us' ch ct ln ag rs) := hD
            refine lv_iinc (v := (nI (64 + t + 1))) (lv' := [(4, .int (nI (64 + t + 1))), (3, .int (nI d1)), (2, .int (nI c1)), (0, .ref (q 0)), (1, .int (nI lo.length))]) hx hb d_LT_split_174 hl (k := 0) rfl (ln_p1 _) (by decide) rfl (fun ls hl => ?_)
            refine lv_goto (tgt := 70) hx hb d_LT_split_177 (by decide) ?_
            exact ih (t + 1) _ _ _ _ H locs ls (by omega) (by omega) (Cp_s hV (by rw [upd_s, hV.2 _ (by omega)]; congr 1; omega) (fun j hj => upd_n hj)) (Cp_s hE (by rw [upB_s, hE.2 _ (by omega)]; congr 1; omega) (fun j hj => upB_n hj)) (by rw [upN_s]; omega) (fun j hj => by rw [upN_n hj]; exact hF2 j hj) hb1 hb2 hP hD hS (lv_sub hl [0, 1, 2, 3, 4] rfl)
          refine lv_aload_n hx hb d_LT_split_78 rfl (lv_at hl 3 rfl) ?_
          refine g_LT hx hb hB hown hK hP 0 rfl 0 (by decide) k_24 rfl d_LT_split_79 ?_
          refine lv_sipush (v := nI 128) hx hb d_LT_split_82 (by decide) ?_
          refine lv_iload_n hx hb d_LT_split_85 rfl (lv_at hl 1 rfl) ?_
          refine ln_imul hx hb d_LT_split_86 ?_
          refine lv_aload_n hx hb d_LT_split_87 rfl (lv_at hl 3 rfl) ?_
          refine g_LT hx hb hB hown hK hP 0 rfl 2 (by decide) k_26 rfl d_LT_split_88 ?_
          refine lv_iload_n hx hb d_LT_split_91 rfl (lv_at hl 1 rfl) ?_
          refine ln_iald hx hb hK hP 3 0 rfl rfl (by omega) (by omega) d_LT_split_92 ?_
          refine ln_eqn (b := t) (hF1) ?_
          refine ln_iadd hx hb d_LT_split_93 ?_
          refine lv_aload_n hx hb d_LT_split_94 rfl (lv_at hl 3 rfl) ?_
          refine g_LT hx hb hB hown hK hP 0 rfl 0 (by decide) k_24 rfl d_LT_split_95 ?_
          refine lv_sipush (v := nI 128) hx hb d_LT_split_98 (by decide) ?_
          refine lv_iload_n hx hb d_LT_split_101 rfl (lv_at hl 2 rfl) ?_
          refine ln_imul hx hb d_LT_split_102 ?_
          refine lv_iload hx hb d_LT_split_103 (lv_at hl 0 rfl) ?_
          refine ln_iadd hx hb d_LT_split_105 ?_
          refine ln_vald hx hb hK hP 1 0 rfl rfl (by omega) (by omega) d_LT_split_106 ?_
          refine ln_vast hx hb hK hP hD hS 1 0 rfl rfl (by omega) (by omega) d_LT_split_107 (fun H locs hP hD hS => ?_)
          have hP : va_P D classes (wT q cI cZ (upd V1 ((128 * d1) + t) (V1 ((128 * c1) + (64 + t)))) E1 F1 B1 O R fl'.length us' ch ct ln ag rs) H := hP
          have hD : va_D A (wT q cI cZ (upd V1 ((128 * d1) + t) (V1 ((128 * c1) + (64 + t)))) E1 F1 B1 O R fl'.length us' ch ct ln ag rs) := hD
          refine lv_aload_n hx hb d_LT_split_108 rfl (lv_at hl 3 rfl) ?_
          refine g_LT hx hb hB hown hK hP 0 rfl 1 (by decide) k_25 rfl d_LT_split_109 ?_
          refine lv_sipush (v := nI 128) hx hb d_LT_split_112 (by decide) ?_
          refine lv_iload_n hx hb d_LT_split_115 rfl (lv_at hl 1 rfl) ?_
          refine ln_imul hx hb d_LT_split_116 ?_
          refine lv_aload_n hx hb d_LT_split_117 rfl (lv_at hl 3 rfl) ?_
          refine g_LT hx hb hB hown hK hP 0 rfl 2 (by decide) k_26 rfl d_LT_split_118 ?_
          refine lv_iload_n hx hb d_LT_split_121 rfl (lv_at hl 1 rfl) ?_
          refine ln_iald hx hb hK hP 3 0 rfl rfl (by omega) (by omega) d_LT_split_122 ?_
          refine ln_eqn (b := t) (hF1) ?_
          refine ln_iadd hx hb d_LT_split_123 ?_
          refine lv_aload_n hx hb d_LT_split_124 rfl (lv_at hl 3 rfl) ?_
          refine g_LT hx hb hB hown hK hP 0 rfl 1 (by decide) k_25 rfl d_LT_split_125 ?_
          refine lv_sipush (v := nI 128) hx hb d_LT_split_128 (by decide) ?_
          refine lv_iload_n hx hb d_LT_split_131 rfl (lv_at hl 2 rfl) ?_
          refine ln_imul hx hb d_LT_split_132 ?_
          refine lv_iload hx hb d_LT_split_133 (lv_at hl 0 rfl) ?_
          refine ln_iadd hx hb d_LT_split_135 ?_
          refine ln_zald hx hb hK hP 2 1 rfl rfl (by omega) (by omega) d_LT_split_136 ?_
          refine ln_zast hx hb hK hP hD hS 2 1 rfl rfl (by omega) (by omega) d_LT_split_137 (fun H locs hP hD hS => ?_)
          have hP : va_P D classes (wT q cI cZ (upd V1 ((128 * d1) + t) (V1 ((128 * c1) + (64 + t)))) (upB E1 ((128 * d1) + t) (E1 ((128 * c1) + (64 + t)))) F1 B1 O R fl'.length us' ch ct ln ag rs) H := hP
          have hD : va_D A (wT q cI cZ (upd V1 ((128 * d1) + t) (V1 ((128 * c1) + (64 + t)))) (upB E1 ((128 * d1) + t) (E1 ((128 * c1) + (64 + t)))) F1 B1 O R fl'.length us' ch ct ln ag rs) := hD
          refine lv_aload_n hx hb d_LT_split_138 rfl (lv_at hl 3 rfl) ?_
          refine g_LT hx hb hB hown hK hP 0 rfl 1 (by decide) k_25 rfl d_LT_split_139 ?_
          refine lv_sipush (v := nI 128) hx hb d_LT_split_142 (by decide) ?_
          refine lv_iload_n hx hb d_LT_split_145 rfl (lv_at hl 2 rfl) ?_
          refine ln_imul hx hb d_LT_split_146 ?_
          refine lv_iload hx hb d_LT_split_147 (lv_at hl 0 rfl) ?_
          refine ln_iadd hx hb d_LT_split_149 ?_
          refine ln_zald hx hb hK hP 2 1 rfl rfl (by omega) (by omega) d_LT_split_150 ?_
          refine lv_eqi (y := bI (xs.getD (64 + t) 0 == 10)) (by rw [upB_n (by omega), hE.2 _ (by omega), o7 (64 + t) (by omega)]) ?_
          refine ln_if_eq (tgt := 164) hx hb d_LT_split_151 (by decide) (fun hc2 => ?_) (fun hc2 => ?_)
          · skip
            have hne : ¬ xs.getD (64 + t) 0 = 10 := by simpa using hc2
            rw [if_neg hne] at hcs
            exact next B1 H locs (by omega) hB2 hP hD hS
          · skip
            have hne : xs.getD (64 + t) 0 = 10 := by simpa using hc2
            rw [if_pos hne] at hcs
            refine lv_aload_n hx hb d_LT_split_154 rfl (lv_at hl 3 rfl) ?_
            refine g_LT hx hb hB hown hK hP 0 rfl 3 (by decide) k_27 rfl d_LT_split_155 ?_
            refine lv_iload_n hx hb d_LT_split_158 rfl (lv_at hl 1 rfl) ?_
            refine lv_dup2_11 hx hb d_LT_split_159 rfl rfl ?_
            refine ln_iald hx hb hK hP 4 0 rfl rfl (by omega) (by omega) d_LT_split_160 ?_
            refine lv_iconst (v := nI 1) hx hb d_LT_split_161 (by decide) ?_
            refine ln_iadd hx hb d_LT_split_162 ?_
            refine ln_iast hx hb hK hP hD hS 4 0 rfl rfl (by omega) (by omega) d_LT_split_163 (fun H locs hP hD hS => ?_)
            have hP : va_P D classes (wT q cI cZ (upd V1 ((128 * d1) + t) (V1 ((128 * c1) + (64 + t)))) (upB E1 ((128 * d1) + t) (E1 ((128 * c1) + (64 + t)))) F1 (upN B1 d1 ((B1 d1) + 1)) O R fl'.length us' ch ct ln ag rs) H := hP
            have hD : va_D A (wT q cI cZ (upd V1 ((128 * d1) + t) (V1 ((128 * c1) + (64 + t)))) (upB E1 ((128 * d1) + t) (E1 ((128 * c1) + (64 + t)))) F1 (upN B1 d1 ((B1 d1) + 1)) O R fl'.length us' ch ct ln ag rs) := hD
            exact next _ H locs (by rw [upN_s]; omega) (fun j hj => by rw [upN_n hj]; exact hB2 j hj) hP hD hS
    refine lv_aload_n hx hb d_LT_split_52 rfl (lv_at hl 2 rfl) ?_
    refine g_LT hx hb hB hown hK hP 0 rfl 2 (by decide) k_26 rfl d_LT_split_53 ?_
    refine lv_iload_n hx hb d_LT_split_56 rfl (lv_at hl 0 rfl) ?_
    refine lv_iconst (v := nI 0) hx hb d_LT_split_57 (by decide) ?_
    refine ln_iast hx hb hK hP hD hS 3 0 rfl rfl (by omega) (by omega) d_LT_split_58 (fun H locs hP hD hS => ?_)
    have hP : va_P D classes (wT q cI cZ V E (upN F d1 0) B O R fl'.length us' ch ct ln ag rs) H := hP
    have hD : va_D A (wT q cI cZ V E (upN F d1 0) B O R fl'.length us' ch ct ln ag rs) := hD
    refine lv_aload_n hx hb d_LT_split_59 rfl (lv_at hl 2 rfl) ?_
    refine g_LT hx hb hB hown hK hP 0 rfl 3 (by decide) k_27 rfl d_LT_split_60 ?_
    refine lv_iload_n hx hb d_LT_split_63 rfl (lv_at hl 0 rfl) ?_
    refine lv_iconst (v := nI 0) hx hb d_LT_split_64 (by decide) ?_
    refine ln_iast hx hb hK hP hD hS 4 0 rfl rfl (by omega) (by omega) d_LT_split_65 (fun H locs hP hD hS => ?_)
    have hP : va_P D classes (wT q cI cZ V E (upN F d1 0) (upN B d1 0) O R fl'.length us' ch ct ln ag rs) H := hP
    have hD : va_D A (wT q cI cZ V E (upN F d1 0) (upN B d1 0) O R fl'.length us' ch ct ln ag rs) := hD
    refine lv_bipush (v := nI 64) hx hb d_LT_split_66 (by decide) ?_
    refine lv_istore (lv' := [(4, .int (nI 64)), (3, .int (nI d1)), (2, .int (nI c1)), (0, .ref (q 0)), (1, .int (nI lo.length))]) hx hb d_LT_split_68 hl (by decide) rfl (fun ls hl => ?_)
    exact loop 65 0 V E _ _ H locs ls (by omega) (by omega) Cp_0 Cp_0 upN_s (fun j hj => upN_n hj) (by rw [upN_s, cnt_0]) (fun j hj => upN_n hj) hP hD hS (lv_sub hl [0, 1, 2, 3, 4] rfl)
  refine lv_aload_n hx hb d_LT_split_0 rfl (lv_at hl 0 rfl) ?_
  refine g_LT hx hb hB hown hK hP 0 rfl 4 (by decide) k_28 rfl d_LT_split_1 ?_
  refine lv_iload_n hx hb d_LT_split_4 rfl (lv_at hl 1 rfl) ?_
  refine ln_iald hx hb hK hP 5 0 rfl rfl (by omega) (by omega) d_LT_split_5 ?_
  refine ln_eqn (b := c1) (o1) ?_
  refine lv_istore_n (lv' := [(2, .int (nI c1)), (0, .ref (q 0)), (1, .int (nI lo.length))]) hx hb d_LT_split_6 rfl hl (by decide) rfl (fun ls hl => ?_)
  refine lv_aload_n hx hb d_LT_split_7 rfl (lv_at hl 1 rfl) ?_
  refine g_LT hx hb hB hown hK hP 0 rfl 7 (by decide) k_31 rfl d_LT_split_8 ?_
  refine lv_istore_n (lv' := [(3, .int (nI us)), (2, .int (nI c1)), (0, .ref (q 0)), (1, .int (nI lo.length))]) hx hb d_LT_split_11 rfl hl (by decide) rfl (fun ls hl => ?_)
  refine lv_aload_n hx hb d_LT_split_12 rfl (lv_at hl 2 rfl) ?_
  refine g_LT hx hb hB hown hK hP 0 rfl 6 (by decide) k_30 rfl d_LT_split_13 ?_
  refine ln_if_le (tgt := 42) hx hb d_LT_split_16 (by decide) (by omega) (fun hc => ?_) (fun hc => ?_)
  · skip
    obtain rfl : fl = [] := List.length_eq_zero_iff.mp (by omega)
    subst hfr
    refine lv_aload_n hx hb d_LT_split_42 rfl (lv_at hl 2 rfl) ?_
    refine lv_dup hx hb d_LT_split_43 rfl ?_
    refine g_LT hx hb hB hown hK hP 0 rfl 7 (by decide) k_31 rfl d_LT_split_44 ?_
    refine lv_iconst (v := nI 1) hx hb d_LT_split_47 (by decide) ?_
    refine ln_iadd hx hb d_LT_split_48 ?_
    refine p_LT hx hb hB hown hK hP hD hS 0 rfl 7 (by decide) k_31 rfl rfl (Nat.le_of_ble_eq_true rfl) d_LT_split_49 (fun H locs hP hD hS => ?_)
    have hP : va_P D classes (wT q cI cZ V E F B O R (([] : List Nat).length) (us + 1) ch ct ln ag rs) H := hP
    have hD : va_D A (wT q cI cZ V E F B O R (([] : List Nat).length) (us + 1) ch ct ln ag rs) := hD
    obtain ⟨hf1, hf2⟩ := Fresh_0 hR (by omega)
    exact tail us [] (us + 1) H locs ls hf1 hP hD hS (lv_sub hl [0, 1, 2, 3] rfl)
  · skip
    obtain ⟨fl', d1, rfl⟩ := snoc_of (fl := fl) (by omega)
    obtain ⟨hf1, hf2⟩ := Fresh_1 hR
    have hfr2 : fr - 1 = fl'.length := by rw [hfr]; simp
    refine lv_aload_n hx hb d_LT_split_19 rfl (lv_at hl 2 rfl) ?_
    refine lv_dup hx hb d_LT_split_20 rfl ?_
    refine g_LT hx hb hB hown hK hP 0 rfl 6 (by decide) k_30 rfl d_LT_split_21 ?_
    refine lv_iconst (v := nI 1) hx hb d_LT_split_24 (by decide) ?_
    refine ln_isub hx hb d_LT_split_25 (by omega) ?_
    refine p_LT hx hb hB hown hK hP hD hS 0 rfl 6 (by decide) k_30 rfl rfl (Nat.le_of_ble_eq_true rfl) d_LT_split_26 (fun H locs hP hD hS => ?_)
    have hP : va_P D classes (wT q cI cZ V E F B O R (fr - 1) us ch ct ln ag rs) H := hP
    have hD : va_D A (wT q cI cZ V E F B O R (fr - 1) us ch ct ln ag rs) := hD
    refine lv_aload_n hx hb d_LT_split_29 rfl (lv_at hl 2 rfl) ?_
    refine g_LT hx hb hB hown hK hP 0 rfl 5 (by decide) k_29 rfl d_LT_split_30 ?_
    refine lv_aload_n hx hb d_LT_split_33 rfl (lv_at hl 2 rfl) ?_
    refine g_LT hx hb hB hown hK hP 0 rfl 6 (by decide) k_30 rfl d_LT_split_34 ?_
    refine ln_iald hx hb hK hP 6 0 rfl rfl (by omega) (by omega) d_LT_split_37 ?_
    refine ln_eqn (b := d1) (by rw [hfr2]; exact hf2) ?_
    refine lv_istore_n (lv' := [(3, .int (nI d1)), (2, .int (nI c1)), (0, .ref (q 0)), (1, .int (nI lo.length))]) hx hb d_LT_split_38 rfl hl (by decide) rfl (fun ls hl => ?_)
    refine lv_goto (tgt := 52) hx hb d_LT_split_39 (by decide) ?_
    rw [hfr2] at hP hD
    exact tail d1 fl' us H locs ls hf1 hP hD hS (lv_sub hl [0, 1, 2, 3] rfl)
end
section
def DnO (a k : Nat) (O O1 : Nat → Nat) : Prop := (∀ j, a ≤ j → j < k → O1 j = O (j + 1)) ∧ ∀ j, j < a ∨ k ≤ j → O1 j = O j
theorem DnO_0 {a : Nat} {O : Nat → Nat} : DnO a a O O := ⟨fun j h1 h2 => absurd h1 (by omega), fun _ _ => rfl⟩
theorem DnO_s {a k : Nat} {O O1 : Nat → Nat} (h : DnO a k O O1) (hk : a ≤ k) : DnO a (k + 1) O (upN O1 k (O1 (k + 1))) := by
  refine ⟨fun j q1 q2 => ?_, fun j q1 => ?_⟩
  · by_cases q : j = k
    · subst q; rw [upN_s]; exact h.2 _ (by omega)
    · rw [upN_n (by omega)]; exact h.1 j q1 (by omega)
  · rw [upN_n (by omega)]; exact h.2 j (by omega)
set_option maxHeartbeats 4000000 in
set_option maxRecDepth 100000 in
/-- join: a chunk takes in the next one -/
theorem c_LT_join (l : Launch) (D : va_G) (cI cZ cL : ClassId) (q : Nat → Nat) (V : Nat → Int32) (E : Nat → Bool) (F B O R : Nat → Nat) (us ch ct ln ag rs : Nat) (fl : List Nat) (lo ro : Chs) (c1 d1 : Nat) (xs ys : List Int32) (hR : Rep (lo ++ (c1, xs) :: (d1, ys) :: ro) fl us V E F B O R) (hch : ch = (lo ++ (c1, xs) :: (d1, ys) :: ro).length) (hxy : xs.length + ys.length ≤ 128) : CV l y_LT_join hd_LT_join rmz D (TY cI cZ cL) [.ref (q 0), .int (nI lo.length)] (wT q cI cZ V E F B O R fl.length us ch ct ln ag rs) (fun u : (Nat → Int32) × (Nat → Bool) × (Nat → Nat) × (Nat → Nat) × (Nat → Nat) => Rep (lo ++ (c1, xs ++ ys) :: ro) (fl ++ [d1]) us u.1 u.2.1 u.2.2.1 u.2.2.2.1 u.2.2.2.2 (upN R fl.length d1)) (fun u => wT q cI cZ u.1 u.2.1 u.2.2.1 u.2.2.2.1 u.2.2.2.2 (upN R fl.length d1) (fl.length + 1) us (ch - 1) ct ln ag rs) := by
  refine CV.mk (by decide +kernel) (Nat.le_of_ble_eq_true rfl) ?_
  intro p e s m below meth c A ls C hin hA hP hD hl
  obtain ⟨hx, hb, hml, hown, hB, hlk, hr, htb, hK, hX⟩ := id C
  have hS : va_S A s.heap s.heap [] := va_S.rf
  have hl : lv_has ls 5 [(0, .ref (q 0)), (1, .int (nI lo.length))] := hl
  obtain ⟨o1, o2, o3, o4, o5, o6, o7⟩ := Rep_at hR
  have hR2 : Rep ((lo ++ [(c1, xs)]) ++ (d1, ys) :: ro) fl us V E F B O R := by simpa using hR
  obtain ⟨p1, p2, p3, p4, p5, p6, p7⟩ := Rep_at hR2
  rw [List.length_append, List.length_singleton] at p1
  have hch2 : ch = lo.length + ro.length + 2 := by rw [hch, List.length_append, List.length_cons, List.length_cons]; omega
  obtain ⟨hl1, hl2, hl3, hl4⟩ := Rep_len hR
  rw [← hch] at hl2
  have hcd : d1 ≠ c1 := (nodup_ne hR.2.2.2.1).2.1 (d1, ys) (by simp)
  have hcnt1 : xs.count 10 ≤ xs.length := List.count_le_length
  have hcnt2 : ys.count 10 ≤ ys.length := List.count_le_length
  have loop2 : ∀ (V1 : Nat → Int32) (E1 : Nat → Bool) (F1 : Nat → Nat), (∀ O3 : Nat → Nat, (∀ j, j ≤ lo.length → O3 j = O j) → (∀ j, lo.length + 1 ≤ j → j + 1 < (lo ++ (c1, xs) :: (d1, ys) :: ro).length → O3 j = O (j + 1)) → Rep (lo ++ (c1, xs ++ ys) :: ro) (fl ++ [d1]) us V1 E1 F1 (upN B c1 (B c1 + B d1)) O3 (upN R fl.length d1)) → ∀ (g k : Nat) (O1 : Nat → Nat) (H : Heap) (locs : List Loc) (ls : Array Slot), lo.length + 1 ≤ k → k ≤ ch - 1 → ch ≤ k + g → DnO (lo.length + 1) k O O1 → va_P D classes (wT q cI cZ V1 E1 F1 (upN B c1 (B c1 + B d1)) O1 R fl.length us (ch - 1) ct ln ag rs) H → va_D A (wT q cI cZ V1 E1 F1 (upN B c1 (B c1 + B d1)) O1 R fl.length us (ch - 1) ct ln ag rs) → va_S A s.heap H locs → lv_has ls 5 [(4, .int (nI k)), (3, .int (nI d1)), (2, .int (nI c1)), (0, .ref (q 0)), (1, .int (nI lo.length))] → W p l e rmz s m ([.ref (q 0), .int (nI lo.length)] : List Value).toArray below meth c H locs 0 0 (MQ below (QCv D (TY cI cZ cL) (fun u : (Nat → Int32) × (Nat → Bool) × (Nat → Nat) × (Nat → Nat) × (Nat → Nat) => Rep (lo ++ (c1, xs ++ ys) :: ro) (fl ++ [d1]) us u.1 u.2.1 u.2.2.1 u.2.2.2.1 u.2.2.2.2 (upN R fl.length d1)) (fun u => wT q cI cZ u.1 u.2.1 u.2.2.1 u.2.2.2.1 u.2.2.2.2 (upN R fl.length d1) (fl.length + 1) us (ch - 1) ct ln ag rs) A) ([.ref (q 0), .int (nI lo.length)] : List Value).toArray s rmz.cells rmz.slots A) (F0 m 136 ls []) := by
    intro V1 E1 F1 hfin g
    induction g with
    | zero => intro k O1 H locs ls h1 h2 h3; exact absurd h3 (by omega)
    | succ g ih =>
      intro k O1 H locs ls h1 h2 h3 hU hP hD hS hl
      refine lv_iload hx hb d_LT_join_136 (lv_at hl 0 rfl) ?_
      refine lv_aload_n hx hb d_LT_join_138 rfl (lv_at hl 3 rfl) ?_
      refine g_LT hx hb hB hown hK hP 0 rfl 8 (by decide) k_32 rfl d_LT_join_139 ?_
      refine ln_icmp_ge (tgt := 167) hx hb d_LT_join_142 (by decide) (by omega) (by omega) (fun hc => ?_) (fun hc => ?_)
      · skip
        obtain rfl : k = ch - 1 := by omega
        refine lv_aload_n hx hb d_LT_join_167 rfl (lv_at hl 3 rfl) ?_
        refine g_LT hx hb hB hown hK hP 0 rfl 5 (by decide) k_29 rfl d_LT_join_168 ?_
        refine lv_aload_n hx hb d_LT_join_171 rfl (lv_at hl 3 rfl) ?_
        refine g_LT hx hb hB hown hK hP 0 rfl 6 (by decide) k_30 rfl d_LT_join_172 ?_
        refine lv_iload_n hx hb d_LT_join_175 rfl (lv_at hl 1 rfl) ?_
        refine ln_iast hx hb hK hP hD hS 6 0 rfl rfl (by omega) (by omega) d_LT_join_176 (fun H locs hP hD hS => ?_)
        have hP : va_P D classes (wT q cI cZ V1 E1 F1 (upN B c1 (B c1 + B d1)) O1 (upN R fl.length d1) fl.length us (ch - 1) ct ln ag rs) H := hP
        have hD : va_D A (wT q cI cZ V1 E1 F1 (upN B c1 (B c1 + B d1)) O1 (upN R fl.length d1) fl.length us (ch - 1) ct ln ag rs) := hD
        refine lv_aload_n hx hb d_LT_join_177 rfl (lv_at hl 3 rfl) ?_
        refine lv_dup hx hb d_LT_join_178 rfl ?_
        refine g_LT hx hb hB hown hK hP 0 rfl 6 (by decide) k_30 rfl d_LT_join_179 ?_
        refine lv_iconst (v := nI 1) hx hb d_LT_join_182 (by decide) ?_
        refine ln_iadd hx hb d_LT_join_183 ?_
        refine p_LT hx hb hB hown hK hP hD hS 0 rfl 6 (by decide) k_30 rfl rfl (Nat.le_of_ble_eq_true rfl) d_LT_join_184 (fun H locs hP hD hS => ?_)
        have hP : va_P D classes (wT q cI cZ V1 E1 F1 (upN B c1 (B c1 + B d1)) O1 (upN R fl.length d1) (fl.length + 1) us (ch - 1) ct ln ag rs) H := hP
        have hD : va_D A (wT q cI cZ V1 E1 F1 (upN B c1 (B c1 + B d1)) O1 (upN R fl.length d1) (fl.length + 1) us (ch - 1) ct ln ag rs) := hD
        exact e_Cv C hS ((V1, E1, F1, upN B c1 (B c1 + B d1), O1)) (hfin O1 (fun j hj => hU.2 j (by omega)) (fun j q1 q2 => hU.1 j q1 (by omega))) hP hD (by decide) (by decide) d_LT_join_187
      · skip
        refine lv_aload_n hx hb d_LT_join_145 rfl (lv_at hl 3 rfl) ?_
        refine g_LT hx hb hB hown hK hP 0 rfl 4 (by decide) k_28 rfl d_LT_join_146 ?_
        refine lv_iload hx hb d_LT_join_149 (lv_at hl 0 rfl) ?_
        refine lv_aload_n hx hb d_LT_join_151 rfl (lv_at hl 3 rfl) ?_
        refine g_LT hx hb hB hown hK hP 0 rfl 4 (by decide) k_28 rfl d_LT_join_152 ?_
        refine lv_iload hx hb d_LT_join_155 (lv_at hl 0 rfl) ?_
        refine lv_iconst (v := nI 1) hx hb d_LT_join_157 (by decide) ?_
        refine ln_iadd hx hb d_LT_join_158 ?_
        refine ln_iald hx hb hK hP 5 0 rfl rfl (by omega) (by omega) d_LT_join_159 ?_
        refine ln_iast hx hb hK hP hD hS 5 0 rfl rfl (by omega) (by omega) d_LT_join_160 (fun H locs hP hD hS => ?_)
        have hP : va_P D classes (wT q cI cZ V1 E1 F1 (upN B c1 (B c1 + B d1)) (upN O1 k (O1 (k + 1))) R fl.length us (ch - 1) ct ln ag rs) H := hP
        have hD : va_D A (wT q cI cZ V1 E1 F1 (upN B c1 (B c1 + B d1)) (upN O1 k (O1 (k + 1))) R fl.length us (ch - 1) ct ln ag rs) := hD
        refine lv_iinc (v := (nI (k + 1))) (lv' := [(4, .int (nI (k + 1))), (3, .int (nI d1)), (2, .int (nI c1)), (0, .ref (q 0)), (1, .int (nI lo.length))]) hx hb d_LT_join_161 hl (k := 0) rfl (ln_p1 _) (by decide) rfl (fun ls hl => ?_)
        refine lv_goto (tgt := 136) hx hb d_LT_join_164 (by decide) ?_
        exact ih (k + 1) _ H locs ls (by omega) (by omega) (by omega) (DnO_s hU h1) hP hD hS (lv_sub hl [0, 1, 2, 3, 4] rfl)
  have loop : ∀ (g t : Nat) (V1 : Nat → Int32) (E1 : Nat → Bool) (F1 : Nat → Nat) (H : Heap) (locs : List Loc) (ls : Array Slot), t ≤ ys.length → ys.length + 1 ≤ t + g → Cp (128 * d1) (128 * c1 + xs.length) t V V1 → Cp (128 * d1) (128 * c1 + xs.length) t E E1 → F1 c1 = xs.length + t → (∀ j, j ≠ c1 → F1 j = F j) → va_P D classes (wT q cI cZ V1 E1 F1 B O R fl.length us ch ct ln ag rs) H → va_D A (wT q cI cZ V1 E1 F1 B O R fl.length us ch ct ln ag rs) → va_S A s.heap H locs → lv_has ls 5 [(4, .int (nI t)), (3, .int (nI d1)), (2, .int (nI c1)), (0, .ref (q 0)), (1, .int (nI lo.length))] → W p l e rmz s m ([.ref (q 0), .int (nI lo.length)] : List Value).toArray below meth c H locs 0 0 (MQ below (QCv D (TY cI cZ cL) (fun u : (Nat → Int32) × (Nat → Bool) × (Nat → Nat) × (Nat → Nat) × (Nat → Nat) => Rep (lo ++ (c1, xs ++ ys) :: ro) (fl ++ [d1]) us u.1 u.2.1 u.2.2.1 u.2.2.2.1 u.2.2.2.2 (upN R fl.length d1)) (fun u => wT q cI cZ u.1 u.2.1 u.2.2.1 u.2.2.2.1 u.2.2.2.2 (upN R fl.length d1) (fl.length + 1) us (ch - 1) ct ln ag rs) A) ([.ref (q 0), .int (nI lo.length)] : List Value).toArray s rmz.cells rmz.slots A) (F0 m 19 ls []) := by
    intro g
    induction g with
    | zero => intro t V1 E1 F1 H locs ls h1 h2; exact absurd h2 (by omega)
    | succ g ih =>
      intro t V1 E1 F1 H locs ls h1 h2 hV hE hF1 hF2 hP hD hS hl
      have hFd : F1 d1 = ys.length := (hF2 d1 hcd).trans p3
      refine lv_iload hx hb d_LT_join_19 (lv_at hl 0 rfl) ?_
      refine lv_aload_n hx hb d_LT_join_21 rfl (lv_at hl 3 rfl) ?_
      refine g_LT hx hb hB hown hK hP 0 rfl 2 (by decide) k_26 rfl d_LT_join_22 ?_
      refine lv_iload_n hx hb d_LT_join_25 rfl (lv_at hl 1 rfl) ?_
      refine ln_iald hx hb hK hP 3 0 rfl rfl (by omega) (by omega) d_LT_join_26 ?_
      refine ln_eqn (b := ys.length) (hFd) ?_
      refine ln_icmp_ge (tgt := 106) hx hb d_LT_join_27 (by decide) (by omega) (by omega) (fun hc => ?_) (fun hc => ?_)
      · skip
        obtain rfl : t = ys.length := by omega
        refine lv_aload_n hx hb d_LT_join_106 rfl (lv_at hl 3 rfl) ?_
        refine g_LT hx hb hB hown hK hP 0 rfl 3 (by decide) k_27 rfl d_LT_join_107 ?_
        refine lv_iload_n hx hb d_LT_join_110 rfl (lv_at hl 2 rfl) ?_
        refine lv_dup2_11 hx hb d_LT_join_111 rfl rfl ?_
        refine ln_iald hx hb hK hP 4 0 rfl rfl (by omega) (by omega) d_LT_join_112 ?_
        refine lv_aload_n hx hb d_LT_join_113 rfl (lv_at hl 3 rfl) ?_
        refine g_LT hx hb hB hown hK hP 0 rfl 3 (by decide) k_27 rfl d_LT_join_114 ?_
        refine lv_iload_n hx hb d_LT_join_117 rfl (lv_at hl 1 rfl) ?_
        refine ln_iald hx hb hK hP 4 0 rfl rfl (by omega) (by omega) d_LT_join_118 ?_
        refine ln_iadd hx hb d_LT_join_119 ?_
        refine ln_iast hx hb hK hP hD hS 4 0 rfl rfl (by omega) (by omega) d_LT_join_120 (fun H locs hP hD hS => ?_)
        have hP : va_P D classes (wT q cI cZ V1 E1 F1 (upN B c1 ((B c1) + (B d1))) O R fl.length us ch ct ln ag rs) H := hP
        have hD : va_D A (wT q cI cZ V1 E1 F1 (upN B c1 ((B c1) + (B d1))) O R fl.length us ch ct ln ag rs) := hD
        refine lv_aload_n hx hb d_LT_join_121 rfl (lv_at hl 3 rfl) ?_
        refine lv_dup hx hb d_LT_join_122 rfl ?_
        refine g_LT hx hb hB hown hK hP 0 rfl 8 (by decide) k_32 rfl d_LT_join_123 ?_
        refine lv_iconst (v := nI 1) hx hb d_LT_join_126 (by decide) ?_
        refine ln_isub hx hb d_LT_join_127 (by omega) ?_
        refine p_LT hx hb hB hown hK hP hD hS 0 rfl 8 (by decide) k_32 rfl rfl (Nat.le_of_ble_eq_true rfl) d_LT_join_128 (fun H locs hP hD hS => ?_)
        have hP : va_P D classes (wT q cI cZ V1 E1 F1 (upN B c1 ((B c1) + (B d1))) O R fl.length us (ch - 1) ct ln ag rs) H := hP
        have hD : va_D A (wT q cI cZ V1 E1 F1 (upN B c1 ((B c1) + (B d1))) O R fl.length us (ch - 1) ct ln ag rs) := hD
        refine lv_iload_n hx hb d_LT_join_131 rfl (lv_at hl 4 rfl) ?_
        refine lv_iconst (v := nI 1) hx hb d_LT_join_132 (by decide) ?_
        refine ln_iadd hx hb d_LT_join_133 ?_
        refine lv_istore (lv' := [(4, .int (nI (lo.length + 1))), (3, .int (nI d1)), (2, .int (nI c1)), (0, .ref (q 0)), (1, .int (nI lo.length))]) hx hb d_LT_join_134 hl (by decide) rfl (fun ls hl => ?_)
        exact loop2 V1 E1 F1 (fun O3 q1 q2 => Rep_join hR hxy hV hE hF1 hF2 upN_s (fun j hj => upN_n hj) q1 q2) ch (lo.length + 1) O H locs ls (by omega) (by omega) (by omega) DnO_0 hP hD hS (lv_sub hl [0, 1, 2, 3, 4] rfl)
      · skip
        refine lv_aload_n hx hb d_LT_join_30 rfl (lv_at hl 3 rfl) ?_
        refine g_LT hx hb hB hown hK hP 0 rfl 0 (by decide) k_24 rfl d_LT_join_31 ?_
        refine lv_sipush (v := nI 128) hx hb d_LT_join_34 (by decide) ?_
        refine lv_iload_n hx hb d_LT_join_37 rfl (lv_at hl 2 rfl) ?_
        refine ln_imul hx hb d_LT_join_38 ?_
        refine lv_aload_n hx hb d_LT_join_39 rfl (lv_at hl 3 rfl) ?_
        refine g_LT hx hb hB hown hK hP 0 rfl 2 (by decide) k_26 rfl d_LT_join_40 ?_
        refine lv_iload_n hx hb d_LT_join_43 rfl (lv_at hl 2 rfl) ?_
        refine ln_iald hx hb hK hP 3 0 rfl rfl (by omega) (by omega) d_LT_join_44 ?_
        refine ln_eqn (b := xs.length + t) (hF1) ?_
        refine ln_iadd hx hb d_LT_join_45 ?_
        refine lv_aload_n hx hb d_LT_join_46 rfl (lv_at hl 3 rfl) ?_
        refine g_LT hx hb hB hown hK hP 0 rfl 0 (by decide) k_24 rfl d_LT_join_47 ?_
        refine lv_sipush (v := nI 128) hx hb d_LT_join_50 (by decide) ?_
        refine lv_iload_n hx hb d_LT_join_53 rfl (lv_at hl 1 rfl) ?_
        refine ln_imul hx hb d_LT_join_54 ?_
        refine lv_iload hx hb d_LT_join_55 (lv_at hl 0 rfl) ?_
        refine ln_iadd hx hb d_LT_join_57 ?_
        refine ln_vald hx hb hK hP 1 0 rfl rfl (by omega) (by omega) d_LT_join_58 ?_
        refine ln_vast hx hb hK hP hD hS 1 0 rfl rfl (by omega) (by omega) d_LT_join_59 (fun H locs hP hD hS => ?_)
        have hP : va_P D classes (wT q cI cZ (upd V1 ((128 * c1) + (xs.length + t)) (V1 ((128 * d1) + t))) E1 F1 B O R fl.length us ch ct ln ag rs) H := hP
        have hD : va_D A (wT q cI cZ (upd V1 ((128 * c1) + (xs.length + t)) (V1 ((128 * d1) + t))) E1 F1 B O R fl.length us ch ct ln ag rs) := hD
        refine lv_aload_n hx hb d_LT_join_60 rfl (lv_at hl 3 rfl) ?_
        refine g_LT hx hb hB hown hK hP 0 rfl 1 (by decide) k_25 rfl d_LT_join_61 ?_
        refine lv_sipush (v := nI 128) hx hb d_LT_join_64 (by decide) ?_
        refine lv_iload_n hx hb d_LT_join_67 rfl (lv_at hl 2 rfl) ?_
        refine ln_imul hx hb d_LT_join_68 ?_
        refine lv_aload_n hx hb d_LT_join_69 rfl (lv_at hl 3 rfl) ?_
        refine g_LT hx hb hB hown hK hP 0 rfl 2 (by decide) k_26 rfl d_LT_join_70 ?_
        refine lv_iload_n hx hb d_LT_join_73 rfl (lv_at hl 2 rfl) ?_
        refine ln_iald hx hb hK hP 3 0 rfl rfl (by omega) (by omega) d_LT_join_74 ?_
        refine ln_eqn (b := xs.length + t) (hF1) ?_
        refine ln_iadd hx hb d_LT_join_75 ?_
        refine lv_aload_n hx hb d_LT_join_76 rfl (lv_at hl 3 rfl) ?_
        refine g_LT hx hb hB hown hK hP 0 rfl 1 (by decide) k_25 rfl d_LT_join_77 ?_
        refine lv_sipush (v := nI 128) hx hb d_LT_join_80 (by decide) ?_
        refine lv_iload_n hx hb d_LT_join_83 rfl (lv_at hl 1 rfl) ?_
        refine ln_imul hx hb d_LT_join_84 ?_
        refine lv_iload hx hb d_LT_join_85 (lv_at hl 0 rfl) ?_
        refine ln_iadd hx hb d_LT_join_87 ?_
        refine ln_zald hx hb hK hP 2 1 rfl rfl (by omega) (by omega) d_LT_join_88 ?_
        refine ln_zast hx hb hK hP hD hS 2 1 rfl rfl (by omega) (by omega) d_LT_join_89 (fun H locs hP hD hS => ?_)
        have hP : va_P D classes (wT q cI cZ (upd V1 ((128 * c1) + (xs.length + t)) (V1 ((128 * d1) + t))) (upB E1 ((128 * c1) + (xs.length + t)) (E1 ((128 * d1) + t))) F1 B O R fl.length us ch ct ln ag rs) H := hP
        have hD : va_D A (wT q cI cZ (upd V1 ((128 * c1) + (xs.length + t)) (V1 ((128 * d1) + t))) (upB E1 ((128 * c1) + (xs.length + t)) (E1 ((128 * d1) + t))) F1 B O R fl.length us ch ct ln ag rs) := hD
        refine lv_aload_n hx hb d_LT_join_90 rfl (lv_at hl 3 rfl) ?_
        refine g_LT hx hb hB hown hK hP 0 rfl 2 (by decide) k_26 rfl d_LT_join_91 ?_
        refine lv_iload_n hx hb d_LT_join_94 rfl (lv_at hl 2 rfl) ?_
        refine lv_dup2_11 hx hb d_LT_join_95 rfl rfl ?_
        refine ln_iald hx hb hK hP 3 0 rfl rfl (by omega) (by omega) d_LT_join_96 ?_
        refine lv_iconst (v := nI 1) hx hb d_LT_join_97 (by decide) ?_
        refine ln_iadd hx hb d_LT_join_98 ?_
        refine ln_iast hx hb hK hP hD hS 3 0 rfl rfl (by omega) (by omega) d_LT_join_99 (fun H locs hP hD hS => ?_)
        have hP : va_P D classes (wT q cI cZ (upd V1 ((128 * c1) + (xs.length + t)) (V1 ((128 * d1) + t))) (upB E1 ((128 * c1) + (xs.length + t)) (E1 ((128 * d1) + t))) (upN F1 c1 ((F1 c1) + 1)) B O R fl.length us ch ct ln ag rs) H := hP
        have hD : va_D A (wT q cI cZ (upd V1 ((128 * c1) + (xs.length + t)) (V1 ((128 * d1) + t))) (upB E1 ((128 * c1) + (xs.length + t)) (E1 ((128 * d1) + t))) (upN F1 c1 ((F1 c1) + 1)) B O R fl.length us ch ct ln ag rs) := hD
        refine lv_iinc (v := (nI (t + 1))) (lv' := [(4, .int (nI (t + 1))), (3, .int (nI d1)), (2, .int (nI c1)), (0, .ref (q 0)), (1, .int (nI lo.length))]) hx hb d_LT_join_100 hl (k := 0) rfl (ln_p1 _) (by decide) rfl (fun ls hl => ?_)
        refine lv_goto (tgt := 19) hx hb d_LT_join_103 (by decide) ?_
        exact ih (t + 1) _ _ _ H locs ls (by omega) (by omega) (Cp_s hV (by rw [Nat.add_assoc, upd_s, hV.2 _ (by omega)]) (fun j hj => upd_n (by omega))) (Cp_s hE (by rw [Nat.add_assoc, upB_s, hE.2 _ (by omega)]) (fun j hj => upB_n (by omega))) (by rw [upN_s]; omega) (fun j hj => by rw [upN_n hj]; exact hF2 j hj) hP hD hS (lv_sub hl [0, 1, 2, 3, 4] rfl)
  refine lv_aload_n hx hb d_LT_join_0 rfl (lv_at hl 0 rfl) ?_
  refine g_LT hx hb hB hown hK hP 0 rfl 4 (by decide) k_28 rfl d_LT_join_1 ?_
  refine lv_iload_n hx hb d_LT_join_4 rfl (lv_at hl 1 rfl) ?_
  refine ln_iald hx hb hK hP 5 0 rfl rfl (by omega) (by omega) d_LT_join_5 ?_
  refine ln_eqn (b := c1) (o1) ?_
  refine lv_istore_n (lv' := [(2, .int (nI c1)), (0, .ref (q 0)), (1, .int (nI lo.length))]) hx hb d_LT_join_6 rfl hl (by decide) rfl (fun ls hl => ?_)
  refine lv_aload_n hx hb d_LT_join_7 rfl (lv_at hl 1 rfl) ?_
  refine g_LT hx hb hB hown hK hP 0 rfl 4 (by decide) k_28 rfl d_LT_join_8 ?_
  refine lv_iload_n hx hb d_LT_join_11 rfl (lv_at hl 2 rfl) ?_
  refine lv_iconst (v := nI 1) hx hb d_LT_join_12 (by decide) ?_
  refine ln_iadd hx hb d_LT_join_13 ?_
  refine ln_iald hx hb hK hP 5 0 rfl rfl (by omega) (by omega) d_LT_join_14 ?_
  refine ln_eqn (b := d1) (p1) ?_
  refine lv_istore_n (lv' := [(3, .int (nI d1)), (2, .int (nI c1)), (0, .ref (q 0)), (1, .int (nI lo.length))]) hx hb d_LT_join_15 rfl hl (by decide) rfl (fun ls hl => ?_)
  refine lv_iconst (v := nI 0) hx hb d_LT_join_16 (by decide) ?_
  refine lv_istore (lv' := [(4, .int (nI 0)), (3, .int (nI d1)), (2, .int (nI c1)), (0, .ref (q 0)), (1, .int (nI lo.length))]) hx hb d_LT_join_17 hl (by decide) rfl (fun ls hl => ?_)
  exact loop (ys.length + 1) 0 V E F s.heap [] ls (by omega) (by omega) Cp_0 Cp_0 o3 (fun j hj => rfl) hP hD hS (lv_sub hl [0, 1, 2, 3, 4] rfl)
end
section
/-- a text's state: chunks, free ones, used ones, the arrays, the last seek -/
abbrev TXS : Type := Chs × List Nat × Nat × (Nat → Int32) × (Nat → Bool) × (Nat → Nat) × (Nat → Nat) × (Nat → Nat) × (Nat → Nat) × Nat × Nat
abbrev wS (q : Nat → Nat) (cI cZ : ClassId) (u : TXS) : va_W := wT q cI cZ u.2.2.2.1 u.2.2.2.2.1 u.2.2.2.2.2.1 u.2.2.2.2.2.2.1 u.2.2.2.2.2.2.2.1 u.2.2.2.2.2.2.2.2.1 (u.2.1).length u.2.2.1 (u.1).length (flat u.1).length ((flat u.1).count 10) u.2.2.2.2.2.2.2.2.2.1 u.2.2.2.2.2.2.2.2.2.2
def OKS (u : TXS) (txt : List Int32) : Prop := Rep u.1 u.2.1 u.2.2.1 u.2.2.2.1 u.2.2.2.2.1 u.2.2.2.2.2.1 u.2.2.2.2.2.2.1 u.2.2.2.2.2.2.2.1 u.2.2.2.2.2.2.2.2.1 ∧ Adj u.1 ∧ flat u.1 = txt
theorem seek_again {lo ro : Chs} {c1 d1 : Nat} {xs : List Int32} {i rs ag2 rs2 : Nat} (h : Sk (lo ++ (c1, xs) :: ro) i true lo.length rs) (hi : i ≤ (flat (lo ++ (c1, xs) :: ro)).length) (hx : xs.length = 128) (h2 : Sk (lo ++ (c1, xs.take 64) :: (d1, xs.drop 64) :: ro) i true ag2 rs2) : ag2 = lo.length ∨ ag2 = lo.length + 1 := by
  obtain ⟨e1, e2⟩ := Sk_t h hi
  simp only at e2
  obtain ⟨q1, q2, q3, q4⟩ := h
  obtain ⟨z1, z2, z3, z4⟩ := h2
  have hpl : ∀ j, j ≤ lo.length → pl (lo ++ (c1, xs.take 64) :: (d1, xs.drop 64) :: ro) j = pl (lo ++ (c1, xs) :: ro) j := by
    intro j hj
    unfold pl
    rw [List.take_append_of_le_length hj, List.take_append_of_le_length hj]
  have hp2 : pl (lo ++ (c1, xs.take 64) :: (d1, xs.drop 64) :: ro) (lo.length + 2) = (flat lo).length + 128 := by
    have e3 : lo ++ (c1, xs.take 64) :: (d1, xs.drop 64) :: ro = (lo ++ [(c1, xs.take 64)]) ++ (d1, xs.drop 64) :: ro := by simp
    have e4 : lo.length + 2 = (lo ++ [(c1, xs.take 64)]).length + 1 := by simp
    rw [e3, e4, pl_at1, flat_app, flat_cons, flat_nil, List.length_append]
    simp only [List.append_nil, List.length_take, List.length_drop]
    omega
  rcases Nat.lt_or_ge ag2 lo.length with k | k
  · exfalso
    have a1 := q4 ag2 k
    simp only [if_true] at a1
    rcases z3 with z3 | z3
    · rw [List.length_append, List.length_cons, List.length_cons] at z3; omega
    · simp only [if_true] at z3
      rw [hpl _ (by omega)] at z3
      omega
  · rcases Nat.lt_or_ge (lo.length + 1) ag2 with k2 | k2
    · exfalso
      have a1 := z4 (lo.length + 1) k2
      simp only [if_true] at a1
      rw [hp2] at a1
      omega
    · omega
theorem Adj_split {lo ro : Chs} {c1 d1 : Nat} {xs : List Int32} (h : Adj (lo ++ (c1, xs) :: ro)) (hx : xs.length = 128) : Adj (lo ++ (c1, xs.take 64) :: (d1, xs.drop 64) :: ro) := by
  have h64 : (xs.take 64).length = 64 := by simp; omega
  have h65 : (xs.drop 64).length = 64 := by simp; omega
  rw [Adj_app] at h ⊢
  refine ⟨?_, by simp only [h64, h65]; omega, ?_⟩
  · have key : ∀ l : Chs, Adj (l ++ [(c1, xs)]) → Adj (l ++ [(c1, xs.take 64)]) := by
      intro l
      induction l with
      | nil => intro _; trivial
      | cons a l ih =>
        intro ha
        cases l with
        | nil => exact ⟨by simp only [h64]; omega, trivial⟩
        | cons b l =>
          have ha' : 64 ≤ a.2.length + b.2.length ∧ Adj (b :: l ++ [(c1, xs)]) := ha
          exact (show 64 ≤ a.2.length + b.2.length ∧ Adj (b :: l ++ [(c1, xs.take 64)]) from ⟨ha'.1, ih ha'.2⟩)
    exact key lo h.1
  · cases ro with
    | nil => trivial
    | cons z ro => exact ⟨by simp only [h65]; omega, h.2.2⟩
theorem Adj_set {lo ro : Chs} {c1 : Nat} {xs ys : List Int32} (h : Adj (lo ++ (c1, xs) :: ro)) (hl : xs.length ≤ ys.length) : Adj (lo ++ (c1, ys) :: ro) := by
  rw [Adj_app] at h ⊢
  exact ⟨Adj_tl h.1 hl, Adj_hd h.2 hl⟩
set_option maxHeartbeats 4000000 in
set_option maxRecDepth 100000 in
/-- insert one value -/
theorem c_LT_insert (l : Launch) (D : va_G) (cI cZ cL : ClassId) (q : Nat → Nat) (V : Nat → Int32) (E : Nat → Bool) (F B O R : Nat → Nat) (us ag0 rs0 : Nat) (fl : List Nat) (cs : Chs) (hR : Rep cs fl us V E F B O R) (hAd : Adj cs) (i : Nat) (v : Int32) (hi : i ≤ (flat cs).length) (hn : (flat cs).length < 20000) : CV l y_LT_insert hd_LT_insert rmS D (TY cI cZ cL) [.ref (q 0), .int (nI i), .int v, .int (bI (v == 10))] (wT q cI cZ V E F B O R fl.length us cs.length (flat cs).length ((flat cs).count 10) ag0 rs0) (fun u : TXS => OKS u (insN (flat cs) i [v])) (fun u => wS q cI cZ u) := by
  refine CV.mk (by decide +kernel) (Nat.le_of_ble_eq_true rfl) ?_
  intro p e s m below meth c A ls C hin hA hP hD hl
  obtain ⟨hx, hb, hml, hown, hB, hlk, hr, htb, hK, hX⟩ := id C
  have hS : va_S A s.heap s.heap [] := va_S.rf
  have hl : lv_has ls 6 [(0, .ref (q 0)), (1, .int (nI i)), (2, .int v), (3, .int (bI (v == 10)))] := hl
  have hcnt : (flat cs).count 10 ≤ (flat cs).length := List.count_le_length
  obtain ⟨hl1, hl2, hl3, hl4⟩ := Rep_len hR
  have hmany := Adj_many cs.length cs (Nat.le_refl _) hAd
  have tail : ∀ (fl1 : List Nat) (us1 : Nat) (V1 : Nat → Int32) (E1 : Nat → Bool) (F1 B1 O1 : Nat → Nat) (lo ro : Chs) (c1 : Nat) (xs : List Int32) (rs ch1 ag1 : Nat) (H : Heap) (locs : List Loc), Rep (lo ++ (c1, xs) :: ro) fl1 us1 V1 E1 F1 B1 O1 R → Adj (lo ++ (c1, xs) :: ro) → flat (lo ++ (c1, xs) :: ro) = flat cs → xs.length < 128 → rs ≤ xs.length → i = (flat lo).length + rs → ch1 = (lo ++ (c1, xs) :: ro).length → ag1 = lo.length → va_P D classes (wT q cI cZ V1 E1 F1 B1 O1 R fl1.length us1 ch1 (flat cs).length ((flat cs).count 10) ag1 rs) H → va_D A (wT q cI cZ V1 E1 F1 B1 O1 R fl1.length us1 ch1 (flat cs).length ((flat cs).count 10) ag1 rs) → va_S A s.heap H locs → W p l e rmS s m ([.ref (q 0), .int (nI i), .int v, .int (bI (v == 10))] : List Value).toArray below meth c H locs 0 0 (MQ below (QCv D (TY cI cZ cL) (fun u : TXS => OKS u (insN (flat cs) i [v])) (fun u => wS q cI cZ u) A) ([.ref (q 0), .int (nI i), .int v, .int (bI (v == 10))] : List Value).toArray s rmS.cells rmS.slots A) (F0 m 40 ls []) := by
    intro fl1 us1 V1 E1 F1 B1 O1 lo ro c1 xs rs ch1 ag1 H locs hR1 hAd1 hfl hxs hrs hieq hch hag hP hD hS
    obtain ⟨o1, o2, o3, o4, o5, o6, o7⟩ := Rep_at hR1
    rw [← hag] at o1
    obtain ⟨m1, m2, m3, m4⟩ := Rep_len hR1
    rw [← hch] at m2
    have hag2 : ag1 < ch1 := by rw [hag, hch, List.length_append, List.length_cons]; omega
    have hxc : xs.count 10 ≤ xs.length := List.count_le_length
    have after : ∀ (V2 : Nat → Int32) (E2 : Nat → Bool) (H : Heap) (locs : List Loc) (ls : Array Slot), Up1 (128 * c1) xs.length rs V1 V2 → Up1 (128 * c1) xs.length rs E1 E2 → va_P D classes (wT q cI cZ V2 E2 F1 B1 O1 R fl1.length us1 ch1 (flat cs).length ((flat cs).count 10) ag1 rs) H → va_D A (wT q cI cZ V2 E2 F1 B1 O1 R fl1.length us1 ch1 (flat cs).length ((flat cs).count 10) ag1 rs) → va_S A s.heap H locs → lv_has ls 6 [(4, .int (nI c1)), (0, .ref (q 0)), (1, .int (nI i)), (2, .int v), (3, .int (bI (v == 10)))] → W p l e rmS s m ([.ref (q 0), .int (nI i), .int v, .int (bI (v == 10))] : List Value).toArray below meth c H locs 0 0 (MQ below (QCv D (TY cI cZ cL) (fun u : TXS => OKS u (insN (flat cs) i [v])) (fun u => wS q cI cZ u) A) ([.ref (q 0), .int (nI i), .int v, .int (bI (v == 10))] : List Value).toArray s rmS.cells rmS.slots A) (F0 m 135 ls []) := by
      intro V2 E2 H locs ls hV hE hP hD hS hl
      have hfl2 := flat_ins (l := lo) (r := ro) (c := c1) (v := v) hrs
      rw [hfl, ← hieq] at hfl2
      have e1 : ch1 = (lo ++ (c1, insN xs rs [v]) :: ro).length := by rw [hch, List.length_append, List.length_append, List.length_cons, List.length_cons]
      have e2 : (flat cs).length + 1 = (flat (lo ++ (c1, insN xs rs [v]) :: ro)).length := by rw [hfl2, insN_len hi]; rfl
      have e3 := ins1_count (flat cs) i v
      rw [← hfl2] at e3
      have key : ∀ B3 : Nat → Nat, B3 c1 = xs.count 10 + (if v = 10 then 1 else 0) → (∀ j, j ≠ c1 → B3 j = B1 j) → OKS (lo ++ (c1, insN xs rs [v]) :: ro, fl1, us1, upd V2 (128 * c1 + rs) v, upB E2 (128 * c1 + rs) (v == 10), upN F1 c1 (F1 c1 + 1), B3, O1, R, ag1, rs) (insN (flat cs) i [v]) := by
        intro B3 hb1 hb2
        have hrep : Rep (lo ++ (c1, insN xs rs [v]) :: ro) fl1 us1 (upd V2 (128 * c1 + rs) v) (upB E2 (128 * c1 + rs) (v == 10)) (upN F1 c1 (F1 c1 + 1)) B3 O1 R := Rep_set hR1 (Ck_ins (hR1.1 (c1, xs) (by simp)) hxs hrs (fun j q1 q2 => by rw [upd_n (by omega)]; exact hV.1 j q1 q2) (fun j q1 => by rw [upd_n (by omega)]; exact hV.2 _ (by omega)) upd_s (fun j q1 q2 => by rw [upB_n (by omega)]; exact hE.1 j q1 q2) (fun j q1 => by rw [upB_n (by omega)]; exact hE.2 _ (by omega)) upB_s (by rw [upN_s, o3]) hb1) (fun j hj => upN_n hj) hb2 (fun j hj => by rw [upd_n (by omega)]; exact hV.2 _ (by omega)) (fun j hj => by rw [upB_n (by omega)]; exact hE.2 _ (by omega))
        exact ⟨hrep, Adj_set hAd1 (by rw [insN_len hrs]; simp), hfl2⟩
      refine lv_aload_n hx hb d_LT_insert_135 rfl (lv_at hl 1 rfl) ?_
      refine g_LT hx hb hB hown hK hP 0 rfl 0 (by decide) k_24 rfl d_LT_insert_136 ?_
      refine lv_sipush (v := nI 128) hx hb d_LT_insert_139 (by decide) ?_
      refine lv_iload hx hb d_LT_insert_142 (lv_at hl 0 rfl) ?_
      refine ln_imul hx hb d_LT_insert_144 ?_
      refine lv_aload_n hx hb d_LT_insert_145 rfl (lv_at hl 1 rfl) ?_
      refine g_LT hx hb hB hown hK hP 0 rfl 12 (by decide) k_38 rfl d_LT_insert_146 ?_
      refine ln_iadd hx hb d_LT_insert_149 ?_
      refine lv_iload_n hx hb d_LT_insert_150 rfl (lv_at hl 3 rfl) ?_
      refine ln_vast hx hb hK hP hD hS 1 0 rfl rfl (by omega) (by omega) d_LT_insert_151 (fun H locs hP hD hS => ?_)
      have hP : va_P D classes (wT q cI cZ (upd V2 ((128 * c1) + rs) v) E2 F1 B1 O1 R fl1.length us1 ch1 ((flat cs).length) ((flat cs).count 10) ag1 rs) H := hP
      have hD : va_D A (wT q cI cZ (upd V2 ((128 * c1) + rs) v) E2 F1 B1 O1 R fl1.length us1 ch1 ((flat cs).length) ((flat cs).count 10) ag1 rs) := hD
      refine lv_aload_n hx hb d_LT_insert_152 rfl (lv_at hl 1 rfl) ?_
      refine g_LT hx hb hB hown hK hP 0 rfl 1 (by decide) k_25 rfl d_LT_insert_153 ?_
      refine lv_sipush (v := nI 128) hx hb d_LT_insert_156 (by decide) ?_
      refine lv_iload hx hb d_LT_insert_159 (lv_at hl 0 rfl) ?_
      refine ln_imul hx hb d_LT_insert_161 ?_
      refine lv_aload_n hx hb d_LT_insert_162 rfl (lv_at hl 1 rfl) ?_
      refine g_LT hx hb hB hown hK hP 0 rfl 12 (by decide) k_38 rfl d_LT_insert_163 ?_
      refine ln_iadd hx hb d_LT_insert_166 ?_
      refine lv_iload_n hx hb d_LT_insert_167 rfl (lv_at hl 4 rfl) ?_
      refine ln_zast hx hb hK hP hD hS 2 1 rfl rfl (by omega) (by omega) d_LT_insert_168 (fun H locs hP hD hS => ?_)
      have hP : va_P D classes (wT q cI cZ (upd V2 ((128 * c1) + rs) v) (upB E2 ((128 * c1) + rs) (v == 10)) F1 B1 O1 R fl1.length us1 ch1 ((flat cs).length) ((flat cs).count 10) ag1 rs) H := hP
      have hD : va_D A (wT q cI cZ (upd V2 ((128 * c1) + rs) v) (upB E2 ((128 * c1) + rs) (v == 10)) F1 B1 O1 R fl1.length us1 ch1 ((flat cs).length) ((flat cs).count 10) ag1 rs) := hD
      refine lv_aload_n hx hb d_LT_insert_169 rfl (lv_at hl 1 rfl) ?_
      refine g_LT hx hb hB hown hK hP 0 rfl 2 (by decide) k_26 rfl d_LT_insert_170 ?_
      refine lv_iload hx hb d_LT_insert_173 (lv_at hl 0 rfl) ?_
      refine lv_dup2_11 hx hb d_LT_insert_175 rfl rfl ?_
      refine ln_iald hx hb hK hP 3 0 rfl rfl (by omega) (by omega) d_LT_insert_176 ?_
      refine lv_iconst (v := nI 1) hx hb d_LT_insert_177 (by decide) ?_
      refine ln_iadd hx hb d_LT_insert_178 ?_
      refine ln_iast hx hb hK hP hD hS 3 0 rfl rfl (by omega) (by omega) d_LT_insert_179 (fun H locs hP hD hS => ?_)
      have hP : va_P D classes (wT q cI cZ (upd V2 ((128 * c1) + rs) v) (upB E2 ((128 * c1) + rs) (v == 10)) (upN F1 c1 ((F1 c1) + 1)) B1 O1 R fl1.length us1 ch1 ((flat cs).length) ((flat cs).count 10) ag1 rs) H := hP
      have hD : va_D A (wT q cI cZ (upd V2 ((128 * c1) + rs) v) (upB E2 ((128 * c1) + rs) (v == 10)) (upN F1 c1 ((F1 c1) + 1)) B1 O1 R fl1.length us1 ch1 ((flat cs).length) ((flat cs).count 10) ag1 rs) := hD
      refine lv_aload_n hx hb d_LT_insert_180 rfl (lv_at hl 1 rfl) ?_
      refine lv_dup hx hb d_LT_insert_181 rfl ?_
      refine g_LT hx hb hB hown hK hP 0 rfl 9 (by decide) k_34 rfl d_LT_insert_182 ?_
      refine lv_iconst (v := nI 1) hx hb d_LT_insert_185 (by decide) ?_
      refine ln_iadd hx hb d_LT_insert_186 ?_
      refine p_LT hx hb hB hown hK hP hD hS 0 rfl 9 (by decide) k_34 rfl rfl (Nat.le_of_ble_eq_true rfl) d_LT_insert_187 (fun H locs hP hD hS => ?_)
      have hP : va_P D classes (wT q cI cZ (upd V2 ((128 * c1) + rs) v) (upB E2 ((128 * c1) + rs) (v == 10)) (upN F1 c1 ((F1 c1) + 1)) B1 O1 R fl1.length us1 ch1 (((flat cs).length) + 1) ((flat cs).count 10) ag1 rs) H := hP
      have hD : va_D A (wT q cI cZ (upd V2 ((128 * c1) + rs) v) (upB E2 ((128 * c1) + rs) (v == 10)) (upN F1 c1 ((F1 c1) + 1)) B1 O1 R fl1.length us1 ch1 (((flat cs).length) + 1) ((flat cs).count 10) ag1 rs) := hD
      refine lv_iload_n hx hb d_LT_insert_190 rfl (lv_at hl 4 rfl) ?_
      refine ln_if_ne (tgt := 195) hx hb d_LT_insert_191 (by decide) (fun hc => ?_) (fun hc => ?_)
      · skip
        have hne : v = 10 := by simpa using hc
        rw [if_pos hne] at e3
        refine lv_aload_n hx hb d_LT_insert_195 rfl (lv_at hl 1 rfl) ?_
        refine g_LT hx hb hB hown hK hP 0 rfl 3 (by decide) k_27 rfl d_LT_insert_196 ?_
        refine lv_iload hx hb d_LT_insert_199 (lv_at hl 0 rfl) ?_
        refine lv_dup2_11 hx hb d_LT_insert_201 rfl rfl ?_
        refine ln_iald hx hb hK hP 4 0 rfl rfl (by omega) (by omega) d_LT_insert_202 ?_
        refine lv_iconst (v := nI 1) hx hb d_LT_insert_203 (by decide) ?_
        refine ln_iadd hx hb d_LT_insert_204 ?_
        refine ln_iast hx hb hK hP hD hS 4 0 rfl rfl (by omega) (by omega) d_LT_insert_205 (fun H locs hP hD hS => ?_)
        have hP : va_P D classes (wT q cI cZ (upd V2 ((128 * c1) + rs) v) (upB E2 ((128 * c1) + rs) (v == 10)) (upN F1 c1 ((F1 c1) + 1)) (upN B1 c1 ((B1 c1) + 1)) O1 R fl1.length us1 ch1 (((flat cs).length) + 1) ((flat cs).count 10) ag1 rs) H := hP
        have hD : va_D A (wT q cI cZ (upd V2 ((128 * c1) + rs) v) (upB E2 ((128 * c1) + rs) (v == 10)) (upN F1 c1 ((F1 c1) + 1)) (upN B1 c1 ((B1 c1) + 1)) O1 R fl1.length us1 ch1 (((flat cs).length) + 1) ((flat cs).count 10) ag1 rs) := hD
        refine lv_aload_n hx hb d_LT_insert_206 rfl (lv_at hl 1 rfl) ?_
        refine lv_dup hx hb d_LT_insert_207 rfl ?_
        refine g_LT hx hb hB hown hK hP 0 rfl 10 (by decide) k_35 rfl d_LT_insert_208 ?_
        refine lv_iconst (v := nI 1) hx hb d_LT_insert_211 (by decide) ?_
        refine ln_iadd hx hb d_LT_insert_212 ?_
        refine p_LT hx hb hB hown hK hP hD hS 0 rfl 10 (by decide) k_35 rfl rfl (Nat.le_of_ble_eq_true rfl) d_LT_insert_213 (fun H locs hP hD hS => ?_)
        have hP : va_P D classes (wT q cI cZ (upd V2 ((128 * c1) + rs) v) (upB E2 ((128 * c1) + rs) (v == 10)) (upN F1 c1 ((F1 c1) + 1)) (upN B1 c1 ((B1 c1) + 1)) O1 R fl1.length us1 ch1 (((flat cs).length) + 1) (((flat cs).count 10) + 1) ag1 rs) H := hP
        have hD : va_D A (wT q cI cZ (upd V2 ((128 * c1) + rs) v) (upB E2 ((128 * c1) + rs) (v == 10)) (upN F1 c1 ((F1 c1) + 1)) (upN B1 c1 ((B1 c1) + 1)) O1 R fl1.length us1 ch1 (((flat cs).length) + 1) (((flat cs).count 10) + 1) ag1 rs) := hD
        rw [e1, e2] at hP hD
        rw [← e3] at hP hD
        exact e_Cv C hS ((lo ++ (c1, insN xs rs [v]) :: ro, fl1, us1, upd V2 (128 * c1 + rs) v, upB E2 (128 * c1 + rs) (v == 10), upN F1 c1 (F1 c1 + 1), upN B1 c1 (B1 c1 + 1), O1, R, ag1, rs)) (key (upN B1 c1 (B1 c1 + 1)) (by rw [if_pos hne, upN_s, o4]) (fun j hj => upN_n hj)) hP hD (by decide) (by decide) d_LT_insert_216
      · skip
        have hne : ¬ v = 10 := by simpa using hc
        rw [if_neg hne] at e3
        rw [e1, e2] at hP hD
        rw [Nat.add_zero] at e3
        rw [← e3] at hP hD
        exact e_Cv C hS ((lo ++ (c1, insN xs rs [v]) :: ro, fl1, us1, upd V2 (128 * c1 + rs) v, upB E2 (128 * c1 + rs) (v == 10), upN F1 c1 (F1 c1 + 1), B1, O1, R, ag1, rs)) (key B1 (by rw [if_neg hne]; exact o4) (fun j hj => rfl)) hP hD (by decide) (by decide) d_LT_insert_194
    have loop : ∀ (kk : Nat) (V2 : Nat → Int32) (E2 : Nat → Bool) (H : Heap) (locs : List Loc) (ls : Array Slot), rs ≤ kk → kk ≤ xs.length → Up1 (128 * c1) xs.length kk V1 V2 → Up1 (128 * c1) xs.length kk E1 E2 → va_P D classes (wT q cI cZ V2 E2 F1 B1 O1 R fl1.length us1 ch1 (flat cs).length ((flat cs).count 10) ag1 rs) H → va_D A (wT q cI cZ V2 E2 F1 B1 O1 R fl1.length us1 ch1 (flat cs).length ((flat cs).count 10) ag1 rs) → va_S A s.heap H locs → lv_has ls 6 [(5, .int (nI kk)), (4, .int (nI c1)), (0, .ref (q 0)), (1, .int (nI i)), (2, .int v), (3, .int (bI (v == 10)))] → W p l e rmS s m ([.ref (q 0), .int (nI i), .int v, .int (bI (v == 10))] : List Value).toArray below meth c H locs 0 0 (MQ below (QCv D (TY cI cZ cL) (fun u : TXS => OKS u (insN (flat cs) i [v])) (fun u => wS q cI cZ u) A) ([.ref (q 0), .int (nI i), .int v, .int (bI (v == 10))] : List Value).toArray s rmS.cells rmS.slots A) (F0 m 60 ls []) := by
      intro kk
      induction kk with
      | zero =>
        intro V2 E2 H locs ls h1 h2 hV hE hP hD hS hl
        refine lv_iload hx hb d_LT_insert_60 (lv_at hl 0 rfl) ?_
        refine lv_aload_n hx hb d_LT_insert_62 rfl (lv_at hl 2 rfl) ?_
        refine g_LT hx hb hB hown hK hP 0 rfl 12 (by decide) k_38 rfl d_LT_insert_63 ?_
        refine ln_icmp_le (tgt := 135) hx hb d_LT_insert_66 (by decide) (by omega) (by omega) (fun hc => ?_) (fun hc => ?_)
        · skip
          have hq : 0 = rs := by omega
          exact after V2 E2 H locs ls (hq ▸ hV) (hq ▸ hE) hP hD hS (lv_sub hl [1, 2, 3, 4, 5] rfl)
        · skip
          exact absurd hc (by omega)
      | succ kk ih =>
        intro V2 E2 H locs ls h1 h2 hV hE hP hD hS hl
        refine lv_iload hx hb d_LT_insert_60 (lv_at hl 0 rfl) ?_
        refine lv_aload_n hx hb d_LT_insert_62 rfl (lv_at hl 2 rfl) ?_
        refine g_LT hx hb hB hown hK hP 0 rfl 12 (by decide) k_38 rfl d_LT_insert_63 ?_
        refine ln_icmp_le (tgt := 135) hx hb d_LT_insert_66 (by decide) (by omega) (by omega) (fun hc => ?_) (fun hc => ?_)
        · skip
          have hq : kk + 1 = rs := by omega
          exact after V2 E2 H locs ls (hq ▸ hV) (hq ▸ hE) hP hD hS (lv_sub hl [1, 2, 3, 4, 5] rfl)
        · skip
          refine lv_aload_n hx hb d_LT_insert_69 rfl (lv_at hl 2 rfl) ?_
          refine g_LT hx hb hB hown hK hP 0 rfl 0 (by decide) k_24 rfl d_LT_insert_70 ?_
          refine lv_sipush (v := nI 128) hx hb d_LT_insert_73 (by decide) ?_
          refine lv_iload hx hb d_LT_insert_76 (lv_at hl 1 rfl) ?_
          refine ln_imul hx hb d_LT_insert_78 ?_
          refine lv_iload hx hb d_LT_insert_79 (lv_at hl 0 rfl) ?_
          refine ln_iadd hx hb d_LT_insert_81 ?_
          refine lv_aload_n hx hb d_LT_insert_82 rfl (lv_at hl 2 rfl) ?_
          refine g_LT hx hb hB hown hK hP 0 rfl 0 (by decide) k_24 rfl d_LT_insert_83 ?_
          refine lv_sipush (v := nI 128) hx hb d_LT_insert_86 (by decide) ?_
          refine lv_iload hx hb d_LT_insert_89 (lv_at hl 1 rfl) ?_
          refine ln_imul hx hb d_LT_insert_91 ?_
          refine lv_iload hx hb d_LT_insert_92 (lv_at hl 0 rfl) ?_
          refine ln_iadd hx hb d_LT_insert_94 ?_
          refine lv_iconst (v := nI 1) hx hb d_LT_insert_95 (by decide) ?_
          refine ln_isub hx hb d_LT_insert_96 (by omega) ?_
          refine ln_eqn (b := 128 * c1 + kk) (by omega) ?_
          refine ln_vald hx hb hK hP 1 0 rfl rfl (by omega) (by omega) d_LT_insert_97 ?_
          refine ln_vast hx hb hK hP hD hS 1 0 rfl rfl (by omega) (by omega) d_LT_insert_98 (fun H locs hP hD hS => ?_)
          have hP : va_P D classes (wT q cI cZ (upd V2 ((128 * c1) + (kk + 1)) (V2 (128 * c1 + kk))) E2 F1 B1 O1 R fl1.length us1 ch1 ((flat cs).length) ((flat cs).count 10) ag1 rs) H := hP
          have hD : va_D A (wT q cI cZ (upd V2 ((128 * c1) + (kk + 1)) (V2 (128 * c1 + kk))) E2 F1 B1 O1 R fl1.length us1 ch1 ((flat cs).length) ((flat cs).count 10) ag1 rs) := hD
          refine lv_aload_n hx hb d_LT_insert_99 rfl (lv_at hl 2 rfl) ?_
          refine g_LT hx hb hB hown hK hP 0 rfl 1 (by decide) k_25 rfl d_LT_insert_100 ?_
          refine lv_sipush (v := nI 128) hx hb d_LT_insert_103 (by decide) ?_
          refine lv_iload hx hb d_LT_insert_106 (lv_at hl 1 rfl) ?_
          refine ln_imul hx hb d_LT_insert_108 ?_
          refine lv_iload hx hb d_LT_insert_109 (lv_at hl 0 rfl) ?_
          refine ln_iadd hx hb d_LT_insert_111 ?_
          refine lv_aload_n hx hb d_LT_insert_112 rfl (lv_at hl 2 rfl) ?_
          refine g_LT hx hb hB hown hK hP 0 rfl 1 (by decide) k_25 rfl d_LT_insert_113 ?_
          refine lv_sipush (v := nI 128) hx hb d_LT_insert_116 (by decide) ?_
          refine lv_iload hx hb d_LT_insert_119 (lv_at hl 1 rfl) ?_
          refine ln_imul hx hb d_LT_insert_121 ?_
          refine lv_iload hx hb d_LT_insert_122 (lv_at hl 0 rfl) ?_
          refine ln_iadd hx hb d_LT_insert_124 ?_
          refine lv_iconst (v := nI 1) hx hb d_LT_insert_125 (by decide) ?_
          refine ln_isub hx hb d_LT_insert_126 (by omega) ?_
          refine ln_eqn (b := 128 * c1 + kk) (by omega) ?_
          refine ln_zald hx hb hK hP 2 1 rfl rfl (by omega) (by omega) d_LT_insert_127 ?_
          refine ln_zast hx hb hK hP hD hS 2 1 rfl rfl (by omega) (by omega) d_LT_insert_128 (fun H locs hP hD hS => ?_)
          have hP : va_P D classes (wT q cI cZ (upd V2 ((128 * c1) + (kk + 1)) (V2 (128 * c1 + kk))) (upB E2 ((128 * c1) + (kk + 1)) (E2 (128 * c1 + kk))) F1 B1 O1 R fl1.length us1 ch1 ((flat cs).length) ((flat cs).count 10) ag1 rs) H := hP
          have hD : va_D A (wT q cI cZ (upd V2 ((128 * c1) + (kk + 1)) (V2 (128 * c1 + kk))) (upB E2 ((128 * c1) + (kk + 1)) (E2 (128 * c1 + kk))) F1 B1 O1 R fl1.length us1 ch1 ((flat cs).length) ((flat cs).count 10) ag1 rs) := hD
          refine lv_iinc (v := (nI (kk + 1 - 1))) (lv' := [(5, .int (nI (kk + 1 - 1))), (4, .int (nI c1)), (0, .ref (q 0)), (1, .int (nI i)), (2, .int v), (3, .int (bI (v == 10)))]) hx hb d_LT_insert_129 hl (k := 0) rfl (ln_m1 (by omega)) (by decide) rfl (fun ls hl => ?_)
          refine lv_goto (tgt := 60) hx hb d_LT_insert_132 (by decide) ?_
          exact ih _ _ H locs ls (by omega) (by omega) (Up1_s hV (by omega) (by rw [Nat.add_assoc, upd_s]) (fun j hj => upd_n (by omega))) (Up1_s hE (by omega) (by rw [Nat.add_assoc, upB_s]) (fun j hj => upB_n (by omega))) hP hD hS (lv_sub hl [0, 1, 2, 3, 4, 5] rfl)
    refine lv_aload_n hx hb d_LT_insert_40 rfl (lv_at hl 0 rfl) ?_
    refine g_LT hx hb hB hown hK hP 0 rfl 4 (by decide) k_28 rfl d_LT_insert_41 ?_
    refine lv_aload_n hx hb d_LT_insert_44 rfl (lv_at hl 0 rfl) ?_
    refine g_LT hx hb hB hown hK hP 0 rfl 11 (by decide) k_37 rfl d_LT_insert_45 ?_
    refine ln_iald hx hb hK hP 5 0 rfl rfl (by omega) (by omega) d_LT_insert_48 ?_
    refine ln_eqn (b := c1) (o1) ?_
    refine lv_istore (lv' := [(4, .int (nI c1)), (0, .ref (q 0)), (1, .int (nI i)), (2, .int v), (3, .int (bI (v == 10)))]) hx hb d_LT_insert_49 hl (by decide) rfl (fun ls hl => ?_)
    refine lv_aload_n hx hb d_LT_insert_51 rfl (lv_at hl 1 rfl) ?_
    refine g_LT hx hb hB hown hK hP 0 rfl 2 (by decide) k_26 rfl d_LT_insert_52 ?_
    refine lv_iload hx hb d_LT_insert_55 (lv_at hl 0 rfl) ?_
    refine ln_iald hx hb hK hP 3 0 rfl rfl (by omega) (by omega) d_LT_insert_57 ?_
    refine ln_eqn (b := xs.length) (o3) ?_
    refine lv_istore (lv' := [(5, .int (nI xs.length)), (4, .int (nI c1)), (0, .ref (q 0)), (1, .int (nI i)), (2, .int v), (3, .int (bI (v == 10)))]) hx hb d_LT_insert_58 hl (by decide) rfl (fun ls hl => ?_)
    exact loop xs.length V1 E1 H locs ls hrs (Nat.le_refl _) Up1_0 Up1_0 hP hD hS (lv_sub hl [0, 1, 2, 3, 4, 5] rfl)
  refine lv_aload_n hx hb d_LT_insert_0 rfl (lv_at hl 0 rfl) ?_
  refine lv_iload_n hx hb d_LT_insert_1 rfl (lv_at hl 1 rfl) ?_
  refine lv_iconst (v := nI 1) hx hb d_LT_insert_2 (by decide) ?_
  refine lv_eqi (y := bI true) (rfl) ?_
  refine call_Vv (As := [.int (nI i), .int (bI true)]) (rest := []) (ci := 0) (wr := []) C hA kv_LT_45 (c_LT_seek l D cI cZ cL q V E F B O R fl.length us (flat cs).length ((flat cs).count 10) ag0 rs0 fl cs hR i true (by omega)) hP hD hS [0, 1, 2, 3, 4, 5, 6] [] rfl rfl ⟨by decide, by decide⟩ (by decide) 0 rfl rfl rfl rfl hl.1 rfl (Nat.le_of_ble_eq_true rfl) ⟨by decide, by decide⟩ ⟨by decide, by decide⟩ d_LT_insert_3 (fun u1 H locs hsk hP hD hS => ?_)
  obtain ⟨ag, rs⟩ := u1
  simp only at hsk
  obtain ⟨lo, c1, xs, ro, hcs, rfl⟩ := ex_at hsk.1
  have hP : va_P D classes (wT q cI cZ V E F B O R fl.length us cs.length ((flat cs).length) ((flat cs).count 10) lo.length rs) H := hP
  have hD : va_D A (wT q cI cZ V E F B O R fl.length us cs.length ((flat cs).length) ((flat cs).count 10) lo.length rs) := hD
  have hR1 := hR
  rw [hcs] at hR1
  have hAd1 := hAd
  rw [hcs] at hAd1
  have hsk1 := hsk
  rw [hcs] at hsk1
  have hi1 := hi
  rw [hcs] at hi1
  obtain ⟨e1, e2⟩ := Sk_t hsk1 hi1
  simp only at e2
  obtain ⟨o1, o2, o3, o4, o5, o6, o7⟩ := Rep_at hR1
  have hlo : lo.length < cs.length := hsk.1
  refine lv_aload_n hx hb d_LT_insert_6 rfl (lv_at hl 0 rfl) ?_
  refine g_LT hx hb hB hown hK hP 0 rfl 2 (by decide) k_26 rfl d_LT_insert_7 ?_
  refine lv_aload_n hx hb d_LT_insert_10 rfl (lv_at hl 0 rfl) ?_
  refine g_LT hx hb hB hown hK hP 0 rfl 4 (by decide) k_28 rfl d_LT_insert_11 ?_
  refine lv_aload_n hx hb d_LT_insert_14 rfl (lv_at hl 0 rfl) ?_
  refine g_LT hx hb hB hown hK hP 0 rfl 11 (by decide) k_37 rfl d_LT_insert_15 ?_
  refine ln_iald hx hb hK hP 5 0 rfl rfl (by omega) (by omega) d_LT_insert_18 ?_
  refine ln_eqn (b := c1) (o1) ?_
  refine ln_iald hx hb hK hP 3 0 rfl rfl (by omega) (by omega) d_LT_insert_19 ?_
  refine ln_eqn (b := xs.length) (o3) ?_
  refine lv_sipush (v := nI 128) hx hb d_LT_insert_20 (by decide) ?_
  refine ln_icmp_ne (tgt := 40) hx hb d_LT_insert_23 (by decide) (by omega) (by omega) (fun hc => ?_) (fun hc => ?_)
  · skip
    exact tail fl us V E F B O lo ro c1 xs rs cs.length lo.length H locs hR1 hAd1 (by rw [← hcs]) (by omega) e2 e1 (by rw [hcs]) rfl hP hD hS
  · skip
    refine lv_aload_n hx hb d_LT_insert_26 rfl (lv_at hl 0 rfl) ?_
    refine lv_aload_n hx hb d_LT_insert_27 rfl (lv_at hl 0 rfl) ?_
    refine g_LT hx hb hB hown hK hP 0 rfl 11 (by decide) k_37 rfl d_LT_insert_28 ?_
    refine call_Vv (As := [.int (nI lo.length)]) (rest := []) (ci := 0) (wr := []) C hA kv_LT_49 (c_LT_split l D cI cZ cL q V E F B O R fl.length us cs.length (flat cs).length ((flat cs).count 10) lo.length rs fl lo ro c1 xs hR1 rfl (by rw [hcs]) hc (by omega)) hP hD hS [0, 1, 2, 3, 4, 5, 6] [] rfl rfl ⟨by decide, by decide⟩ (by decide) 0 rfl rfl rfl rfl hl.1 rfl (Nat.le_of_ble_eq_true rfl) ⟨by decide, by decide⟩ ⟨by decide, by decide⟩ d_LT_insert_31 (fun u2 H locs hsp hP hD hS => ?_)
    obtain ⟨d1, fl2, us2, V2, E2, F2, B2, O2⟩ := u2
    simp only at hsp
    have hch2 : cs.length + 1 = (lo ++ (c1, xs.take 64) :: (d1, xs.drop 64) :: ro).length := by rw [hcs, List.length_append, List.length_append, List.length_cons, List.length_cons, List.length_cons]; omega
    have hP : va_P D classes (wT q cI cZ V2 E2 F2 B2 O2 R fl2.length us2 (cs.length + 1) ((flat cs).length) ((flat cs).count 10) lo.length rs) H := hP
    have hD : va_D A (wT q cI cZ V2 E2 F2 B2 O2 R fl2.length us2 (cs.length + 1) ((flat cs).length) ((flat cs).count 10) lo.length rs) := hD
    rw [hch2] at hP hD
    refine lv_aload_n hx hb d_LT_insert_34 rfl (lv_at hl 0 rfl) ?_
    refine lv_iload_n hx hb d_LT_insert_35 rfl (lv_at hl 1 rfl) ?_
    refine lv_iconst (v := nI 1) hx hb d_LT_insert_36 (by decide) ?_
    refine lv_eqi (y := bI true) (rfl) ?_
    refine call_Vv (As := [.int (nI i), .int (bI true)]) (rest := []) (ci := 0) (wr := []) C hA kv_LT_45 (c_LT_seek l D cI cZ cL q V2 E2 F2 B2 O2 R fl2.length us2 (flat cs).length ((flat cs).count 10) lo.length rs fl2 (lo ++ (c1, xs.take 64) :: (d1, xs.drop 64) :: ro) hsp i true (by omega)) hP hD hS [0, 1, 2, 3, 4, 5, 6] [] rfl rfl ⟨by decide, by decide⟩ (by decide) 0 rfl rfl rfl rfl hl.1 rfl (Nat.le_of_ble_eq_true rfl) ⟨by decide, by decide⟩ ⟨by decide, by decide⟩ d_LT_insert_37 (fun u1 H locs hsk2 hP hD hS => ?_)
    obtain ⟨ag2, rs2⟩ := u1
    simp only at hsk2
    have hag := seek_again hsk1 hi1 hc hsk2
    have hAd2 := Adj_split (d1 := d1) hAd1 hc
    have hfs := flat_split lo ro c1 d1 xs
    rw [← hcs] at hfs
    have hP : va_P D classes (wT q cI cZ V2 E2 F2 B2 O2 R fl2.length us2 (lo ++ (c1, xs.take 64) :: (d1, xs.drop 64) :: ro).length (flat cs).length ((flat cs).count 10) ag2 rs2) H := hP
    have hD : va_D A (wT q cI cZ V2 E2 F2 B2 O2 R fl2.length us2 (lo ++ (c1, xs.take 64) :: (d1, xs.drop 64) :: ro).length (flat cs).length ((flat cs).count 10) ag2 rs2) := hD
    have h64 : (xs.take 64).length = 64 := by simp; omega
    have h65 : (xs.drop 64).length = 64 := by simp; omega
    rcases hag with rfl | hag
    · skip
      obtain ⟨y1, y2⟩ := Sk_t hsk2 (by rw [hfs]; exact hi)
      simp only at y2
      exact tail fl2 us2 V2 E2 F2 B2 O2 lo ((d1, xs.drop 64) :: ro) c1 (xs.take 64) rs2 _ lo.length H locs hsp hAd2 hfs (by omega) y2 y1 rfl rfl hP hD hS
    · skip
      have hre : lo ++ (c1, xs.take 64) :: (d1, xs.drop 64) :: ro = (lo ++ [(c1, xs.take 64)]) ++ (d1, xs.drop 64) :: ro := by simp
      have hag3 : ag2 = (lo ++ [(c1, xs.take 64)]).length := by rw [hag]; simp
      rw [hre] at hsp hAd2 hfs hsk2
      rw [hag3] at hsk2
      obtain ⟨y1, y2⟩ := Sk_t hsk2 (by rw [hfs]; exact hi)
      simp only at y2
      exact tail fl2 us2 V2 E2 F2 B2 O2 (lo ++ [(c1, xs.take 64)]) ro d1 (xs.drop 64) rs2 _ ag2 H locs hsp hAd2 hfs (by omega) y2 y1 (by rw [hre]) hag3 hP hD hS
end
section
theorem Adj_init : ∀ {l : Chs} {x : Nat × List Int32}, Adj (l ++ [x]) → Adj l
  | [], _, _ => trivial
  | [_], _, _ => trivial
  | a :: b :: l, x, h => by
    have h' : 64 ≤ a.2.length + b.2.length ∧ Adj (b :: l ++ [x]) := h
    exact (show 64 ≤ a.2.length + b.2.length ∧ Adj (b :: l) from ⟨h'.1, Adj_init h'.2⟩)
theorem snoc_ch {lo : Chs} (h : 0 < lo.length) : ∃ (f : Chs) (b : Nat) (zs : List Int32), lo = f ++ [(b, zs)] := by
  have hne : lo ≠ [] := fun q => by rw [q] at h; exact absurd h (by simp)
  exact ⟨lo.dropLast, (lo.getLast hne).1, (lo.getLast hne).2, (List.dropLast_concat_getLast hne).symm⟩
theorem flat_getD {lo ro : Chs} {c1 rs : Nat} {xs : List Int32} (h : rs < xs.length) : (flat (lo ++ (c1, xs) :: ro)).getD ((flat lo).length + rs) 0 = xs.getD rs 0 := by
  rw [flat_app, flat_cons, getD_app_r (by omega), Nat.add_sub_cancel_left, getD_app_l h]
set_option maxHeartbeats 4000000 in
set_option maxRecDepth 100000 in
/-- delete one value -/
theorem c_LT_delete (l : Launch) (D : va_G) (cI cZ cL : ClassId) (q : Nat → Nat) (V : Nat → Int32) (E : Nat → Bool) (F B O R : Nat → Nat) (us ag0 rs0 : Nat) (fl : List Nat) (cs : Chs) (hR : Rep cs fl us V E F B O R) (hAd : Adj cs) (i : Nat) (hi : i < (flat cs).length) (hn : (flat cs).length ≤ 20000) : CV l y_LT_delete hd_LT_delete rmS D (TY cI cZ cL) [.ref (q 0), .int (nI i)] (wT q cI cZ V E F B O R fl.length us cs.length (flat cs).length ((flat cs).count 10) ag0 rs0) (fun u : TXS => OKS u (delN (flat cs) i 1)) (fun u => wS q cI cZ u) := by
  refine CV.mk (by decide +kernel) (Nat.le_of_ble_eq_true rfl) ?_
  intro p e s m below meth c A ls C hin hA hP hD hl
  obtain ⟨hx, hb, hml, hown, hB, hlk, hr, htb, hK, hX⟩ := id C
  have hS : va_S A s.heap s.heap [] := va_S.rf
  have hl : lv_has ls 4 [(0, .ref (q 0)), (1, .int (nI i))] := hl
  have hcnt : (flat cs).count 10 ≤ (flat cs).length := List.count_le_length
  obtain ⟨hl1, hl2, hl3, hl4⟩ := Rep_len hR
  refine lv_aload_n hx hb d_LT_delete_0 rfl (lv_at hl 0 rfl) ?_
  refine lv_iload_n hx hb d_LT_delete_1 rfl (lv_at hl 1 rfl) ?_
  refine lv_iconst (v := nI 0) hx hb d_LT_delete_2 (by decide) ?_
  refine lv_eqi (y := bI false) (rfl) ?_
  refine call_Vv (As := [.int (nI i), .int (bI false)]) (rest := []) (ci := 0) (wr := []) C hA kv_LT_45 (c_LT_seek l D cI cZ cL q V E F B O R fl.length us (flat cs).length ((flat cs).count 10) ag0 rs0 fl cs hR i false (by omega)) hP hD hS [0, 1, 2, 3, 4, 5, 6] [] rfl rfl ⟨by decide, by decide⟩ (by decide) 0 rfl rfl rfl rfl hl.1 rfl (Nat.le_of_ble_eq_true rfl) ⟨by decide, by decide⟩ ⟨by decide, by decide⟩ d_LT_delete_3 (fun u1 H locs hsk hP hD hS => ?_)
  obtain ⟨ag, rs⟩ := u1
  simp only at hsk
  obtain ⟨lo, c1, xs, ro, hcs, rfl⟩ := ex_at hsk.1
  have hP : va_P D classes (wT q cI cZ V E F B O R fl.length us cs.length ((flat cs).length) ((flat cs).count 10) lo.length rs) H := hP
  have hD : va_D A (wT q cI cZ V E F B O R fl.length us cs.length ((flat cs).length) ((flat cs).count 10) lo.length rs) := hD
  have hR1 := hR
  rw [hcs] at hR1
  have hAd1 := hAd
  rw [hcs] at hAd1
  have hsk1 := hsk
  rw [hcs] at hsk1
  have hi1 := hi
  rw [hcs] at hi1
  obtain ⟨e1, e2⟩ := Sk_f hsk1 hi1
  simp only at e2
  obtain ⟨o1, o2, o3, o4, o5, o6, o7⟩ := Rep_at hR1
  have hlo : lo.length < cs.length := hsk.1
  have hflat := flat_del (l := lo) (r := ro) (c := c1) e2
  rw [← hcs, ← e1] at hflat
  have hdl := delN_len (txt := flat cs) (i := i) (n := 1) (by omega)
  have hgd : (flat cs).getD i 0 = xs.getD rs 0 := by rw [hcs, e1]; exact flat_getD e2
  have hdc := del1_count (xs := flat cs) hi
  rw [hgd] at hdc
  have hdx := del1_count e2
  have hxc : xs.count 10 ≤ xs.length := List.count_le_length
  obtain ⟨hAl, hAr⟩ := (Adj_app _ _ _).mp hAd1
  have hcslen : cs.length = lo.length + ro.length + 1 := by rw [hcs, List.length_append, List.length_cons]; omega
  have p175 : ∀ (fl3 : List Nat) (V3 : Nat → Int32) (E3 : Nat → Bool) (F3 B3 O3 R3 : Nat → Nat) (ys : List Int32) (ro3 : Chs) (ch3 : Nat) (H : Heap) (locs : List Loc) (ls : Array Slot), Rep (lo ++ (c1, ys) :: ro3) fl3 us V3 E3 F3 B3 O3 R3 → Adj ((c1, ys) :: ro3) → flat (lo ++ (c1, ys) :: ro3) = (delN (flat cs) i 1) → ch3 = (lo ++ (c1, ys) :: ro3).length → va_P D classes (wT q cI cZ V3 E3 F3 B3 O3 R3 fl3.length us ch3 (delN (flat cs) i 1).length ((delN (flat cs) i 1).count 10) lo.length rs) H → va_D A (wT q cI cZ V3 E3 F3 B3 O3 R3 fl3.length us ch3 (delN (flat cs) i 1).length ((delN (flat cs) i 1).count 10) lo.length rs) → va_S A s.heap H locs → lv_has ls 4 [(3, .int (nI lo.length)), (2, .int (nI c1)), (0, .ref (q 0)), (1, .int (nI i))] → W p l e rmS s m ([.ref (q 0), .int (nI i)] : List Value).toArray below meth c H locs 0 0 (MQ below (QCv D (TY cI cZ cL) (fun u : TXS => OKS u (delN (flat cs) i 1)) (fun u => wS q cI cZ u) A) ([.ref (q 0), .int (nI i)] : List Value).toArray s rmS.cells rmS.slots A) (F0 m 175 ls []) := by
    intro fl3 V3 E3 F3 B3 O3 R3 ys ro3 ch3 H locs ls hR3 hA3 hf3 hch3 hP hD hS hl
    refine lv_iload_n hx hb d_LT_delete_175 rfl (lv_at hl 0 rfl) ?_
    refine ln_if_le (tgt := 196) hx hb d_LT_delete_176 (by decide) (by omega) (fun hc => ?_) (fun hc => ?_)
    · skip
      have hlo0 : lo = [] := List.length_eq_zero_iff.mp hc
      have hAdj : Adj (lo ++ (c1, ys) :: ro3) := by rw [hlo0]; exact hA3
      rw [hch3, ← hf3] at hP hD
      exact e_Cv C hS (u := (lo ++ (c1, ys) :: ro3, fl3, us, V3, E3, F3, B3, O3, R3, lo.length, rs)) ⟨hR3, hAdj, hf3⟩ hP hD (by decide) (by decide) d_LT_delete_196
    · skip
      obtain ⟨lo1, b1, zs, hlo1⟩ := snoc_ch hc
      have hre : lo ++ (c1, ys) :: ro3 = lo1 ++ (b1, zs) :: (c1, ys) :: ro3 := by rw [hlo1]; simp
      have hRj := hR3
      rw [hre] at hRj
      have hl1 : lo.length - 1 = lo1.length := by rw [hlo1]; simp
      have hAl1 : Adj (lo1 ++ [(b1, zs)]) := by rw [← hlo1]; exact Adj_init hAl
      refine lv_aload_n hx hb d_LT_delete_179 rfl (lv_at hl 2 rfl) ?_
      refine lv_iload_n hx hb d_LT_delete_180 rfl (lv_at hl 0 rfl) ?_
      refine lv_iconst (v := nI 1) hx hb d_LT_delete_181 (by decide) ?_
      refine ln_isub hx hb d_LT_delete_182 (by omega) ?_
      refine ln_eqn (b := lo1.length) (hl1) ?_
      refine call_Ri (As := [.int (nI lo1.length)]) (rest := []) (ci := 0) C hA kv_LT_59 (c_LT_isLittle l D cI cZ cL q V3 E3 F3 B3 O3 R3 fl3.length us ch3 (delN (flat cs) i 1).length ((delN (flat cs) i 1).count 10) lo.length rs fl3 lo1 ro3 b1 c1 zs ys hRj) hP hS 0 rfl rfl rfl rfl hl.1 rfl (Nat.le_of_ble_eq_true rfl) ⟨by decide, by decide⟩ ⟨rfl, rfl⟩ ⟨Nat.zero_le _, Nat.zero_le _⟩ d_LT_delete_183 (fun rr hrr => ?_)
      subst hrr
      refine ln_if_eq (tgt := 196) hx hb d_LT_delete_186 (by decide) (fun hc2 => ?_) (fun hc2 => ?_)
      · skip
        have hgt : ¬ zs.length + ys.length ≤ 64 := of_decide_eq_false hc2
        have hAdj : Adj (lo ++ (c1, ys) :: ro3) := by rw [hre]; exact (Adj_app _ _ _).mpr ⟨hAl1, by simp only; omega, hA3⟩
        rw [hch3, ← hf3] at hP hD
        exact e_Cv C hS (u := (lo ++ (c1, ys) :: ro3, fl3, us, V3, E3, F3, B3, O3, R3, lo.length, rs)) ⟨hR3, hAdj, hf3⟩ hP hD (by decide) (by decide) d_LT_delete_196
      · skip
        have hle : zs.length + ys.length ≤ 64 := of_decide_eq_true hc2
        refine lv_aload_n hx hb d_LT_delete_189 rfl (lv_at hl 2 rfl) ?_
        refine lv_iload_n hx hb d_LT_delete_190 rfl (lv_at hl 0 rfl) ?_
        refine lv_iconst (v := nI 1) hx hb d_LT_delete_191 (by decide) ?_
        refine ln_isub hx hb d_LT_delete_192 (by omega) ?_
        refine ln_eqn (b := lo1.length) (hl1) ?_
        refine call_Vv (As := [.int (nI lo1.length)]) (rest := []) (ci := 0) (wr := []) C hA kv_LT_63 (c_LT_join l D cI cZ cL q V3 E3 F3 B3 O3 R3 us ch3 (delN (flat cs) i 1).length ((delN (flat cs) i 1).count 10) lo.length rs fl3 lo1 ro3 b1 c1 zs ys hRj (by rw [hch3, hre]) (by omega)) hP hD hS [0, 1, 2, 3, 4, 5, 6] [] rfl rfl ⟨by decide, by decide⟩ (by decide) 0 rfl rfl rfl rfl hl.1 rfl (Nat.le_of_ble_eq_true rfl) ⟨by decide, by decide⟩ ⟨by decide, by decide⟩ d_LT_delete_193 (fun u2 H locs hj hP hD hS => ?_)
        obtain ⟨V4, E4, F4, B4, O4⟩ := u2
        simp only at hj
        have hP : va_P D classes (wT q cI cZ V4 E4 F4 B4 O4 (upN R3 fl3.length c1) (fl3.length + 1) us (ch3 - 1) ((delN (flat cs) i 1).length) ((delN (flat cs) i 1).count 10) lo.length rs) H := hP
        have hD : va_D A (wT q cI cZ V4 E4 F4 B4 O4 (upN R3 fl3.length c1) (fl3.length + 1) us (ch3 - 1) ((delN (flat cs) i 1).length) ((delN (flat cs) i 1).count 10) lo.length rs) := hD
        have hAdj : Adj (lo1 ++ (b1, zs ++ ys) :: ro3) := (Adj_app _ _ _).mpr ⟨Adj_tl hAl1 (by simp), Adj_hd hA3 (by simp)⟩
        have hf4 : flat (lo1 ++ (b1, zs ++ ys) :: ro3) = (delN (flat cs) i 1) := by rw [flat_join lo1 ro3 b1 c1, ← hre, hf3]
        have q1 : fl3.length + 1 = (fl3 ++ [c1]).length := by simp
        have q2 : ch3 - 1 = (lo1 ++ (b1, zs ++ ys) :: ro3).length := by rw [hch3, hre, List.length_append, List.length_append, List.length_cons, List.length_cons, List.length_cons]; omega
        rw [q1, q2, ← hf4] at hP hD
        exact e_Cv C hS (u := (lo1 ++ (b1, zs ++ ys) :: ro3, fl3 ++ [c1], us, V4, E4, F4, B4, O4, upN R3 fl3.length c1, lo.length, rs)) ⟨hj, hAdj, hf4⟩ hP hD (by decide) (by decide) d_LT_delete_196
  have p152 : ∀ (V2 : Nat → Int32) (E2 : Nat → Bool) (F2 B2 : Nat → Nat) (H : Heap) (locs : List Loc) (ls : Array Slot), Rep (lo ++ (c1, (delN xs rs 1)) :: ro) fl us V2 E2 F2 B2 O R → va_P D classes (wT q cI cZ V2 E2 F2 B2 O R fl.length us cs.length (delN (flat cs) i 1).length ((delN (flat cs) i 1).count 10) lo.length rs) H → va_D A (wT q cI cZ V2 E2 F2 B2 O R fl.length us cs.length (delN (flat cs) i 1).length ((delN (flat cs) i 1).count 10) lo.length rs) → va_S A s.heap H locs → lv_has ls 4 [(3, .int (nI lo.length)), (2, .int (nI c1)), (0, .ref (q 0)), (1, .int (nI i))] → W p l e rmS s m ([.ref (q 0), .int (nI i)] : List Value).toArray below meth c H locs 0 0 (MQ below (QCv D (TY cI cZ cL) (fun u : TXS => OKS u (delN (flat cs) i 1)) (fun u => wS q cI cZ u) A) ([.ref (q 0), .int (nI i)] : List Value).toArray s rmS.cells rmS.slots A) (F0 m 152 ls []) := by
    intro V2 E2 F2 B2 H locs ls hR2 hP hD hS hl
    have hchd : cs.length = (lo ++ (c1, (delN xs rs 1)) :: ro).length := by rw [hcs, List.length_append, List.length_append, List.length_cons, List.length_cons]
    refine lv_iload_n hx hb d_LT_delete_152 rfl (lv_at hl 0 rfl) ?_
    refine lv_iconst (v := nI 1) hx hb d_LT_delete_153 (by decide) ?_
    refine ln_iadd hx hb d_LT_delete_154 ?_
    refine lv_aload_n hx hb d_LT_delete_155 rfl (lv_at hl 2 rfl) ?_
    refine g_LT hx hb hB hown hK hP 0 rfl 8 (by decide) k_32 rfl d_LT_delete_156 ?_
    refine ln_icmp_ge (tgt := 175) hx hb d_LT_delete_159 (by decide) (by omega) (by omega) (fun hc => ?_) (fun hc => ?_)
    · skip
      have hro : ro = [] := List.length_eq_zero_iff.mp (by omega)
      exact p175 fl V2 E2 F2 B2 O R (delN xs rs 1) ro cs.length H locs ls hR2 (by rw [hro]; trivial) hflat hchd hP hD hS hl
    · skip
      obtain ⟨⟨d1, zs⟩, ro2, hro⟩ : ∃ (x : Nat × List Int32) (ro2 : Chs), ro = x :: ro2 := by
        cases ro with
        | nil => exact absurd hc (by simp at hcslen; omega)
        | cons x ro2 => exact ⟨x, ro2, rfl⟩
      have hRj := hR2
      rw [hro] at hRj
      have hAr2 : Adj ((d1, zs) :: ro2) := by rw [hro] at hAr; exact hAr.2
      refine lv_aload_n hx hb d_LT_delete_162 rfl (lv_at hl 2 rfl) ?_
      refine lv_iload_n hx hb d_LT_delete_163 rfl (lv_at hl 0 rfl) ?_
      refine call_Ri (As := [.int (nI lo.length)]) (rest := []) (ci := 0) C hA kv_LT_59 (c_LT_isLittle l D cI cZ cL q V2 E2 F2 B2 O R fl.length us cs.length (delN (flat cs) i 1).length ((delN (flat cs) i 1).count 10) lo.length rs fl lo ro2 c1 d1 (delN xs rs 1) zs hRj) hP hS 0 rfl rfl rfl rfl hl.1 rfl (Nat.le_of_ble_eq_true rfl) ⟨by decide, by decide⟩ ⟨rfl, rfl⟩ ⟨Nat.zero_le _, Nat.zero_le _⟩ d_LT_delete_164 (fun rr hrr => ?_)
      subst hrr
      refine ln_if_eq (tgt := 175) hx hb d_LT_delete_167 (by decide) (fun hc2 => ?_) (fun hc2 => ?_)
      · skip
        have hgt : ¬ (delN xs rs 1).length + zs.length ≤ 64 := of_decide_eq_false hc2
        exact p175 fl V2 E2 F2 B2 O R (delN xs rs 1) ro cs.length H locs ls hR2 (by rw [hro]; exact ⟨by simp only; omega, hAr2⟩) hflat hchd hP hD hS hl
      · skip
        have hle : (delN xs rs 1).length + zs.length ≤ 64 := of_decide_eq_true hc2
        refine lv_aload_n hx hb d_LT_delete_170 rfl (lv_at hl 2 rfl) ?_
        refine lv_iload_n hx hb d_LT_delete_171 rfl (lv_at hl 0 rfl) ?_
        refine call_Vv (As := [.int (nI lo.length)]) (rest := []) (ci := 0) (wr := []) C hA kv_LT_63 (c_LT_join l D cI cZ cL q V2 E2 F2 B2 O R us cs.length (delN (flat cs) i 1).length ((delN (flat cs) i 1).count 10) lo.length rs fl lo ro2 c1 d1 (delN xs rs 1) zs hRj (by rw [hchd, hro]) (by omega)) hP hD hS [0, 1, 2, 3, 4, 5, 6] [] rfl rfl ⟨by decide, by decide⟩ (by decide) 0 rfl rfl rfl rfl hl.1 rfl (Nat.le_of_ble_eq_true rfl) ⟨by decide, by decide⟩ ⟨by decide, by decide⟩ d_LT_delete_172 (fun u2 H locs hj hP hD hS => ?_)
        obtain ⟨V4, E4, F4, B4, O4⟩ := u2
        simp only at hj
        have hP : va_P D classes (wT q cI cZ V4 E4 F4 B4 O4 (upN R fl.length d1) (fl.length + 1) us (cs.length - 1) ((delN (flat cs) i 1).length) ((delN (flat cs) i 1).count 10) lo.length rs) H := hP
        have hD : va_D A (wT q cI cZ V4 E4 F4 B4 O4 (upN R fl.length d1) (fl.length + 1) us (cs.length - 1) ((delN (flat cs) i 1).length) ((delN (flat cs) i 1).count 10) lo.length rs) := hD
        have q1 : fl.length + 1 = (fl ++ [d1]).length := by simp
        rw [q1] at hP hD
        exact p175 (fl ++ [d1]) V4 E4 F4 B4 O4 (upN R fl.length d1) ((delN xs rs 1) ++ zs) ro2 (cs.length - 1) H locs ls hj (Adj_hd hAr2 (by simp)) (by rw [flat_join lo ro2 c1 d1, ← hro]; exact hflat) (by rw [hchd, hro, List.length_append, List.length_append, List.length_cons, List.length_cons, List.length_cons]; omega) hP hD hS hl
  have p54 : ∀ (B2 : Nat → Nat) (ln2 : Nat) (H : Heap) (locs : List Loc) (ls : Array Slot), B2 c1 = xs.count 10 - (if xs.getD rs 0 = 10 then 1 else 0) → (∀ j, j ≠ c1 → B2 j = B j) → ln2 = ((delN (flat cs) i 1).count 10) → va_P D classes (wT q cI cZ V E F B2 O R fl.length us cs.length (flat cs).length ln2 lo.length rs) H → va_D A (wT q cI cZ V E F B2 O R fl.length us cs.length (flat cs).length ln2 lo.length rs) → va_S A s.heap H locs → lv_has ls 4 [(2, .int (nI c1)), (0, .ref (q 0)), (1, .int (nI i))] → W p l e rmS s m ([.ref (q 0), .int (nI i)] : List Value).toArray below meth c H locs 0 0 (MQ below (QCv D (TY cI cZ cL) (fun u : TXS => OKS u (delN (flat cs) i 1)) (fun u => wS q cI cZ u) A) ([.ref (q 0), .int (nI i)] : List Value).toArray s rmS.cells rmS.slots A) (F0 m 54 ls []) := by
    intro B2 ln2 H locs ls hb1 hb2 hln hP hD hS hl
    have loop : ∀ (g k : Nat) (V2 : Nat → Int32) (E2 : Nat → Bool) (H : Heap) (locs : List Loc) (ls : Array Slot), rs ≤ k → k ≤ xs.length - 1 → xs.length ≤ k + g → Dn1 (128 * c1) rs k V V2 → Dn1 (128 * c1) rs k E E2 → va_P D classes (wT q cI cZ V2 E2 (upN F c1 (F c1 - 1)) B2 O R fl.length us cs.length ((flat cs).length - 1) ln2 lo.length rs) H → va_D A (wT q cI cZ V2 E2 (upN F c1 (F c1 - 1)) B2 O R fl.length us cs.length ((flat cs).length - 1) ln2 lo.length rs) → va_S A s.heap H locs → lv_has ls 4 [(3, .int (nI k)), (2, .int (nI c1)), (0, .ref (q 0)), (1, .int (nI i))] → W p l e rmS s m ([.ref (q 0), .int (nI i)] : List Value).toArray below meth c H locs 0 0 (MQ below (QCv D (TY cI cZ cL) (fun u : TXS => OKS u (delN (flat cs) i 1)) (fun u => wS q cI cZ u) A) ([.ref (q 0), .int (nI i)] : List Value).toArray s rmS.cells rmS.slots A) (F0 m 79 ls []) := by
      intro g
      induction g with
      | zero => intro k V2 E2 H locs ls h1 h2 h3; exact absurd h3 (by omega)
      | succ g ih =>
        intro k V2 E2 H locs ls h1 h2 h3 hV hE hP hD hS hl
        refine lv_iload_n hx hb d_LT_delete_79 rfl (lv_at hl 0 rfl) ?_
        refine lv_aload_n hx hb d_LT_delete_80 rfl (lv_at hl 2 rfl) ?_
        refine g_LT hx hb hB hown hK hP 0 rfl 2 (by decide) k_26 rfl d_LT_delete_81 ?_
        refine lv_iload_n hx hb d_LT_delete_84 rfl (lv_at hl 1 rfl) ?_
        refine ln_iald hx hb hK hP 3 0 rfl rfl (by omega) (by omega) d_LT_delete_85 ?_
        refine ln_eqn (b := xs.length - 1) (by rw [upN_s, o3]) ?_
        refine ln_icmp_ge (tgt := 147) hx hb d_LT_delete_86 (by decide) (by omega) (by omega) (fun hc => ?_) (fun hc => ?_)
        · skip
          obtain rfl : k = xs.length - 1 := by omega
          refine lv_aload_n hx hb d_LT_delete_147 rfl (lv_at hl 2 rfl) ?_
          refine g_LT hx hb hB hown hK hP 0 rfl 11 (by decide) k_37 rfl d_LT_delete_148 ?_
          refine lv_istore_n (lv' := [(3, .int (nI lo.length)), (2, .int (nI c1)), (0, .ref (q 0)), (1, .int (nI i))]) hx hb d_LT_delete_151 rfl hl (by decide) rfl (fun ls hl => ?_)
          have hct : (flat cs).length - 1 = (delN (flat cs) i 1).length := hdl.symm
          rw [hct, hln] at hP hD
          exact p152 V2 E2 _ B2 H locs ls (Rep_set hR1 (Ck_del (hR1.1 (c1, xs) (by simp)) e2 hV hE (by rw [upN_s, o3]) hb1) (fun j hj => upN_n hj) hb2 (fun j hj => hV.2 _ (by omega)) (fun j hj => hE.2 _ (by omega))) hP hD hS (lv_sub hl [0, 1, 2, 3] rfl)
        · skip
          refine lv_aload_n hx hb d_LT_delete_89 rfl (lv_at hl 2 rfl) ?_
          refine g_LT hx hb hB hown hK hP 0 rfl 0 (by decide) k_24 rfl d_LT_delete_90 ?_
          refine lv_sipush (v := nI 128) hx hb d_LT_delete_93 (by decide) ?_
          refine lv_iload_n hx hb d_LT_delete_96 rfl (lv_at hl 1 rfl) ?_
          refine ln_imul hx hb d_LT_delete_97 ?_
          refine lv_iload_n hx hb d_LT_delete_98 rfl (lv_at hl 0 rfl) ?_
          refine ln_iadd hx hb d_LT_delete_99 ?_
          refine lv_aload_n hx hb d_LT_delete_100 rfl (lv_at hl 2 rfl) ?_
          refine g_LT hx hb hB hown hK hP 0 rfl 0 (by decide) k_24 rfl d_LT_delete_101 ?_
          refine lv_sipush (v := nI 128) hx hb d_LT_delete_104 (by decide) ?_
          refine lv_iload_n hx hb d_LT_delete_107 rfl (lv_at hl 1 rfl) ?_
          refine ln_imul hx hb d_LT_delete_108 ?_
          refine lv_iload_n hx hb d_LT_delete_109 rfl (lv_at hl 0 rfl) ?_
          refine ln_iadd hx hb d_LT_delete_110 ?_
          refine lv_iconst (v := nI 1) hx hb d_LT_delete_111 (by decide) ?_
          refine ln_iadd hx hb d_LT_delete_112 ?_
          refine ln_vald hx hb hK hP 1 0 rfl rfl (by omega) (by omega) d_LT_delete_113 ?_
          refine ln_vast hx hb hK hP hD hS 1 0 rfl rfl (by omega) (by omega) d_LT_delete_114 (fun H locs hP hD hS => ?_)
          have hP : va_P D classes (wT q cI cZ (upd V2 ((128 * c1) + k) (V2 (((128 * c1) + k) + 1))) E2 (upN F c1 (F c1 - 1)) B2 O R fl.length us cs.length ((flat cs).length - 1) ln2 lo.length rs) H := hP
          have hD : va_D A (wT q cI cZ (upd V2 ((128 * c1) + k) (V2 (((128 * c1) + k) + 1))) E2 (upN F c1 (F c1 - 1)) B2 O R fl.length us cs.length ((flat cs).length - 1) ln2 lo.length rs) := hD
          refine lv_aload_n hx hb d_LT_delete_115 rfl (lv_at hl 2 rfl) ?_
          refine g_LT hx hb hB hown hK hP 0 rfl 1 (by decide) k_25 rfl d_LT_delete_116 ?_
          refine lv_sipush (v := nI 128) hx hb d_LT_delete_119 (by decide) ?_
          refine lv_iload_n hx hb d_LT_delete_122 rfl (lv_at hl 1 rfl) ?_
          refine ln_imul hx hb d_LT_delete_123 ?_
          refine lv_iload_n hx hb d_LT_delete_124 rfl (lv_at hl 0 rfl) ?_
          refine ln_iadd hx hb d_LT_delete_125 ?_
          refine lv_aload_n hx hb d_LT_delete_126 rfl (lv_at hl 2 rfl) ?_
          refine g_LT hx hb hB hown hK hP 0 rfl 1 (by decide) k_25 rfl d_LT_delete_127 ?_
          refine lv_sipush (v := nI 128) hx hb d_LT_delete_130 (by decide) ?_
          refine lv_iload_n hx hb d_LT_delete_133 rfl (lv_at hl 1 rfl) ?_
          refine ln_imul hx hb d_LT_delete_134 ?_
          refine lv_iload_n hx hb d_LT_delete_135 rfl (lv_at hl 0 rfl) ?_
          refine ln_iadd hx hb d_LT_delete_136 ?_
          refine lv_iconst (v := nI 1) hx hb d_LT_delete_137 (by decide) ?_
          refine ln_iadd hx hb d_LT_delete_138 ?_
          refine ln_zald hx hb hK hP 2 1 rfl rfl (by omega) (by omega) d_LT_delete_139 ?_
          refine ln_zast hx hb hK hP hD hS 2 1 rfl rfl (by omega) (by omega) d_LT_delete_140 (fun H locs hP hD hS => ?_)
          have hP : va_P D classes (wT q cI cZ (upd V2 ((128 * c1) + k) (V2 (((128 * c1) + k) + 1))) (upB E2 ((128 * c1) + k) (E2 (((128 * c1) + k) + 1))) (upN F c1 (F c1 - 1)) B2 O R fl.length us cs.length ((flat cs).length - 1) ln2 lo.length rs) H := hP
          have hD : va_D A (wT q cI cZ (upd V2 ((128 * c1) + k) (V2 (((128 * c1) + k) + 1))) (upB E2 ((128 * c1) + k) (E2 (((128 * c1) + k) + 1))) (upN F c1 (F c1 - 1)) B2 O R fl.length us cs.length ((flat cs).length - 1) ln2 lo.length rs) := hD
          refine lv_iinc (v := (nI (k + 1))) (lv' := [(3, .int (nI (k + 1))), (2, .int (nI c1)), (0, .ref (q 0)), (1, .int (nI i))]) hx hb d_LT_delete_141 hl (k := 0) rfl (ln_p1 _) (by decide) rfl (fun ls hl => ?_)
          refine lv_goto (tgt := 79) hx hb d_LT_delete_144 (by decide) ?_
          exact ih (k + 1) _ _ H locs ls (by omega) (by omega) (by omega) (Dn1_s hV h1 (by rw [upd_s]) (fun j hj => upd_n hj)) (Dn1_s hE h1 (by rw [upB_s]) (fun j hj => upB_n hj)) hP hD hS (lv_sub hl [0, 1, 2, 3] rfl)
    refine lv_aload_n hx hb d_LT_delete_54 rfl (lv_at hl 1 rfl) ?_
    refine g_LT hx hb hB hown hK hP 0 rfl 2 (by decide) k_26 rfl d_LT_delete_55 ?_
    refine lv_iload_n hx hb d_LT_delete_58 rfl (lv_at hl 0 rfl) ?_
    refine lv_dup2_11 hx hb d_LT_delete_59 rfl rfl ?_
    refine ln_iald hx hb hK hP 3 0 rfl rfl (by omega) (by omega) d_LT_delete_60 ?_
    refine lv_iconst (v := nI 1) hx hb d_LT_delete_61 (by decide) ?_
    refine ln_isub hx hb d_LT_delete_62 (by omega) ?_
    refine ln_iast hx hb hK hP hD hS 3 0 rfl rfl (by omega) (by omega) d_LT_delete_63 (fun H locs hP hD hS => ?_)
    have hP : va_P D classes (wT q cI cZ V E (upN F c1 ((F c1) - 1)) B2 O R fl.length us cs.length ((flat cs).length) ln2 lo.length rs) H := hP
    have hD : va_D A (wT q cI cZ V E (upN F c1 ((F c1) - 1)) B2 O R fl.length us cs.length ((flat cs).length) ln2 lo.length rs) := hD
    refine lv_aload_n hx hb d_LT_delete_64 rfl (lv_at hl 1 rfl) ?_
    refine lv_dup hx hb d_LT_delete_65 rfl ?_
    refine g_LT hx hb hB hown hK hP 0 rfl 9 (by decide) k_34 rfl d_LT_delete_66 ?_
    refine lv_iconst (v := nI 1) hx hb d_LT_delete_69 (by decide) ?_
    refine ln_isub hx hb d_LT_delete_70 (by omega) ?_
    refine p_LT hx hb hB hown hK hP hD hS 0 rfl 9 (by decide) k_34 rfl rfl (Nat.le_of_ble_eq_true rfl) d_LT_delete_71 (fun H locs hP hD hS => ?_)
    have hP : va_P D classes (wT q cI cZ V E (upN F c1 ((F c1) - 1)) B2 O R fl.length us cs.length (((flat cs).length) - 1) ln2 lo.length rs) H := hP
    have hD : va_D A (wT q cI cZ V E (upN F c1 ((F c1) - 1)) B2 O R fl.length us cs.length (((flat cs).length) - 1) ln2 lo.length rs) := hD
    refine lv_aload_n hx hb d_LT_delete_74 rfl (lv_at hl 1 rfl) ?_
    refine g_LT hx hb hB hown hK hP 0 rfl 12 (by decide) k_38 rfl d_LT_delete_75 ?_
    refine lv_istore_n (lv' := [(3, .int (nI rs)), (2, .int (nI c1)), (0, .ref (q 0)), (1, .int (nI i))]) hx hb d_LT_delete_78 rfl hl (by decide) rfl (fun ls hl => ?_)
    exact loop xs.length rs V E H locs ls (Nat.le_refl _) (by omega) (by omega) Dn1_0 Dn1_0 hP hD hS (lv_sub hl [0, 1, 2, 3] rfl)
  refine lv_aload_n hx hb d_LT_delete_6 rfl (lv_at hl 0 rfl) ?_
  refine g_LT hx hb hB hown hK hP 0 rfl 4 (by decide) k_28 rfl d_LT_delete_7 ?_
  refine lv_aload_n hx hb d_LT_delete_10 rfl (lv_at hl 0 rfl) ?_
  refine g_LT hx hb hB hown hK hP 0 rfl 11 (by decide) k_37 rfl d_LT_delete_11 ?_
  refine ln_iald hx hb hK hP 5 0 rfl rfl (by omega) (by omega) d_LT_delete_14 ?_
  refine ln_eqn (b := c1) (o1) ?_
  refine lv_istore_n (lv' := [(2, .int (nI c1)), (0, .ref (q 0)), (1, .int (nI i))]) hx hb d_LT_delete_15 rfl hl (by decide) rfl (fun ls hl => ?_)
  refine lv_aload_n hx hb d_LT_delete_16 rfl (lv_at hl 1 rfl) ?_
  refine g_LT hx hb hB hown hK hP 0 rfl 1 (by decide) k_25 rfl d_LT_delete_17 ?_
  refine lv_sipush (v := nI 128) hx hb d_LT_delete_20 (by decide) ?_
  refine lv_iload_n hx hb d_LT_delete_23 rfl (lv_at hl 0 rfl) ?_
  refine ln_imul hx hb d_LT_delete_24 ?_
  refine lv_aload_n hx hb d_LT_delete_25 rfl (lv_at hl 1 rfl) ?_
  refine g_LT hx hb hB hown hK hP 0 rfl 12 (by decide) k_38 rfl d_LT_delete_26 ?_
  refine ln_iadd hx hb d_LT_delete_29 ?_
  refine ln_zald hx hb hK hP 2 1 rfl rfl (by omega) (by omega) d_LT_delete_30 ?_
  refine lv_eqi (y := bI (xs.getD rs 0 == 10)) (by rw [o7 rs e2]) ?_
  refine ln_if_eq (tgt := 54) hx hb d_LT_delete_31 (by decide) (fun hc => ?_) (fun hc => ?_)
  · skip
    have hne : ¬ xs.getD rs 0 = 10 := by simpa using hc
    rw [if_neg hne] at hdc hdx
    exact p54 B ((flat cs).count 10) H locs ls (by rw [if_neg hne]; omega) (fun j hj => rfl) (by omega) hP hD hS (lv_sub hl [0, 1, 2] rfl)
  · skip
    have hne : xs.getD rs 0 = 10 := by simpa using hc
    rw [if_pos hne] at hdc hdx
    refine lv_aload_n hx hb d_LT_delete_34 rfl (lv_at hl 1 rfl) ?_
    refine g_LT hx hb hB hown hK hP 0 rfl 3 (by decide) k_27 rfl d_LT_delete_35 ?_
    refine lv_iload_n hx hb d_LT_delete_38 rfl (lv_at hl 0 rfl) ?_
    refine lv_dup2_11 hx hb d_LT_delete_39 rfl rfl ?_
    refine ln_iald hx hb hK hP 4 0 rfl rfl (by omega) (by omega) d_LT_delete_40 ?_
    refine lv_iconst (v := nI 1) hx hb d_LT_delete_41 (by decide) ?_
    refine ln_isub hx hb d_LT_delete_42 (by omega) ?_
    refine ln_iast hx hb hK hP hD hS 4 0 rfl rfl (by omega) (by omega) d_LT_delete_43 (fun H locs hP hD hS => ?_)
    have hP : va_P D classes (wT q cI cZ V E F (upN B c1 ((B c1) - 1)) O R fl.length us cs.length ((flat cs).length) ((flat cs).count 10) lo.length rs) H := hP
    have hD : va_D A (wT q cI cZ V E F (upN B c1 ((B c1) - 1)) O R fl.length us cs.length ((flat cs).length) ((flat cs).count 10) lo.length rs) := hD
    refine lv_aload_n hx hb d_LT_delete_44 rfl (lv_at hl 1 rfl) ?_
    refine lv_dup hx hb d_LT_delete_45 rfl ?_
    refine g_LT hx hb hB hown hK hP 0 rfl 10 (by decide) k_35 rfl d_LT_delete_46 ?_
    refine lv_iconst (v := nI 1) hx hb d_LT_delete_49 (by decide) ?_
    refine ln_isub hx hb d_LT_delete_50 (by omega) ?_
    refine p_LT hx hb hB hown hK hP hD hS 0 rfl 10 (by decide) k_35 rfl rfl (Nat.le_of_ble_eq_true rfl) d_LT_delete_51 (fun H locs hP hD hS => ?_)
    have hP : va_P D classes (wT q cI cZ V E F (upN B c1 ((B c1) - 1)) O R fl.length us cs.length ((flat cs).length) (((flat cs).count 10) - 1) lo.length rs) H := hP
    have hD : va_D A (wT q cI cZ V E F (upN B c1 ((B c1) - 1)) O R fl.length us cs.length ((flat cs).length) (((flat cs).count 10) - 1) lo.length rs) := hD
    exact p54 _ ((flat cs).count 10 - 1) H locs ls (by rw [if_pos hne, upN_s]; omega) (fun j hj => upN_n hj) (by omega) hP hD hS (lv_sub hl [0, 1, 2] rfl)
end
section
/-! ===== counting the ends chunk by chunk ===== -/
theorem cnt_pre {a b : List Int32} (k : Nat) : cnt (a ++ b) (a.length + k) = a.count 10 + cnt b k := by
  unfold cnt
  rw [take_pre, List.count_append]
theorem cnt_flat {lo ro : Chs} {c1 : Nat} {xs : List Int32} {j : Nat} (h : j ≤ xs.length) : cnt (flat (lo ++ (c1, xs) :: ro)) ((flat lo).length + j) = (flat lo).count 10 + cnt xs j := by
  rw [flat_app, flat_cons, cnt_pre]
  congr 1
  unfold cnt
  rw [List.take_append_of_le_length h]
theorem cnt_lo {lo ro : Chs} {x : Nat × List Int32} {j : Nat} (h : j ≤ (flat lo).length) : cnt (flat (lo ++ x :: ro)) j ≤ (flat lo).count 10 := by
  rw [flat_app]
  unfold cnt
  rw [List.take_append_of_le_length h]
  exact List.Sublist.count_le _ (List.take_sublist _ _)
def bp (cs : Chs) (k : Nat) : Nat := (flat (cs.take k)).count 10
theorem bp_0 (cs : Chs) : bp cs 0 = 0 := by simp [bp, flat]
theorem bp_at (l : Chs) (x : Nat × List Int32) (r : Chs) : bp (l ++ x :: r) l.length = (flat l).count 10 := by simp [bp]
theorem bp_at1 (l : Chs) (x : Nat × List Int32) (r : Chs) : bp (l ++ x :: r) (l.length + 1) = (flat l).count 10 + x.2.count 10 := by
  unfold bp
  rw [List.take_append, List.take_of_length_le (by omega), show l.length + 1 - l.length = 1 by omega, flat_app, List.count_append]
  simp [flat]
theorem bp_all (cs : Chs) : bp cs cs.length = (flat cs).count 10 := by simp [bp]
theorem Rep_get2 {cs : Chs} {fl : List Nat} {us : Nat} {V : Nat → Int32} {E : Nat → Bool} {F B O R : Nat → Nat} {ag : Nat} (h : Rep cs fl us V E F B O R) (hp : ag < cs.length) : ∃ (lo : Chs) (c1 : Nat) (xs : List Int32) (ro : Chs), cs = lo ++ (c1, xs) :: ro ∧ lo.length = ag ∧ O ag = c1 ∧ c1 < 628 ∧ F c1 = xs.length ∧ B c1 = xs.count 10 ∧ xs.length ≤ 128 ∧ (∀ k, k < xs.length → V (128 * c1 + k) = xs.getD k 0) ∧ (∀ k, k < xs.length → E (128 * c1 + k) = (xs.getD k 0 == 10)) ∧ pl cs ag = (flat lo).length ∧ pl cs (ag + 1) = (flat lo).length + xs.length ∧ bp cs ag = (flat lo).count 10 ∧ bp cs (ag + 1) = (flat lo).count 10 + xs.count 10 := by
  obtain ⟨l, c, xs, r, rfl, rfl⟩ := ex_at hp
  obtain ⟨h1, h2, h3, h4, h5, h6, h7⟩ := Rep_at h
  exact ⟨l, c, xs, r, rfl, rfl, h1, h2, h3, h4, h5, h6, h7, pl_at _ _ _, pl_at1 _ _ _, bp_at _ _ _, bp_at1 _ _ _⟩
/-- the index behind the n-th end -/
def BE (txt : List Int32) (n k : Nat) : Prop := k ≤ txt.length ∧ n ≤ cnt txt k ∧ ∀ j, j < k → cnt txt j < n
theorem BE_uniq {txt : List Int32} {n a b : Nat} (h1 : BE txt n a) (h2 : BE txt n b) : a = b := by
  rcases Nat.lt_trichotomy a b with q | q | q
  · have := h2.2.2 a q; have := h1.2.1; omega
  · exact q
  · have := h1.2.2 b q; have := h2.2.1; omega
theorem BE_flat {lo ro : Chs} {c1 : Nat} {xs : List Int32} {n i : Nat} (hlo : (flat lo).count 10 < n) (hi : i ≤ xs.length) (h1 : (flat lo).count 10 + cnt xs i = n) (h2 : ∀ j, j < i → (flat lo).count 10 + cnt xs j < n) : BE (flat (lo ++ (c1, xs) :: ro)) n ((flat lo).length + i) := by
  refine ⟨?_, ?_, fun j hj => ?_⟩
  · rw [flat_app, flat_cons, List.length_append, List.length_append]; simp only; omega
  · rw [cnt_flat hi]; omega
  · rcases Nat.lt_or_ge j (flat lo).length with q | q
    · have := cnt_lo (lo := lo) (ro := ro) (x := (c1, xs)) (j := j) (by omega)
      omega
    · obtain ⟨t, rfl⟩ : ∃ t, j = (flat lo).length + t := ⟨j - (flat lo).length, by omega⟩
      rw [cnt_flat (by omega)]
      exact h2 t (by omega)
theorem cnt_lt_of {xs : List Int32} {i m : Nat} (h : cnt xs i < m) (hm : m ≤ xs.count 10) : i < xs.length := by
  rcases Nat.lt_or_ge i xs.length with q | q
  · exact q
  · rw [cnt_all q] at h; omega
theorem OKS_0 (ag rs : Nat) : OKS ([(0, [])], [], 1, fun _ => 0, fun _ => false, fun _ => 0, fun _ => 0, fun _ => 0, fun _ => 0, ag, rs) [] := by
  have hrep : Rep [(0, [])] [] 1 (fun _ => 0) (fun _ => false) (fun _ => 0) (fun _ => 0) (fun _ => 0) (fun _ => 0) := by
    refine ⟨fun x hx => ?_, fun i c hi => ?_, fun i c hi => by simp at hi, by simp [ids], fun c hc => by simp [ids] at hc; omega, rfl, by omega, by simp⟩
    · simp only [List.mem_singleton] at hx
      subst hx
      exact ⟨rfl, rfl, by simp, fun k hk => absurd hk (by simp)⟩
    · have hlt := (List.getElem?_eq_some_iff.mp hi).1
      simp [ids] at hlt
      subst hlt
      simpa [ids] using hi
  exact ⟨hrep, trivial, rfl⟩
end
section
abbrev rmJ : Room := { frames := 1, cells := 6, slots := 163280, locals := 20 }
set_option maxHeartbeats 4000000 in
set_option maxRecDepth 100000 in
/-- get -/
theorem c_LT_get (l : Launch) (D : va_G) (cI cZ cL : ClassId) (q : Nat → Nat) (V : Nat → Int32) (E : Nat → Bool) (F B O R : Nat → Nat) (us ag0 rs0 : Nat) (fl : List Nat) (cs : Chs) (hR : Rep cs fl us V E F B O R) (hAd : Adj cs) (i : Nat) (hi : i < (flat cs).length) (hn : (flat cs).length ≤ 20000) : CI l y_LT_get hd_LT_get rmS D (TY cI cZ cL) [.ref (q 0), .int (nI i)] (wT q cI cZ V E F B O R fl.length us cs.length (flat cs).length ((flat cs).count 10) ag0 rs0) (fun (z : Int32) (u : TXS) => OKS u (flat cs) ∧ z = (flat cs).getD i 0) (fun u => wS q cI cZ u) := by
  refine CI.mk (by decide +kernel) (Nat.le_of_ble_eq_true rfl) ?_
  intro p e s m below meth c A ls C hA hP hD hl
  obtain ⟨hx, hb, hml, hown, hB, hlk, hr, htb, hK, hX⟩ := id C
  have hS : va_S A s.heap s.heap [] := va_S.rf
  have hl : lv_has ls 2 [(0, .ref (q 0)), (1, .int (nI i))] := hl
  obtain ⟨hl1, hl2, hl3, hl4⟩ := Rep_len hR
  refine lv_aload_n hx hb d_LT_get_0 rfl (lv_at hl 0 rfl) ?_
  refine lv_iload_n hx hb d_LT_get_1 rfl (lv_at hl 1 rfl) ?_
  refine lv_iconst (v := nI 0) hx hb d_LT_get_2 (by decide) ?_
  refine lv_eqi (y := bI false) (rfl) ?_
  refine call_Vv (As := [.int (nI i), .int (bI false)]) (rest := []) (ci := 0) (wr := []) C hA kv_LT_45 (c_LT_seek l D cI cZ cL q V E F B O R fl.length us (flat cs).length ((flat cs).count 10) ag0 rs0 fl cs hR i false (by omega)) hP hD hS [0, 1, 2, 3, 4, 5, 6] [] rfl rfl ⟨by decide, by decide⟩ (by decide) 0 rfl rfl rfl rfl hl.1 rfl (Nat.le_of_ble_eq_true rfl) ⟨by decide, by decide⟩ ⟨by decide, by decide⟩ d_LT_get_3 (fun u1 H locs hsk hP hD hS => ?_)
  obtain ⟨ag, rs⟩ := u1
  simp only at hsk
  obtain ⟨lo, c1, xs, ro, hcs, rfl⟩ := ex_at hsk.1
  have hP : va_P D classes (wT q cI cZ V E F B O R fl.length us cs.length ((flat cs).length) ((flat cs).count 10) lo.length rs) H := hP
  have hD : va_D A (wT q cI cZ V E F B O R fl.length us cs.length ((flat cs).length) ((flat cs).count 10) lo.length rs) := hD
  have hR1 := hR
  rw [hcs] at hR1
  have hsk1 := hsk
  rw [hcs] at hsk1
  have hi1 := hi
  rw [hcs] at hi1
  obtain ⟨e1, e2⟩ := Sk_f hsk1 hi1
  simp only at e2
  obtain ⟨o1, o2, o3, o4, o5, o6, o7⟩ := Rep_at hR1
  have hlo : lo.length < cs.length := hsk.1
  refine lv_aload_n hx hb d_LT_get_6 rfl (lv_at hl 0 rfl) ?_
  refine g_LT hx hb hB hown hK hP 0 rfl 0 (by decide) k_24 rfl d_LT_get_7 ?_
  refine lv_sipush (v := nI 128) hx hb d_LT_get_10 (by decide) ?_
  refine lv_aload_n hx hb d_LT_get_13 rfl (lv_at hl 0 rfl) ?_
  refine g_LT hx hb hB hown hK hP 0 rfl 4 (by decide) k_28 rfl d_LT_get_14 ?_
  refine lv_aload_n hx hb d_LT_get_17 rfl (lv_at hl 0 rfl) ?_
  refine g_LT hx hb hB hown hK hP 0 rfl 11 (by decide) k_37 rfl d_LT_get_18 ?_
  refine ln_iald hx hb hK hP 5 0 rfl rfl (by omega) (by omega) d_LT_get_21 ?_
  refine ln_eqn (b := c1) (o1) ?_
  refine ln_imul hx hb d_LT_get_22 ?_
  refine lv_aload_n hx hb d_LT_get_23 rfl (lv_at hl 0 rfl) ?_
  refine g_LT hx hb hB hown hK hP 0 rfl 12 (by decide) k_38 rfl d_LT_get_24 ?_
  refine ln_iadd hx hb d_LT_get_27 ?_
  refine ln_vald hx hb hK hP 1 0 rfl rfl (by omega) (by omega) d_LT_get_28 ?_
  exact e_Ci C hS (u := (cs, fl, us, V, E, F, B, O, R, lo.length, rs)) ⟨⟨hR, hAd, rfl⟩, by rw [o6 rs e2, hcs, e1]; exact (flat_getD e2).symm⟩ hP hD (by decide) (by decide) d_LT_get_29
set_option maxHeartbeats 4000000 in
set_option maxRecDepth 100000 in
/-- behindEnd -/
theorem c_LT_behindEnd (l : Launch) (D : va_G) (cI cZ cL : ClassId) (q : Nat → Nat) (V : Nat → Int32) (E : Nat → Bool) (F B O R : Nat → Nat) (us ag0 rs0 : Nat) (fl : List Nat) (cs : Chs) (hR : Rep cs fl us V E F B O R) (n : Nat) (h1n : 1 ≤ n) (hn : n ≤ (flat cs).count 10) (hlen : (flat cs).length ≤ 20000) : RI l y_LT_behindEnd hd_LT_behindEnd rmz D (TY cI cZ cL) [.ref (q 0), .int (nI n)] (wT q cI cZ V E F B O R fl.length us cs.length (flat cs).length ((flat cs).count 10) ag0 rs0) (fun z => ∃ k, z = nI k ∧ BE (flat cs) n k) := by
  refine RI.mk (by decide +kernel) (Nat.le_of_ble_eq_true rfl) ?_
  intro p e s m below meth c ls C hP hl
  obtain ⟨hx, hb, hml, hown, hB, hlk, hr, htb, hK, hX⟩ := id C
  have hA := Aok_new s
  have hS : va_S (fun q => s.heap.size ≤ q) s.heap s.heap [] := va_S.rf
  have hl : lv_has ls 6 [(0, .ref (q 0)), (1, .int (nI n))] := hl
  obtain ⟨hl1, hl2, hl3, hl4⟩ := Rep_len hR
  have hcnt : (flat cs).count 10 ≤ (flat cs).length := List.count_le_length
  have hball := bp_all cs
  have loop : ∀ (g k lf : Nat) (ls : Array Slot), k < cs.length → cs.length ≤ k + g → lf + bp cs k = n → 1 ≤ lf → lv_has ls 6 [(4, .int (nI k)), (3, .int (nI (pl cs k))), (2, .int (nI lf)), (0, .ref (q 0)), (1, .int (nI n))] → W p l e rmz s m ([.ref (q 0), .int (nI n)] : List Value).toArray below meth c s.heap [] 0 0 (MQ below (QRi (fun z => ∃ k, z = nI k ∧ BE (flat cs) n k)) ([.ref (q 0), .int (nI n)] : List Value).toArray s rmz.cells rmz.slots (fun _ => False)) (F0 m 7 ls []) := by
    intro g
    induction g with
    | zero => intro k lf ls h1 h2; exact absurd h2 (by omega)
    | succ g ih =>
      intro k lf ls h1 h2 h3 h4 hl
      obtain ⟨lo, c1, xs, ro, hcs, hk, o1, o2, o3, o4, o5, o6, o7, p1, p2, b1, b2⟩ := Rep_get2 hR h1
      have hxc : xs.count 10 ≤ xs.length := List.count_le_length
      have hplall : pl cs (k + 1) ≤ (flat cs).length := by rw [← pl_all]; exact pl_mono (by omega)
      refine lv_iload_n hx hb d_LT_behindEnd_7 rfl (lv_at hl 2 rfl) ?_
      refine lv_aload_n hx hb d_LT_behindEnd_8 rfl (lv_at hl 3 rfl) ?_
      refine g_LT hx hb hB hown hK hP 0 rfl 3 (by decide) k_27 rfl d_LT_behindEnd_9 ?_
      refine lv_aload_n hx hb d_LT_behindEnd_12 rfl (lv_at hl 3 rfl) ?_
      refine g_LT hx hb hB hown hK hP 0 rfl 4 (by decide) k_28 rfl d_LT_behindEnd_13 ?_
      refine lv_iload hx hb d_LT_behindEnd_16 (lv_at hl 0 rfl) ?_
      refine ln_iald hx hb hK hP 5 0 rfl rfl (by omega) (by omega) d_LT_behindEnd_18 ?_
      refine ln_eqn (b := c1) (o1) ?_
      refine ln_iald hx hb hK hP 4 0 rfl rfl (by omega) (by omega) d_LT_behindEnd_19 ?_
      refine ln_eqn (b := xs.count 10) (o4) ?_
      refine ln_icmp_le (tgt := 59) hx hb d_LT_behindEnd_20 (by decide) (by omega) (by omega) (fun hc => ?_) (fun hc => ?_)
      · skip
        have loop2 : ∀ (g i lf : Nat) (ls : Array Slot), i ≤ xs.length → xs.length + 1 ≤ i + g → lf + cnt xs i + bp cs k = n → (∀ j, j < i → (flat lo).count 10 + cnt xs j < n) → lv_has ls 6 [(5, .int (nI i)), (4, .int (nI k)), (3, .int (nI (pl cs k))), (2, .int (nI lf)), (0, .ref (q 0)), (1, .int (nI n))] → W p l e rmz s m ([.ref (q 0), .int (nI n)] : List Value).toArray below meth c s.heap [] 0 0 (MQ below (QRi (fun z => ∃ k, z = nI k ∧ BE (flat cs) n k)) ([.ref (q 0), .int (nI n)] : List Value).toArray s rmz.cells rmz.slots (fun _ => False)) (F0 m 62 ls []) := by
          intro g
          induction g with
          | zero => intro i lf ls q1 q2; exact absurd q2 (by omega)
          | succ g ih2 =>
            intro i lf ls q1 q2 q3 q4 hl
            refine lv_iload_n hx hb d_LT_behindEnd_62 rfl (lv_at hl 3 rfl) ?_
            refine ln_if_le (tgt := 97) hx hb d_LT_behindEnd_63 (by decide) (by omega) (fun hc2 => ?_) (fun hc2 => ?_)
            · skip
              refine lv_iload_n hx hb d_LT_behindEnd_97 rfl (lv_at hl 2 rfl) ?_
              refine lv_iload hx hb d_LT_behindEnd_98 (lv_at hl 0 rfl) ?_
              refine ln_iadd hx hb d_LT_behindEnd_100 ?_
              exact e_Ri C ⟨pl cs k + i, rfl, by rw [p1, hcs]; exact BE_flat (by omega) q1 (by omega) q4⟩ d_LT_behindEnd_101
            · skip
              have hlt : i < xs.length := cnt_lt_of (m := n - bp cs k) (by omega) (by omega)
              have hs := cnt_s hlt
              refine lv_aload_n hx hb d_LT_behindEnd_66 rfl (lv_at hl 4 rfl) ?_
              refine g_LT hx hb hB hown hK hP 0 rfl 1 (by decide) k_25 rfl d_LT_behindEnd_67 ?_
              refine lv_sipush (v := nI 128) hx hb d_LT_behindEnd_70 (by decide) ?_
              refine lv_aload_n hx hb d_LT_behindEnd_73 rfl (lv_at hl 4 rfl) ?_
              refine g_LT hx hb hB hown hK hP 0 rfl 4 (by decide) k_28 rfl d_LT_behindEnd_74 ?_
              refine lv_iload hx hb d_LT_behindEnd_77 (lv_at hl 1 rfl) ?_
              refine ln_iald hx hb hK hP 5 0 rfl rfl (by omega) (by omega) d_LT_behindEnd_79 ?_
              refine ln_eqn (b := c1) (o1) ?_
              refine ln_imul hx hb d_LT_behindEnd_80 ?_
              refine lv_iload hx hb d_LT_behindEnd_81 (lv_at hl 0 rfl) ?_
              refine ln_iadd hx hb d_LT_behindEnd_83 ?_
              refine ln_zald hx hb hK hP 2 1 rfl rfl (by omega) (by omega) d_LT_behindEnd_84 ?_
              refine lv_eqi (y := bI (xs.getD i 0 == 10)) (by rw [o7 i hlt]) ?_
              refine ln_if_eq (tgt := 91) hx hb d_LT_behindEnd_85 (by decide) (fun hc3 => ?_) (fun hc3 => ?_)
              · skip
                have hne : ¬ xs.getD i 0 = 10 := by simpa using hc3
                rw [if_neg hne] at hs
                refine lv_iinc (v := (nI (i + 1))) (lv' := [(5, .int (nI (i + 1))), (4, .int (nI k)), (3, .int (nI (pl cs k))), (2, .int (nI lf)), (0, .ref (q 0)), (1, .int (nI n))]) hx hb d_LT_behindEnd_91 hl (k := 0) rfl (ln_p1 _) (by decide) rfl (fun ls hl => ?_)
                refine lv_goto (tgt := 62) hx hb d_LT_behindEnd_94 (by decide) ?_
                exact ih2 (i + 1) lf ls (by omega) (by omega) (by omega) (fun j hj => by rcases Nat.lt_or_ge j i with z | z; exact q4 j z; rw [show j = i by omega]; omega) (lv_sub hl [0, 1, 2, 3, 4, 5] rfl)
              · skip
                have hne : xs.getD i 0 = 10 := by simpa using hc3
                rw [if_pos hne] at hs
                refine lv_iinc (v := (nI (lf - 1))) (lv' := [(2, .int (nI (lf - 1))), (5, .int (nI i)), (4, .int (nI k)), (3, .int (nI (pl cs k))), (0, .ref (q 0)), (1, .int (nI n))]) hx hb d_LT_behindEnd_88 hl (k := 3) rfl (ln_m1 (by omega)) (by decide) rfl (fun ls hl => ?_)
                refine lv_iinc (v := (nI (i + 1))) (lv' := [(5, .int (nI (i + 1))), (2, .int (nI (lf - 1))), (4, .int (nI k)), (3, .int (nI (pl cs k))), (0, .ref (q 0)), (1, .int (nI n))]) hx hb d_LT_behindEnd_91 hl (k := 1) rfl (ln_p1 _) (by decide) rfl (fun ls hl => ?_)
                refine lv_goto (tgt := 62) hx hb d_LT_behindEnd_94 (by decide) ?_
                exact ih2 (i + 1) (lf - 1) ls (by omega) (by omega) (by omega) (fun j hj => by rcases Nat.lt_or_ge j i with z | z; exact q4 j z; rw [show j = i by omega]; omega) (lv_sub hl [0, 2, 3, 1, 4, 5] rfl)
        refine lv_iconst (v := nI 0) hx hb d_LT_behindEnd_59 (by decide) ?_
        refine lv_istore (lv' := [(5, .int (nI 0)), (4, .int (nI k)), (3, .int (nI (pl cs k))), (2, .int (nI lf)), (0, .ref (q 0)), (1, .int (nI n))]) hx hb d_LT_behindEnd_60 hl (by decide) rfl (fun ls hl => ?_)
        exact loop2 (xs.length + 1) 0 lf ls (by omega) (by omega) (by rw [cnt_0]; omega) (fun j hj => absurd hj (by omega)) (lv_sub hl [0, 1, 2, 3, 4, 5] rfl)
      · skip
        have hk2 : k + 1 < cs.length := by
          rcases Nat.lt_or_ge (k + 1) cs.length with z | z
          · exact z
          · have e : k + 1 = cs.length := by omega
            rw [e, hball] at b2
            omega
        refine lv_iload_n hx hb d_LT_behindEnd_23 rfl (lv_at hl 2 rfl) ?_
        refine lv_aload_n hx hb d_LT_behindEnd_24 rfl (lv_at hl 3 rfl) ?_
        refine g_LT hx hb hB hown hK hP 0 rfl 3 (by decide) k_27 rfl d_LT_behindEnd_25 ?_
        refine lv_aload_n hx hb d_LT_behindEnd_28 rfl (lv_at hl 3 rfl) ?_
        refine g_LT hx hb hB hown hK hP 0 rfl 4 (by decide) k_28 rfl d_LT_behindEnd_29 ?_
        refine lv_iload hx hb d_LT_behindEnd_32 (lv_at hl 0 rfl) ?_
        refine ln_iald hx hb hK hP 5 0 rfl rfl (by omega) (by omega) d_LT_behindEnd_34 ?_
        refine ln_eqn (b := c1) (o1) ?_
        refine ln_iald hx hb hK hP 4 0 rfl rfl (by omega) (by omega) d_LT_behindEnd_35 ?_
        refine ln_eqn (b := xs.count 10) (o4) ?_
        refine ln_isub hx hb d_LT_behindEnd_36 (by omega) ?_
        refine lv_istore_n (lv' := [(2, .int (nI (lf - (xs.count 10)))), (4, .int (nI k)), (3, .int (nI (pl cs k))), (0, .ref (q 0)), (1, .int (nI n))]) hx hb d_LT_behindEnd_37 rfl hl (by decide) rfl (fun ls hl => ?_)
        refine lv_iload_n hx hb d_LT_behindEnd_38 rfl (lv_at hl 2 rfl) ?_
        refine lv_aload_n hx hb d_LT_behindEnd_39 rfl (lv_at hl 3 rfl) ?_
        refine g_LT hx hb hB hown hK hP 0 rfl 2 (by decide) k_26 rfl d_LT_behindEnd_40 ?_
        refine lv_aload_n hx hb d_LT_behindEnd_43 rfl (lv_at hl 3 rfl) ?_
        refine g_LT hx hb hB hown hK hP 0 rfl 4 (by decide) k_28 rfl d_LT_behindEnd_44 ?_
        refine lv_iload hx hb d_LT_behindEnd_47 (lv_at hl 1 rfl) ?_
        refine ln_iald hx hb hK hP 5 0 rfl rfl (by omega) (by omega) d_LT_behindEnd_49 ?_
        refine ln_eqn (b := c1) (o1) ?_
        refine ln_iald hx hb hK hP 3 0 rfl rfl (by omega) (by omega) d_LT_behindEnd_50 ?_
        refine ln_eqn (b := xs.length) (o3) ?_
        refine ln_iadd hx hb d_LT_behindEnd_51 ?_
        refine lv_istore_n (lv' := [(3, .int (nI ((pl cs k) + xs.length))), (2, .int (nI (lf - (xs.count 10)))), (4, .int (nI k)), (0, .ref (q 0)), (1, .int (nI n))]) hx hb d_LT_behindEnd_52 rfl hl (by decide) rfl (fun ls hl => ?_)
        refine lv_iinc (v := (nI (k + 1))) (lv' := [(4, .int (nI (k + 1))), (3, .int (nI ((pl cs k) + xs.length))), (2, .int (nI (lf - (xs.count 10)))), (0, .ref (q 0)), (1, .int (nI n))]) hx hb d_LT_behindEnd_53 hl (k := 2) rfl (ln_p1 _) (by decide) rfl (fun ls hl => ?_)
        refine lv_goto (tgt := 7) hx hb d_LT_behindEnd_56 (by decide) ?_
        have hpl2 : pl cs k + xs.length = pl cs (k + 1) := by omega
        rw [hpl2] at hl
        exact ih (k + 1) (lf - xs.count 10) ls hk2 (by omega) (by omega) (by omega) (lv_sub hl [0, 1, 2, 3, 4] rfl)
  refine lv_iload_n hx hb d_LT_behindEnd_0 rfl (lv_at hl 1 rfl) ?_
  refine lv_istore_n (lv' := [(2, .int (nI n)), (0, .ref (q 0)), (1, .int (nI n))]) hx hb d_LT_behindEnd_1 rfl hl (by decide) rfl (fun ls hl => ?_)
  refine lv_iconst (v := nI 0) hx hb d_LT_behindEnd_2 (by decide) ?_
  refine lv_istore_n (lv' := [(3, .int (nI 0)), (2, .int (nI n)), (0, .ref (q 0)), (1, .int (nI n))]) hx hb d_LT_behindEnd_3 rfl hl (by decide) rfl (fun ls hl => ?_)
  refine lv_iconst (v := nI 0) hx hb d_LT_behindEnd_4 (by decide) ?_
  refine lv_istore (lv' := [(4, .int (nI 0)), (3, .int (nI 0)), (2, .int (nI n)), (0, .ref (q 0)), (1, .int (nI n))]) hx hb d_LT_behindEnd_5 hl (by decide) rfl (fun ls hl => ?_)
  exact loop cs.length 0 n ls (by omega) (by omega) (by rw [bp_0]; omega) h1n (by rw [pl_0]; exact lv_sub hl [0, 1, 2, 3, 4] rfl)
set_option maxHeartbeats 4000000 in
set_option maxRecDepth 100000 in
/-- copy: all values into an array that is long enough -/
theorem c_LT_copy (l : Launch) (D : va_G) (cI cZ cL : ClassId) (q : Nat → Nat) (V : Nat → Int32) (E : Nat → Bool) (F B O R : Nat → Nat) (us ct ln ag0 rs0 al AL : Nat) (AF : Nat → Int32) (fl : List Nat) (cs : Chs) (hR : Rep cs fl us V E F B O R) (hAL : (flat cs).length ≤ AL) (hA2 : AL < 100000) : CV l y_LT_copy hd_LT_copy rmz D (TY cI cZ cL) [.ref (q 0), .ref al] ((al, .inl (cI, AL, .inl AF)) :: wT q cI cZ V E F B O R fl.length us cs.length ct ln ag0 rs0) (fun AF2 : Nat → Int32 => ∀ j, j < (flat cs).length → AF2 j = (flat cs).getD j 0) (fun AF2 => (al, .inl (cI, AL, .inl AF2)) :: wT q cI cZ V E F B O R fl.length us cs.length ct ln ag0 rs0) := by
  refine CV.mk (by decide +kernel) (Nat.le_of_ble_eq_true rfl) ?_
  intro p e s m below meth c A ls C hin hA hP hD hl
  obtain ⟨hx, hb, hml, hown, hB, hlk, hr, htb, hK, hX⟩ := id C
  have hS : va_S A s.heap s.heap [] := va_S.rf
  have hl : lv_has ls 6 [(0, .ref (q 0)), (1, .ref al)] := hl
  obtain ⟨hl1, hl2, hl3, hl4⟩ := Rep_len hR
  have hplall := pl_all cs
  have loop : ∀ (g k : Nat) (AF1 : Nat → Int32) (H : Heap) (locs : List Loc) (ls : Array Slot), k ≤ cs.length → cs.length + 1 ≤ k + g → (∀ j, j < pl cs k → AF1 j = (flat cs).getD j 0) → va_P D classes ((al, .inl (cI, AL, .inl AF1)) :: wT q cI cZ V E F B O R fl.length us cs.length ct ln ag0 rs0) H → va_D A ((al, .inl (cI, AL, .inl AF1)) :: wT q cI cZ V E F B O R fl.length us cs.length ct ln ag0 rs0) → va_S A s.heap H locs → lv_has ls 6 [(3, .int (nI k)), (2, .int (nI (pl cs k))), (0, .ref (q 0)), (1, .ref al)] → W p l e rmz s m ([.ref (q 0), .ref al] : List Value).toArray below meth c H locs 0 0 (MQ below (QCv D (TY cI cZ cL) (fun AF2 : Nat → Int32 => ∀ j, j < (flat cs).length → AF2 j = (flat cs).getD j 0) (fun AF2 => (al, .inl (cI, AL, .inl AF2)) :: wT q cI cZ V E F B O R fl.length us cs.length ct ln ag0 rs0) A) ([.ref (q 0), .ref al] : List Value).toArray s rmz.cells rmz.slots A) (F0 m 4 ls []) := by
    intro g
    induction g with
    | zero => intro k AF1 H locs ls h1 h2; exact absurd h2 (by omega)
    | succ g ih =>
      intro k AF1 H locs ls h1 h2 h3 hP hD hS hl
      refine lv_iload_n hx hb d_LT_copy_4 rfl (lv_at hl 0 rfl) ?_
      refine lv_aload_n hx hb d_LT_copy_5 rfl (lv_at hl 2 rfl) ?_
      refine g_LT hx hb hB hown hK hP 1 rfl 8 (by decide) k_32 rfl d_LT_copy_6 ?_
      refine ln_icmp_ge (tgt := 67) hx hb d_LT_copy_9 (by decide) (by omega) (by omega) (fun hc => ?_) (fun hc => ?_)
      · skip
        obtain rfl : k = cs.length := by omega
        rw [hplall] at h3
        exact e_Cv C hS (AF1) (h3) hP hD (by decide) (by decide) d_LT_copy_67
      · skip
        obtain ⟨lo, c1, xs, ro, hcs, hk, o1, o2, o3, o4, o5, o6, o7, p1, p2, b1, b2⟩ := Rep_get2 hR hc
        have hple : pl cs (k + 1) ≤ (flat cs).length := by rw [← hplall]; exact pl_mono (by omega)
        have loop2 : ∀ (g i : Nat) (AF2 : Nat → Int32) (H : Heap) (locs : List Loc) (ls : Array Slot), i ≤ xs.length → xs.length + 1 ≤ i + g → (∀ j, j < pl cs k + i → AF2 j = (flat cs).getD j 0) → va_P D classes ((al, .inl (cI, AL, .inl AF2)) :: wT q cI cZ V E F B O R fl.length us cs.length ct ln ag0 rs0) H → va_D A ((al, .inl (cI, AL, .inl AF2)) :: wT q cI cZ V E F B O R fl.length us cs.length ct ln ag0 rs0) → va_S A s.heap H locs → lv_has ls 6 [(5, .int (nI i)), (2, .int (nI (pl cs k + i))), (4, .int (nI c1)), (3, .int (nI k)), (0, .ref (q 0)), (1, .ref al)] → W p l e rmz s m ([.ref (q 0), .ref al] : List Value).toArray below meth c H locs 0 0 (MQ below (QCv D (TY cI cZ cL) (fun AF2 : Nat → Int32 => ∀ j, j < (flat cs).length → AF2 j = (flat cs).getD j 0) (fun AF2 => (al, .inl (cI, AL, .inl AF2)) :: wT q cI cZ V E F B O R fl.length us cs.length ct ln ag0 rs0) A) ([.ref (q 0), .ref al] : List Value).toArray s rmz.cells rmz.slots A) (F0 m 23 ls []) := by
          intro g
          induction g with
          | zero => intro i AF2 H locs ls q1 q2; exact absurd q2 (by omega)
          | succ g ih2 =>
            intro i AF2 H locs ls q1 q2 q3 hP hD hS hl
            refine lv_iload hx hb d_LT_copy_23 (lv_at hl 0 rfl) ?_
            refine lv_aload_n hx hb d_LT_copy_25 rfl (lv_at hl 4 rfl) ?_
            refine g_LT hx hb hB hown hK hP 1 rfl 2 (by decide) k_26 rfl d_LT_copy_26 ?_
            refine lv_iload hx hb d_LT_copy_29 (lv_at hl 2 rfl) ?_
            refine ln_iald hx hb hK hP 4 0 rfl rfl (by omega) (by omega) d_LT_copy_31 ?_
            refine ln_eqn (b := xs.length) (o3) ?_
            refine ln_icmp_ge (tgt := 61) hx hb d_LT_copy_32 (by decide) (by omega) (by omega) (fun hc2 => ?_) (fun hc2 => ?_)
            · skip
              refine lv_iinc (v := (nI (k + 1))) (lv' := [(3, .int (nI (k + 1))), (5, .int (nI i)), (2, .int (nI (pl cs k + i))), (4, .int (nI c1)), (0, .ref (q 0)), (1, .ref al)]) hx hb d_LT_copy_61 hl (k := 3) rfl (ln_p1 _) (by decide) rfl (fun ls hl => ?_)
              refine lv_goto (tgt := 4) hx hb d_LT_copy_64 (by decide) ?_
              have hpl2 : pl cs k + i = pl cs (k + 1) := by omega
              rw [hpl2] at hl q3
              exact ih (k + 1) AF2 H locs ls (by omega) (by omega) q3 hP hD hS (lv_sub hl [0, 2, 4, 5] rfl)
            · skip
              refine lv_aload_n hx hb d_LT_copy_35 rfl (lv_at hl 5 rfl) ?_
              refine lv_iload_n hx hb d_LT_copy_36 rfl (lv_at hl 1 rfl) ?_
              refine lv_aload_n hx hb d_LT_copy_37 rfl (lv_at hl 4 rfl) ?_
              refine g_LT hx hb hB hown hK hP 1 rfl 0 (by decide) k_24 rfl d_LT_copy_38 ?_
              refine lv_sipush (v := nI 128) hx hb d_LT_copy_41 (by decide) ?_
              refine lv_iload hx hb d_LT_copy_44 (lv_at hl 2 rfl) ?_
              refine ln_imul hx hb d_LT_copy_46 ?_
              refine lv_iload hx hb d_LT_copy_47 (lv_at hl 0 rfl) ?_
              refine ln_iadd hx hb d_LT_copy_49 ?_
              refine ln_vald hx hb hK hP 2 0 rfl rfl (by omega) (by omega) d_LT_copy_50 ?_
              refine ln_vast hx hb hK hP hD hS 0 0 rfl rfl (by omega) (by omega) d_LT_copy_51 (fun H locs hP hD hS => ?_)
              have hP : va_P D classes ((al, .inl (cI, AL, .inl (upd AF2 (pl cs k + i) (V ((128 * c1) + i))))) :: wT q cI cZ V E F B O R fl.length us cs.length ct ln ag0 rs0) H := hP
              have hD : va_D A ((al, .inl (cI, AL, .inl (upd AF2 (pl cs k + i) (V ((128 * c1) + i))))) :: wT q cI cZ V E F B O R fl.length us cs.length ct ln ag0 rs0) := hD
              refine lv_iinc (v := (nI (pl cs k + i + 1))) (lv' := [(2, .int (nI (pl cs k + i + 1))), (5, .int (nI i)), (4, .int (nI c1)), (3, .int (nI k)), (0, .ref (q 0)), (1, .ref al)]) hx hb d_LT_copy_52 hl (k := 1) rfl (ln_p1 _) (by decide) rfl (fun ls hl => ?_)
              refine lv_iinc (v := (nI (i + 1))) (lv' := [(5, .int (nI (i + 1))), (2, .int (nI (pl cs k + i + 1))), (4, .int (nI c1)), (3, .int (nI k)), (0, .ref (q 0)), (1, .ref al)]) hx hb d_LT_copy_55 hl (k := 1) rfl (ln_p1 _) (by decide) rfl (fun ls hl => ?_)
              refine lv_goto (tgt := 23) hx hb d_LT_copy_58 (by decide) ?_
              have hval : V (128 * c1 + i) = (flat cs).getD (pl cs k + i) 0 := by rw [o6 i hc2, p1, hcs]; exact (flat_getD hc2).symm
              exact ih2 (i + 1) _ H locs ls (by omega) (by omega) (fun j hj => by by_cases z : j = pl cs k + i; (rw [z, upd_s]; exact hval); (rw [upd_n z]; exact q3 j (by omega))) hP hD hS (lv_sub hl [0, 1, 2, 3, 4, 5] rfl)
        refine lv_aload_n hx hb d_LT_copy_12 rfl (lv_at hl 2 rfl) ?_
        refine g_LT hx hb hB hown hK hP 1 rfl 4 (by decide) k_28 rfl d_LT_copy_13 ?_
        refine lv_iload_n hx hb d_LT_copy_16 rfl (lv_at hl 0 rfl) ?_
        refine ln_iald hx hb hK hP 6 0 rfl rfl (by omega) (by omega) d_LT_copy_17 ?_
        refine ln_eqn (b := c1) (o1) ?_
        refine lv_istore (lv' := [(4, .int (nI c1)), (3, .int (nI k)), (2, .int (nI (pl cs k))), (0, .ref (q 0)), (1, .ref al)]) hx hb d_LT_copy_18 hl (by decide) rfl (fun ls hl => ?_)
        refine lv_iconst (v := nI 0) hx hb d_LT_copy_20 (by decide) ?_
        refine lv_istore (lv' := [(5, .int (nI 0)), (4, .int (nI c1)), (3, .int (nI k)), (2, .int (nI (pl cs k))), (0, .ref (q 0)), (1, .ref al)]) hx hb d_LT_copy_21 hl (by decide) rfl (fun ls hl => ?_)
        exact loop2 (xs.length + 1) 0 AF1 H locs ls (by omega) (by omega) h3 hP hD hS (lv_sub hl [0, 3, 1, 2, 4, 5] rfl)
  refine lv_iconst (v := nI 0) hx hb d_LT_copy_0 (by decide) ?_
  refine lv_istore_n (lv' := [(2, .int (nI 0)), (0, .ref (q 0)), (1, .ref al)]) hx hb d_LT_copy_1 rfl hl (by decide) rfl (fun ls hl => ?_)
  refine lv_iconst (v := nI 0) hx hb d_LT_copy_2 (by decide) ?_
  refine lv_istore_n (lv' := [(3, .int (nI 0)), (2, .int (nI 0)), (0, .ref (q 0)), (1, .ref al)]) hx hb d_LT_copy_3 rfl hl (by decide) rfl (fun ls hl => ?_)
  exact loop (cs.length + 1) 0 AF s.heap [] ls (by omega) (by omega) (fun j hj => absurd hj (by rw [pl_0]; omega)) hP hD hS (by rw [pl_0]; exact lv_sub hl [0, 1, 2, 3] rfl)
set_option maxHeartbeats 4000000 in
set_option maxRecDepth 100000 in
/-- the constructor -/
theorem c_LT_init (l : Launch) (D : va_G) (cI cZ cL : ClassId) (t0 : Nat) : CV l y_LT_init hd_LT_init rmJ D (TY cI cZ cL) [.ref t0, .int (nI 20000)] ([(t0, .inr (0, [.null, .null, .null, .null, .null, .null, .int 0, .int 0, .int 0, .int 0, .int 0, .int 0, .int 0]))]) (fun q : Nat → Nat => q 0 = t0) (fun q => wT q cI cZ (fun _ => 0) (fun _ => false) (fun _ => 0) (fun _ => 0) (fun _ => 0) (fun _ => 0) 0 1 1 0 0 0 0) := by
  refine CV.mk (by decide +kernel) (Nat.le_of_ble_eq_true rfl) ?_
  intro p e s m below meth c A ls C hin hA hP hD hl
  obtain ⟨hx, hb, hml, hown, hB, hlk, hr, htb, hK, hX⟩ := id C
  have hS : va_S A s.heap s.heap [] := va_S.rf
  have hl : lv_has ls 3 [(0, .ref t0), (1, .int (nI 20000))] := hl
  have hin : meth.name = "<init>" := hin
  refine lv_aload_n hx hb d_LT_init_0 rfl (lv_at hl 0 rfl) ?_
  refine W.objInit hx hb hown (hB _ k_23) (hB _ k_16) (hB _ k_17) rfl (by rw [hml]; exact hl.1) rfl d_LT_init_1 (Nat.le_of_ble_eq_true rfl) (Nat.le_of_ble_eq_true rfl) ?_
  refine W.eq (g2 := F0 m 4 ls []) rfl ?_
  refine lv_aload_n hx hb d_LT_init_4 rfl (lv_at hl 0 rfl) ?_
  refine lv_iconst (v := nI 1) hx hb d_LT_init_5 (by decide) ?_
  refine p_LT hx hb hB hown hK hP hD hS 0 rfl 7 (by decide) k_31 rfl rfl (Nat.le_of_ble_eq_true rfl) d_LT_init_6 (fun H locs hP hD hS => ?_)
  have hP : va_P D classes ([(t0, .inr (0, [.null, .null, .null, .null, .null, .null, .int 0, .int (nI 1), .int 0, .int 0, .int 0, .int 0, .int 0]))]) H := hP
  have hD : va_D A ([(t0, .inr (0, [.null, .null, .null, .null, .null, .null, .int 0, .int (nI 1), .int 0, .int 0, .int 0, .int 0, .int 0]))]) := hD
  refine lv_aload_n hx hb d_LT_init_9 rfl (lv_at hl 0 rfl) ?_
  refine lv_iconst (v := nI 1) hx hb d_LT_init_10 (by decide) ?_
  refine p_LT hx hb hB hown hK hP hD hS 0 rfl 8 (by decide) k_32 rfl rfl (Nat.le_of_ble_eq_true rfl) d_LT_init_11 (fun H locs hP hD hS => ?_)
  have hP : va_P D classes ([(t0, .inr (0, [.null, .null, .null, .null, .null, .null, .int 0, .int (nI 1), .int (nI 1), .int 0, .int 0, .int 0, .int 0]))]) H := hP
  have hD : va_D A ([(t0, .inr (0, [.null, .null, .null, .null, .null, .null, .int 0, .int (nI 1), .int (nI 1), .int 0, .int 0, .int 0, .int 0]))]) := hD
  refine lv_iconst (v := nI 2) hx hb d_LT_init_14 (by decide) ?_
  refine lv_iload_n hx hb d_LT_init_15 rfl (lv_at hl 1 rfl) ?_
  refine lv_bipush (v := nI 64) hx hb d_LT_init_16 (by decide) ?_
  refine ln_idiv hx hb d_LT_init_18 (by omega) (by omega) (by omega) ?_
  refine ln_eqn (b := 312) (by decide) ?_
  refine ln_imul hx hb d_LT_init_19 ?_
  refine lv_iconst (v := nI 4) hx hb d_LT_init_20 (by decide) ?_
  refine ln_iadd hx hb d_LT_init_21 ?_
  refine ln_eqn (b := 628) (by decide) ?_
  refine lv_istore_n (lv' := [(2, .int (nI 628)), (0, .ref t0), (1, .int (nI 20000))]) hx hb d_LT_init_22 rfl hl (by decide) rfl (fun ls hl => ?_)
  refine lv_aload_n hx hb d_LT_init_23 rfl (lv_at hl 1 rfl) ?_
  refine lv_sipush (v := nI 128) hx hb d_LT_init_24 (by decide) ?_
  refine lv_iload_n hx hb d_LT_init_27 rfl (lv_at hl 0 rfl) ?_
  refine ln_imul hx hb d_LT_init_28 ?_
  refine ln_eqn (b := 80384) (by decide) ?_
  refine va_newa (atype := .int) (ty := .int) (a0 := (80384, .inl (fun _ => 0))) (N' := 80384) hx hb (hB _ k_66) rfl hK hP hD hS hA.1 (fun cA => rfl) (nI_pos (by omega)) (nI_clamp (by omega)) (by decide) (by decide) (by decide) d_LT_init_29 (fun a1 cA H hK2 hP hD hS => ?_)
  obtain rfl := (xcA_int hK2 0 rfl).symm
  have hP : va_P D classes ([(t0, .inr (0, [.null, .null, .null, .null, .null, .null, .int 0, .int (nI 1), .int (nI 1), .int 0, .int 0, .int 0, .int 0])), (a1, .inl (cI, 80384, .inl (fun _ => 0)))]) H := hP
  have hD : va_D A ([(t0, .inr (0, [.null, .null, .null, .null, .null, .null, .int 0, .int (nI 1), .int (nI 1), .int 0, .int 0, .int 0, .int 0])), (a1, .inl (cI, 80384, .inl (fun _ => 0)))]) := hD
  refine p_LTf hx hb hB hown hK hP hD hS 0 rfl 0 (by decide) k_24 rfl hin rfl rfl (Nat.le_of_ble_eq_true rfl) d_LT_init_31 (fun H locs hP hD hS => ?_)
  have hP : va_P D classes ([(t0, .inr (0, [.ref a1, .null, .null, .null, .null, .null, .int 0, .int (nI 1), .int (nI 1), .int 0, .int 0, .int 0, .int 0])), (a1, .inl (cI, 80384, .inl (fun _ => 0)))]) H := hP
  have hD : va_D A ([(t0, .inr (0, [.ref a1, .null, .null, .null, .null, .null, .int 0, .int (nI 1), .int (nI 1), .int 0, .int 0, .int 0, .int 0])), (a1, .inl (cI, 80384, .inl (fun _ => 0)))]) := hD
  refine lv_aload_n hx hb d_LT_init_34 rfl (lv_at hl 1 rfl) ?_
  refine lv_sipush (v := nI 128) hx hb d_LT_init_35 (by decide) ?_
  refine lv_iload_n hx hb d_LT_init_38 rfl (lv_at hl 0 rfl) ?_
  refine ln_imul hx hb d_LT_init_39 ?_
  refine ln_eqn (b := 80384) (by decide) ?_
  refine va_newa (atype := .boolean) (ty := .boolean) (a0 := (80384, .inl (bF (fun _ => false)))) (N' := 80384) hx hb (hB _ k_67) rfl hK hP hD hS hA.1 (fun cA => rfl) (nI_pos (by omega)) (nI_clamp (by omega)) (by decide) (by decide) (by decide) d_LT_init_40 (fun a2 cA H hK2 hP hD hS => ?_)
  obtain rfl := (xcA_bool hK2 1 rfl).symm
  have hP : va_P D classes ([(t0, .inr (0, [.ref a1, .null, .null, .null, .null, .null, .int 0, .int (nI 1), .int (nI 1), .int 0, .int 0, .int 0, .int 0])), (a1, .inl (cI, 80384, .inl (fun _ => 0))), (a2, .inl (cZ, 80384, .inl (bF (fun _ => false))))]) H := hP
  have hD : va_D A ([(t0, .inr (0, [.ref a1, .null, .null, .null, .null, .null, .int 0, .int (nI 1), .int (nI 1), .int 0, .int 0, .int 0, .int 0])), (a1, .inl (cI, 80384, .inl (fun _ => 0))), (a2, .inl (cZ, 80384, .inl (bF (fun _ => false))))]) := hD
  refine p_LTf hx hb hB hown hK hP hD hS 0 rfl 1 (by decide) k_25 rfl hin rfl rfl (Nat.le_of_ble_eq_true rfl) d_LT_init_42 (fun H locs hP hD hS => ?_)
  have hP : va_P D classes ([(t0, .inr (0, [.ref a1, .ref a2, .null, .null, .null, .null, .int 0, .int (nI 1), .int (nI 1), .int 0, .int 0, .int 0, .int 0])), (a1, .inl (cI, 80384, .inl (fun _ => 0))), (a2, .inl (cZ, 80384, .inl (bF (fun _ => false))))]) H := hP
  have hD : va_D A ([(t0, .inr (0, [.ref a1, .ref a2, .null, .null, .null, .null, .int 0, .int (nI 1), .int (nI 1), .int 0, .int 0, .int 0, .int 0])), (a1, .inl (cI, 80384, .inl (fun _ => 0))), (a2, .inl (cZ, 80384, .inl (bF (fun _ => false))))]) := hD
  refine lv_aload_n hx hb d_LT_init_45 rfl (lv_at hl 1 rfl) ?_
  refine lv_iload_n hx hb d_LT_init_46 rfl (lv_at hl 0 rfl) ?_
  refine va_newa (atype := .int) (ty := .int) (a0 := (628, .inl (nF (fun _ => 0)))) (N' := 628) hx hb (hB _ k_66) rfl hK hP hD hS hA.1 (fun cA => rfl) (nI_pos (by omega)) (nI_clamp (by omega)) (by decide) (by decide) (by decide) d_LT_init_47 (fun a3 cA H hK2 hP hD hS => ?_)
  obtain rfl := (xcA_int hK2 0 rfl).symm
  have hP : va_P D classes ([(t0, .inr (0, [.ref a1, .ref a2, .null, .null, .null, .null, .int 0, .int (nI 1), .int (nI 1), .int 0, .int 0, .int 0, .int 0])), (a1, .inl (cI, 80384, .inl (fun _ => 0))), (a2, .inl (cZ, 80384, .inl (bF (fun _ => false)))), (a3, .inl (cI, 628, .inl (nF (fun _ => 0))))]) H := hP
  have hD : va_D A ([(t0, .inr (0, [.ref a1, .ref a2, .null, .null, .null, .null, .int 0, .int (nI 1), .int (nI 1), .int 0, .int 0, .int 0, .int 0])), (a1, .inl (cI, 80384, .inl (fun _ => 0))), (a2, .inl (cZ, 80384, .inl (bF (fun _ => false)))), (a3, .inl (cI, 628, .inl (nF (fun _ => 0))))]) := hD
  refine p_LTf hx hb hB hown hK hP hD hS 0 rfl 2 (by decide) k_26 rfl hin rfl rfl (Nat.le_of_ble_eq_true rfl) d_LT_init_49 (fun H locs hP hD hS => ?_)
  have hP : va_P D classes ([(t0, .inr (0, [.ref a1, .ref a2, .ref a3, .null, .null, .null, .int 0, .int (nI 1), .int (nI 1), .int 0, .int 0, .int 0, .int 0])), (a1, .inl (cI, 80384, .inl (fun _ => 0))), (a2, .inl (cZ, 80384, .inl (bF (fun _ => false)))), (a3, .inl (cI, 628, .inl (nF (fun _ => 0))))]) H := hP
  have hD : va_D A ([(t0, .inr (0, [.ref a1, .ref a2, .ref a3, .null, .null, .null, .int 0, .int (nI 1), .int (nI 1), .int 0, .int 0, .int 0, .int 0])), (a1, .inl (cI, 80384, .inl (fun _ => 0))), (a2, .inl (cZ, 80384, .inl (bF (fun _ => false)))), (a3, .inl (cI, 628, .inl (nF (fun _ => 0))))]) := hD
  refine lv_aload_n hx hb d_LT_init_52 rfl (lv_at hl 1 rfl) ?_
  refine lv_iload_n hx hb d_LT_init_53 rfl (lv_at hl 0 rfl) ?_
  refine va_newa (atype := .int) (ty := .int) (a0 := (628, .inl (nF (fun _ => 0)))) (N' := 628) hx hb (hB _ k_66) rfl hK hP hD hS hA.1 (fun cA => rfl) (nI_pos (by omega)) (nI_clamp (by omega)) (by decide) (by decide) (by decide) d_LT_init_54 (fun a4 cA H hK2 hP hD hS => ?_)
  obtain rfl := (xcA_int hK2 0 rfl).symm
  have hP : va_P D classes ([(t0, .inr (0, [.ref a1, .ref a2, .ref a3, .null, .null, .null, .int 0, .int (nI 1), .int (nI 1), .int 0, .int 0, .int 0, .int 0])), (a1, .inl (cI, 80384, .inl (fun _ => 0))), (a2, .inl (cZ, 80384, .inl (bF (fun _ => false)))), (a3, .inl (cI, 628, .inl (nF (fun _ => 0)))), (a4, .inl (cI, 628, .inl (nF (fun _ => 0))))]) H := hP
  have hD : va_D A ([(t0, .inr (0, [.ref a1, .ref a2, .ref a3, .null, .null, .null, .int 0, .int (nI 1), .int (nI 1), .int 0, .int 0, .int 0, .int 0])), (a1, .inl (cI, 80384, .inl (fun _ => 0))), (a2, .inl (cZ, 80384, .inl (bF (fun _ => false)))), (a3, .inl (cI, 628, .inl (nF (fun _ => 0)))), (a4, .inl (cI, 628, .inl (nF (fun _ => 0))))]) := hD
  refine p_LTf hx hb hB hown hK hP hD hS 0 rfl 3 (by decide) k_27 rfl hin rfl rfl (Nat.le_of_ble_eq_true rfl) d_LT_init_56 (fun H locs hP hD hS => ?_)
  have hP : va_P D classes ([(t0, .inr (0, [.ref a1, .ref a2, .ref a3, .ref a4, .null, .null, .int 0, .int (nI 1), .int (nI 1), .int 0, .int 0, .int 0, .int 0])), (a1, .inl (cI, 80384, .inl (fun _ => 0))), (a2, .inl (cZ, 80384, .inl (bF (fun _ => false)))), (a3, .inl (cI, 628, .inl (nF (fun _ => 0)))), (a4, .inl (cI, 628, .inl (nF (fun _ => 0))))]) H := hP
  have hD : va_D A ([(t0, .inr (0, [.ref a1, .ref a2, .ref a3, .ref a4, .null, .null, .int 0, .int (nI 1), .int (nI 1), .int 0, .int 0, .int 0, .int 0])), (a1, .inl (cI, 80384, .inl (fun _ => 0))), (a2, .inl (cZ, 80384, .inl (bF (fun _ => false)))), (a3, .inl (cI, 628, .inl (nF (fun _ => 0)))), (a4, .inl (cI, 628, .inl (nF (fun _ => 0))))]) := hD
  refine lv_aload_n hx hb d_LT_init_59 rfl (lv_at hl 1 rfl) ?_
  refine lv_iload_n hx hb d_LT_init_60 rfl (lv_at hl 0 rfl) ?_
  refine va_newa (atype := .int) (ty := .int) (a0 := (628, .inl (nF (fun _ => 0)))) (N' := 628) hx hb (hB _ k_66) rfl hK hP hD hS hA.1 (fun cA => rfl) (nI_pos (by omega)) (nI_clamp (by omega)) (by decide) (by decide) (by decide) d_LT_init_61 (fun a5 cA H hK2 hP hD hS => ?_)
  obtain rfl := (xcA_int hK2 0 rfl).symm
  have hP : va_P D classes ([(t0, .inr (0, [.ref a1, .ref a2, .ref a3, .ref a4, .null, .null, .int 0, .int (nI 1), .int (nI 1), .int 0, .int 0, .int 0, .int 0])), (a1, .inl (cI, 80384, .inl (fun _ => 0))), (a2, .inl (cZ, 80384, .inl (bF (fun _ => false)))), (a3, .inl (cI, 628, .inl (nF (fun _ => 0)))), (a4, .inl (cI, 628, .inl (nF (fun _ => 0)))), (a5, .inl (cI, 628, .inl (nF (fun _ => 0))))]) H := hP
  have hD : va_D A ([(t0, .inr (0, [.ref a1, .ref a2, .ref a3, .ref a4, .null, .null, .int 0, .int (nI 1), .int (nI 1), .int 0, .int 0, .int 0, .int 0])), (a1, .inl (cI, 80384, .inl (fun _ => 0))), (a2, .inl (cZ, 80384, .inl (bF (fun _ => false)))), (a3, .inl (cI, 628, .inl (nF (fun _ => 0)))), (a4, .inl (cI, 628, .inl (nF (fun _ => 0)))), (a5, .inl (cI, 628, .inl (nF (fun _ => 0))))]) := hD
  refine p_LTf hx hb hB hown hK hP hD hS 0 rfl 4 (by decide) k_28 rfl hin rfl rfl (Nat.le_of_ble_eq_true rfl) d_LT_init_63 (fun H locs hP hD hS => ?_)
  have hP : va_P D classes ([(t0, .inr (0, [.ref a1, .ref a2, .ref a3, .ref a4, .ref a5, .null, .int 0, .int (nI 1), .int (nI 1), .int 0, .int 0, .int 0, .int 0])), (a1, .inl (cI, 80384, .inl (fun _ => 0))), (a2, .inl (cZ, 80384, .inl (bF (fun _ => false)))), (a3, .inl (cI, 628, .inl (nF (fun _ => 0)))), (a4, .inl (cI, 628, .inl (nF (fun _ => 0)))), (a5, .inl (cI, 628, .inl (nF (fun _ => 0))))]) H := hP
  have hD : va_D A ([(t0, .inr (0, [.ref a1, .ref a2, .ref a3, .ref a4, .ref a5, .null, .int 0, .int (nI 1), .int (nI 1), .int 0, .int 0, .int 0, .int 0])), (a1, .inl (cI, 80384, .inl (fun _ => 0))), (a2, .inl (cZ, 80384, .inl (bF (fun _ => false)))), (a3, .inl (cI, 628, .inl (nF (fun _ => 0)))), (a4, .inl (cI, 628, .inl (nF (fun _ => 0)))), (a5, .inl (cI, 628, .inl (nF (fun _ => 0))))]) := hD
  refine lv_aload_n hx hb d_LT_init_66 rfl (lv_at hl 1 rfl) ?_
  refine lv_iload_n hx hb d_LT_init_67 rfl (lv_at hl 0 rfl) ?_
  refine va_newa (atype := .int) (ty := .int) (a0 := (628, .inl (nF (fun _ => 0)))) (N' := 628) hx hb (hB _ k_66) rfl hK hP hD hS hA.1 (fun cA => rfl) (nI_pos (by omega)) (nI_clamp (by omega)) (by decide) (by decide) (by decide) d_LT_init_68 (fun a6 cA H hK2 hP hD hS => ?_)
  obtain rfl := (xcA_int hK2 0 rfl).symm
  have hP : va_P D classes ([(t0, .inr (0, [.ref a1, .ref a2, .ref a3, .ref a4, .ref a5, .null, .int 0, .int (nI 1), .int (nI 1), .int 0, .int 0, .int 0, .int 0])), (a1, .inl (cI, 80384, .inl (fun _ => 0))), (a2, .inl (cZ, 80384, .inl (bF (fun _ => false)))), (a3, .inl (cI, 628, .inl (nF (fun _ => 0)))), (a4, .inl (cI, 628, .inl (nF (fun _ => 0)))), (a5, .inl (cI, 628, .inl (nF (fun _ => 0)))), (a6, .inl (cI, 628, .inl (nF (fun _ => 0))))]) H := hP
  have hD : va_D A ([(t0, .inr (0, [.ref a1, .ref a2, .ref a3, .ref a4, .ref a5, .null, .int 0, .int (nI 1), .int (nI 1), .int 0, .int 0, .int 0, .int 0])), (a1, .inl (cI, 80384, .inl (fun _ => 0))), (a2, .inl (cZ, 80384, .inl (bF (fun _ => false)))), (a3, .inl (cI, 628, .inl (nF (fun _ => 0)))), (a4, .inl (cI, 628, .inl (nF (fun _ => 0)))), (a5, .inl (cI, 628, .inl (nF (fun _ => 0)))), (a6, .inl (cI, 628, .inl (nF (fun _ => 0))))]) := hD
  refine p_LTf hx hb hB hown hK hP hD hS 0 rfl 5 (by decide) k_29 rfl hin rfl rfl (Nat.le_of_ble_eq_true rfl) d_LT_init_70 (fun H locs hP hD hS => ?_)
  have hP : va_P D classes ([(t0, .inr (0, [.ref a1, .ref a2, .ref a3, .ref a4, .ref a5, .ref a6, .int 0, .int (nI 1), .int (nI 1), .int 0, .int 0, .int 0, .int 0])), (a1, .inl (cI, 80384, .inl (fun _ => 0))), (a2, .inl (cZ, 80384, .inl (bF (fun _ => false)))), (a3, .inl (cI, 628, .inl (nF (fun _ => 0)))), (a4, .inl (cI, 628, .inl (nF (fun _ => 0)))), (a5, .inl (cI, 628, .inl (nF (fun _ => 0)))), (a6, .inl (cI, 628, .inl (nF (fun _ => 0))))]) H := hP
  have hD : va_D A ([(t0, .inr (0, [.ref a1, .ref a2, .ref a3, .ref a4, .ref a5, .ref a6, .int 0, .int (nI 1), .int (nI 1), .int 0, .int 0, .int 0, .int 0])), (a1, .inl (cI, 80384, .inl (fun _ => 0))), (a2, .inl (cZ, 80384, .inl (bF (fun _ => false)))), (a3, .inl (cI, 628, .inl (nF (fun _ => 0)))), (a4, .inl (cI, 628, .inl (nF (fun _ => 0)))), (a5, .inl (cI, 628, .inl (nF (fun _ => 0)))), (a6, .inl (cI, 628, .inl (nF (fun _ => 0))))]) := hD
  exact e_Cv C hS (u := (fun k => ([t0, a1, a2, a3, a4, a5, a6] : List Nat).getD k 0)) rfl hP hD (by decide) (by decide) d_LT_init_73
end
section
/-! ===== LineChunks: its world; the text's contracts by state ===== -/
abbrev wC (xo al : Nat) (q : Nat → Nat) (cI cZ : ClassId) (AL : Nat) (AF : Nat → Int32) (u : TXS) : va_W := (xo, .inr (1, [.ref (q 0), .ref al])) :: (al, .inl (cI, AL, .inl AF)) :: wS q cI cZ u
theorem s_LT_insert (l : Launch) (D : va_G) (cI cZ cL : ClassId) (q : Nat → Nat) (u0 : TXS) (txt : List Int32) (hu : OKS u0 txt) (i : Nat) (v : Int32) (hi : i ≤ txt.length) (hn : txt.length < 20000) : CV l y_LT_insert hd_LT_insert rmS D (TY cI cZ cL) [.ref (q 0), .int (nI i), .int v, .int (bI (v == 10))] (wS q cI cZ u0) (fun u : TXS => OKS u (insN txt i [v])) (fun u => wS q cI cZ u) := by
  obtain ⟨cs, fl, us, V, E, F, B, O, R, ag, rs⟩ := u0
  obtain ⟨hR, hAd, hf⟩ := hu
  simp only at hR hAd hf
  subst hf
  exact c_LT_insert l D cI cZ cL q V E F B O R us ag rs fl cs hR hAd i v hi hn
theorem s_LT_delete (l : Launch) (D : va_G) (cI cZ cL : ClassId) (q : Nat → Nat) (u0 : TXS) (txt : List Int32) (hu : OKS u0 txt) (i : Nat) (hi : i < txt.length) (hn : txt.length ≤ 20000) : CV l y_LT_delete hd_LT_delete rmS D (TY cI cZ cL) [.ref (q 0), .int (nI i)] (wS q cI cZ u0) (fun u : TXS => OKS u (delN txt i 1)) (fun u => wS q cI cZ u) := by
  obtain ⟨cs, fl, us, V, E, F, B, O, R, ag, rs⟩ := u0
  obtain ⟨hR, hAd, hf⟩ := hu
  simp only at hR hAd hf
  subst hf
  exact c_LT_delete l D cI cZ cL q V E F B O R us ag rs fl cs hR hAd i hi hn
theorem s_LT_get (l : Launch) (D : va_G) (cI cZ cL : ClassId) (q : Nat → Nat) (u0 : TXS) (txt : List Int32) (hu : OKS u0 txt) (i : Nat) (hi : i < txt.length) (hn : txt.length ≤ 20000) : CI l y_LT_get hd_LT_get rmS D (TY cI cZ cL) [.ref (q 0), .int (nI i)] (wS q cI cZ u0) (fun (z : Int32) (u : TXS) => OKS u txt ∧ z = txt.getD i 0) (fun u => wS q cI cZ u) := by
  obtain ⟨cs, fl, us, V, E, F, B, O, R, ag, rs⟩ := u0
  obtain ⟨hR, hAd, hf⟩ := hu
  simp only at hR hAd hf
  subst hf
  exact c_LT_get l D cI cZ cL q V E F B O R us ag rs fl cs hR hAd i hi hn
theorem s_LT_behindEnd (l : Launch) (D : va_G) (cI cZ cL : ClassId) (q : Nat → Nat) (u0 : TXS) (txt : List Int32) (hu : OKS u0 txt) (n : Nat) (h1 : 1 ≤ n) (hn : n ≤ cnt txt txt.length) (hlen : txt.length ≤ 20000) : RI l y_LT_behindEnd hd_LT_behindEnd rmz D (TY cI cZ cL) [.ref (q 0), .int (nI n)] (wS q cI cZ u0) (fun z => ∃ k, z = nI k ∧ BE txt n k) := by
  obtain ⟨cs, fl, us, V, E, F, B, O, R, ag, rs⟩ := u0
  obtain ⟨hR, hAd, hf⟩ := hu
  simp only at hR hAd hf
  subst hf
  exact c_LT_behindEnd l D cI cZ cL q V E F B O R us ag rs fl cs hR n h1 (by rw [cnt_all (Nat.le_refl _)] at hn; exact hn) hlen
theorem s_LT_copy (l : Launch) (D : va_G) (cI cZ cL : ClassId) (q : Nat → Nat) (u0 : TXS) (txt : List Int32) (hu : OKS u0 txt) (al AL : Nat) (AF : Nat → Int32) (hA : txt.length ≤ AL) (hA2 : AL < 100000) : CV l y_LT_copy hd_LT_copy rmz D (TY cI cZ cL) [.ref (q 0), .ref al] ((al, .inl (cI, AL, .inl AF)) :: wS q cI cZ u0) (fun AF2 : Nat → Int32 => ∀ j, j < txt.length → AF2 j = txt.getD j 0) (fun AF2 => (al, .inl (cI, AL, .inl AF2)) :: wS q cI cZ u0) := by
  obtain ⟨cs, fl, us, V, E, F, B, O, R, ag, rs⟩ := u0
  obtain ⟨hR, hAd, hf⟩ := hu
  simp only at hR hAd hf
  subst hf
  exact c_LT_copy l D cI cZ cL q V E F B O R us _ _ ag rs al AL AF fl cs hR hA hA2
theorem newV_s (v st : Int32) (k : Nat) : newV v st (k + 1) = newV v st k ++ [v + nI k * st] := by
  unfold newV
  rw [List.range_succ, List.map_append]
  rfl
theorem insN_snoc {txt : List Int32} {i k : Nat} {v st : Int32} (hi : i ≤ txt.length) : insN (insN txt i (newV v st k)) (i + k) [v + nI k * st] = insN txt i (newV v st (k + 1)) := by
  have h1 : (txt.take i ++ newV v st k).length = i + k := by rw [List.length_append, newV_len]; simp; omega
  have h2 := take_pre (txt.take i ++ newV v st k) (txt.drop i) 0
  have h3 := drop_pre (txt.take i ++ newV v st k) (txt.drop i) 0
  rw [h1, Nat.add_zero] at h2 h3
  unfold insN
  rw [h2, h3, newV_s]
  simp
theorem insN_0 {txt : List Int32} {i : Nat} {v st : Int32} : insN txt i (newV v st 0) = txt := by
  unfold insN newV
  simp
theorem delN_s {txt : List Int32} {i k : Nat} (hi : i + k + 1 ≤ txt.length) : delN (delN txt i k) i 1 = delN txt i (k + 1) := by
  have h1 : (txt.take i).length = i := by simp; omega
  have h2 := take_pre (txt.take i) (txt.drop (i + k)) 0
  have h3 := drop_pre (txt.take i) (txt.drop (i + k)) 1
  rw [h1] at h2 h3
  rw [Nat.add_zero] at h2
  unfold delN
  rw [h2, h3, List.drop_drop]
  simp [Nat.add_assoc]
theorem delN_0 {txt : List Int32} {i : Nat} : delN txt i 0 = txt := by
  unfold delN
  simp
theorem step_v (v st : Int32) (k : Nat) : v + nI k * st + st = v + nI (k + 1) * st := by
  rw [nI_succ, Int32.add_mul, Int32.one_mul, Int32.add_assoc]
theorem BE_0 (txt : List Int32) : BE txt 0 0 := ⟨Nat.zero_le _, Nat.zero_le _, fun j hj => absurd hj (by omega)⟩
theorem BE_le {txt : List Int32} {n k i : Nat} (h : BE txt n k) : k ≤ i ↔ n ≤ cnt txt i := by
  constructor
  · intro q
    exact Nat.le_trans h.2.1 (cnt_mono q)
  · intro q
    rcases Nat.lt_or_ge i k with z | z
    · have := h.2.2 i z; omega
    · exact z
theorem df_LT : ∀ j, j < 13 → defaultValue (t_LT j) = vp_V [.null, .null, .null, .null, .null, .null, .int 0, .int 0, .int 0, .int 0, .int 0, .int 0, .int 0] j := by
  intro j hj
  rcases (show j = 0 ∨ j = 1 ∨ j = 2 ∨ j = 3 ∨ j = 4 ∨ j = 5 ∨ j = 6 ∨ j = 7 ∨ j = 8 ∨ j = 9 ∨ j = 10 ∨ j = 11 ∨ j = 12 by omega) with rfl | rfl | rfl | rfl | rfl | rfl | rfl | rfl | rfl | rfl | rfl | rfl | rfl <;> rfl
theorem df_LC : ∀ j, j < 2 → defaultValue (t_LC j) = vp_V [.null, .null] j := by
  intro j hj
  rcases (show j = 0 ∨ j = 1 by omega) with rfl | rfl <;> rfl
theorem df_MO : ∀ j, j < 3 → defaultValue (t_MO j) = vp_V [.null, .int 0, .int 0] j := by
  intro j hj
  rcases (show j = 0 ∨ j = 1 ∨ j = 2 by omega) with rfl | rfl | rfl <;> rfl
end
section
set_option maxHeartbeats 4000000 in
set_option maxRecDepth 100000 in
/-- need(true): nothing -/
theorem c_LC_need_t (l : Launch) (D : va_G) (cI cZ cL : ClassId) : RV l y_LC_need hd_LC_need rmz D (TY cI cZ cL) [.int (bI true)] ([]) := by
  refine RV.mk (by decide +kernel) (Nat.le_of_ble_eq_true rfl) ?_
  intro p e s m below meth c ls C hP hl
  obtain ⟨hx, hb, hml, hown, hB, hlk, hr, htb, hK, hX⟩ := id C
  have hA := Aok_new s
  have hS : va_S (fun q => s.heap.size ≤ q) s.heap s.heap [] := va_S.rf
  have hl : lv_has ls 1 [(0, .int (bI true))] := hl
  refine lv_iload_n hx hb d_LC_need_0 rfl (lv_at hl 0 rfl) ?_
  refine ln_if_ne (tgt := 12) hx hb d_LC_need_1 (by decide) (fun hc => ?_) (fun hc => ?_)
  · skip
    exact e_Rv C d_LC_need_12
  · skip
    exact absurd hc (by decide)
set_option maxHeartbeats 4000000 in
set_option maxRecDepth 100000 in
/-- need(false) throws -/
theorem c_LC_need_f (l : Launch) (hfl : l.flags = pinnedFlags ++ [noTraceFlag]) (D : va_G) (cI cZ cL : ClassId) : XT l y_LC_need hd_LC_need rmX D (TY cI cZ cL) [.int (bI false)] ([]) xIAE := by
  refine XT.mk (by decide +kernel) (Nat.le_of_ble_eq_true rfl) ⟨rfl, rfl⟩ ?_
  intro p e s m below meth c ls C hP hl
  obtain ⟨hx, hb, hml, hown, hB, hlk, hr, htb, hK, hX⟩ := id C
  have hA := Aok_new s
  have hS : va_S (fun q => s.heap.size ≤ q) s.heap s.heap [] := va_S.rf
  have hl : lv_has ls 1 [(0, .int (bI false))] := hl
  refine lv_iload_n hx hb d_LC_need_0 rfl (lv_at hl 0 rfl) ?_
  refine ln_if_ne (tgt := 12) hx hb d_LC_need_1 (by decide) (fun hc => ?_) (fun hc => ?_)
  · skip
    exact absurd hc (by decide)
  · skip
    exact throw0 hfl C xs_LC_IAE (by decide +kernel) k_103 k_104 k_7 hl.1 d_LC_need_4 d_LC_need_7 d_LC_need_8 d_LC_need_11 (by decide) (by decide) (by decide) (by decide)
set_option maxHeartbeats 4000000 in
set_option maxRecDepth 100000 in
/-- there(true): nothing -/
theorem c_LC_there_t (l : Launch) (D : va_G) (cI cZ cL : ClassId) : RV l y_LC_there hd_LC_there rmz D (TY cI cZ cL) [.int (bI true)] ([]) := by
  refine RV.mk (by decide +kernel) (Nat.le_of_ble_eq_true rfl) ?_
  intro p e s m below meth c ls C hP hl
  obtain ⟨hx, hb, hml, hown, hB, hlk, hr, htb, hK, hX⟩ := id C
  have hA := Aok_new s
  have hS : va_S (fun q => s.heap.size ≤ q) s.heap s.heap [] := va_S.rf
  have hl : lv_has ls 1 [(0, .int (bI true))] := hl
  refine lv_iload_n hx hb d_LC_there_0 rfl (lv_at hl 0 rfl) ?_
  refine ln_if_ne (tgt := 12) hx hb d_LC_there_1 (by decide) (fun hc => ?_) (fun hc => ?_)
  · skip
    exact e_Rv C d_LC_there_12
  · skip
    exact absurd hc (by decide)
set_option maxHeartbeats 4000000 in
set_option maxRecDepth 100000 in
/-- there(false) throws -/
theorem c_LC_there_f (l : Launch) (hfl : l.flags = pinnedFlags ++ [noTraceFlag]) (D : va_G) (cI cZ cL : ClassId) : XT l y_LC_there hd_LC_there rmX D (TY cI cZ cL) [.int (bI false)] ([]) xNSE := by
  refine XT.mk (by decide +kernel) (Nat.le_of_ble_eq_true rfl) ⟨rfl, rfl⟩ ?_
  intro p e s m below meth c ls C hP hl
  obtain ⟨hx, hb, hml, hown, hB, hlk, hr, htb, hK, hX⟩ := id C
  have hA := Aok_new s
  have hS : va_S (fun q => s.heap.size ≤ q) s.heap s.heap [] := va_S.rf
  have hl : lv_has ls 1 [(0, .int (bI false))] := hl
  refine lv_iload_n hx hb d_LC_there_0 rfl (lv_at hl 0 rfl) ?_
  refine ln_if_ne (tgt := 12) hx hb d_LC_there_1 (by decide) (fun hc => ?_) (fun hc => ?_)
  · skip
    exact absurd hc (by decide)
  · skip
    exact throw0 hfl C xs_LC_NSE (by decide +kernel) k_223 k_224 k_9 hl.1 d_LC_there_4 d_LC_there_7 d_LC_there_8 d_LC_there_11 (by decide) (by decide) (by decide) (by decide)
set_option maxHeartbeats 4000000 in
set_option maxRecDepth 100000 in
/-- length -/
theorem c_LC_length (l : Launch) (D : va_G) (cI cZ cL : ClassId) (xo al : Nat) (q : Nat → Nat) (AL : Nat) (AF : Nat → Int32) (u0 : TXS) (txt : List Int32) (hu : OKS u0 txt) : RI l y_LC_length hd_LC_length rmz D (TY cI cZ cL) [.ref xo] (wC xo al q cI cZ AL AF u0) (fun z => z = nI txt.length) := by
  refine RI.mk (by decide +kernel) (Nat.le_of_ble_eq_true rfl) ?_
  intro p e s m below meth c ls C hP hl
  obtain ⟨hx, hb, hml, hown, hB, hlk, hr, htb, hK, hX⟩ := id C
  have hA := Aok_new s
  have hS : va_S (fun q => s.heap.size ≤ q) s.heap s.heap [] := va_S.rf
  have hl : lv_has ls 1 [(0, .ref xo)] := hl
  refine lv_aload_n hx hb d_LC_length_0 rfl (lv_at hl 0 rfl) ?_
  refine g_LC hx hb hB hown hK hP 0 rfl 0 (by decide) k_68 rfl d_LC_length_1 ?_
  refine g_NE hx hb hB hown hK hP 2 rfl 9 (by decide) hX.1 rfl d_LC_length_4 ?_
  refine ln_eqn (b := txt.length) (by rw [hu.2.2]) ?_
  exact e_Ri C (rfl) d_LC_length_7
set_option maxHeartbeats 4000000 in
set_option maxRecDepth 100000 in
/-- lines -/
theorem c_LC_lines (l : Launch) (D : va_G) (cI cZ cL : ClassId) (xo al : Nat) (q : Nat → Nat) (AL : Nat) (AF : Nat → Int32) (u0 : TXS) (txt : List Int32) (hu : OKS u0 txt) : RI l y_LC_lines hd_LC_lines rmz D (TY cI cZ cL) [.ref xo] (wC xo al q cI cZ AL AF u0) (fun z => z = nI (cnt txt txt.length + 1)) := by
  refine RI.mk (by decide +kernel) (Nat.le_of_ble_eq_true rfl) ?_
  intro p e s m below meth c ls C hP hl
  obtain ⟨hx, hb, hml, hown, hB, hlk, hr, htb, hK, hX⟩ := id C
  have hA := Aok_new s
  have hS : va_S (fun q => s.heap.size ≤ q) s.heap s.heap [] := va_S.rf
  have hl : lv_has ls 1 [(0, .ref xo)] := hl
  refine lv_aload_n hx hb d_LC_lines_0 rfl (lv_at hl 0 rfl) ?_
  refine g_LC hx hb hB hown hK hP 0 rfl 0 (by decide) k_68 rfl d_LC_lines_1 ?_
  refine g_NE hx hb hB hown hK hP 2 rfl 10 (by decide) hX.2.1 rfl d_LC_lines_4 ?_
  refine ln_eqn (b := cnt txt txt.length) (by rw [hu.2.2, cnt_all (Nat.le_refl _)]) ?_
  refine lv_iconst (v := nI 1) hx hb d_LC_lines_7 (by decide) ?_
  refine ln_iadd hx hb d_LC_lines_8 ?_
  exact e_Ri C (rfl) d_LC_lines_9
set_option maxHeartbeats 4000000 in
set_option maxRecDepth 100000 in
/-- begin -/
theorem c_LC_begin (l : Launch) (D : va_G) (cI cZ cL : ClassId) (xo al : Nat) (q : Nat → Nat) (AL : Nat) (AF : Nat → Int32) (u0 : TXS) (txt : List Int32) (hu : OKS u0 txt) (n : Nat) (hn : n ≤ cnt txt txt.length) (hlen : txt.length ≤ 20000) : RI l y_LC_begin hd_LC_begin rmS D (TY cI cZ cL) [.ref xo, .int (nI n)] (wC xo al q cI cZ AL AF u0) (fun z => ∃ k, z = nI k ∧ BE txt n k) := by
  refine RI.mk (by decide +kernel) (Nat.le_of_ble_eq_true rfl) ?_
  intro p e s m below meth c ls C hP hl
  obtain ⟨hx, hb, hml, hown, hB, hlk, hr, htb, hK, hX⟩ := id C
  have hA := Aok_new s
  have hS : va_S (fun q => s.heap.size ≤ q) s.heap s.heap [] := va_S.rf
  have hl : lv_has ls 2 [(0, .ref xo), (1, .int (nI n))] := hl
  have hcl := cnt_lenle txt txt.length
  refine lv_iload_n hx hb d_LC_begin_0 rfl (lv_at hl 1 rfl) ?_
  refine lv_if_ne (tgt := 8) hx hb d_LC_begin_1 (by decide) (fun hc => ?_) (fun hc => ?_)
  · skip
    have h1n : 1 ≤ n := by
      rcases Nat.eq_zero_or_pos n with z | z
      · exact absurd (by rw [z]; rfl) hc
      · exact z
    refine lv_aload_n hx hb d_LC_begin_8 rfl (lv_at hl 0 rfl) ?_
    refine g_LC hx hb hB hown hK hP 0 rfl 0 (by decide) k_68 rfl d_LC_begin_9 ?_
    refine lv_iload_n hx hb d_LC_begin_12 rfl (lv_at hl 1 rfl) ?_
    refine call_Ri (As := [.int (nI n)]) (rest := []) (ci := 0) C hA kv_LC_56 (s_LT_behindEnd l D cI cZ cL q u0 txt hu n h1n hn hlen) (hP.sub (ws' := wS q cI cZ u0) [2, 3, 4, 5, 6, 7, 8] rfl) hS 0 rfl rfl rfl rfl hl.1 rfl (Nat.le_of_ble_eq_true rfl) ⟨by decide, by decide⟩ ⟨rfl, rfl⟩ ⟨Nat.zero_le _, Nat.zero_le _⟩ d_LC_begin_13 (fun rr hrr => ?_)
    exact e_Ri C (hrr) d_LC_begin_16
  · skip
    have h0n : n = 0 := by
      rcases Nat.eq_zero_or_pos n with z | z
      · exact z
      · exact absurd hc (nI_ne0 z (by omega))
    refine lv_iconst (v := nI 0) hx hb d_LC_begin_4 (by decide) ?_
    refine lv_goto (tgt := 16) hx hb d_LC_begin_5 (by decide) ?_
    exact e_Ri C (⟨0, rfl, by rw [h0n]; exact BE_0 txt⟩) d_LC_begin_16
set_option maxHeartbeats 4000000 in
set_option maxRecDepth 100000 in
/-- insert, when it may -/
theorem c_LC_insert (l : Launch) (D : va_G) (cI cZ cL : ClassId) (xo al : Nat) (q : Nat → Nat) (AL : Nat) (AF : Nat → Int32) (u0 : TXS) (txt : List Int32) (hu : OKS u0 txt) (i : Nat) (v st : Int32) (n : Nat) (hi : i ≤ txt.length) (h1 : 1 ≤ n) (h2 : n ≤ 500) (h3 : txt.length + n ≤ 20000) : CI l y_LC_insert hd_LC_insert rmT D (TY cI cZ cL) [.ref xo, .int (nI i), .int v, .int st, .int (nI n)] (wC xo al q cI cZ AL AF u0) (fun (z : Int32) (u : TXS) => z = nI (txt.length + n) ∧ OKS u (insN txt i (newV v st n))) (fun u => wC xo al q cI cZ AL AF u) := by
  refine CI.mk (by decide +kernel) (Nat.le_of_ble_eq_true rfl) ?_
  intro p e s m below meth c A ls C hA hP hD hl
  obtain ⟨hx, hb, hml, hown, hB, hlk, hr, htb, hK, hX⟩ := id C
  have hS : va_S A s.heap s.heap [] := va_S.rf
  have hl : lv_has ls 7 [(0, .ref xo), (1, .int (nI i)), (2, .int v), (3, .int st), (4, .int (nI n))] := hl
  have loop : ∀ (g k : Nat) (u1 : TXS) (H : Heap) (locs : List Loc) (ls : Array Slot), k ≤ n → n + 1 ≤ k + g → OKS u1 (insN txt i (newV v st k)) → va_P D classes (wC xo al q cI cZ AL AF u1) H → va_D A (wC xo al q cI cZ AL AF u1) → va_S A s.heap H locs → lv_has ls 7 [(6, .int (nI k)), (5, .int (v + nI k * st)), (0, .ref xo), (1, .int (nI i)), (2, .int v), (3, .int st), (4, .int (nI n))] → W p l e rmT s m ([.ref xo, .int (nI i), .int v, .int st, .int (nI n)] : List Value).toArray below meth c H locs 0 0 (MQ below (QCi D (TY cI cZ cL) (fun (z : Int32) (u : TXS) => z = nI (txt.length + n) ∧ OKS u (insN txt i (newV v st n))) (fun u => wC xo al q cI cZ AL AF u) A) ([.ref xo, .int (nI i), .int v, .int st, .int (nI n)] : List Value).toArray s rmT.cells rmT.slots A) (F0 m 67 ls []) := by
    intro g
    induction g with
    | zero => intro k u1 H locs ls q1 q2; exact absurd q2 (by omega)
    | succ g ih =>
      intro k u1 H locs ls q1 q2 hu1 hP hD hS hl
      have hlk : (insN txt i (newV v st k)).length = txt.length + k := by rw [insN_len hi, newV_len]
      refine lv_iload hx hb d_LC_insert_67 (lv_at hl 0 rfl) ?_
      refine lv_iload hx hb d_LC_insert_69 (lv_at hl 6 rfl) ?_
      refine ln_icmp_ge (tgt := 111) hx hb d_LC_insert_71 (by decide) (by omega) (by omega) (fun hc => ?_) (fun hc => ?_)
      · skip
        obtain rfl : n = k := by omega
        refine lv_aload_n hx hb d_LC_insert_111 rfl (lv_at hl 2 rfl) ?_
        refine g_LC hx hb hB hown hK hP 0 rfl 0 (by decide) k_68 rfl d_LC_insert_112 ?_
        refine g_NE hx hb hB hown hK hP 2 rfl 9 (by decide) hX.1 rfl d_LC_insert_115 ?_
        refine ln_eqn (b := txt.length + n) (by rw [hu1.2.2, hlk]) ?_
        exact e_Ci C hS (u1) (⟨rfl, hu1⟩) hP hD (by decide) (by decide) d_LC_insert_118
      · skip
        refine lv_aload_n hx hb d_LC_insert_74 rfl (lv_at hl 2 rfl) ?_
        refine g_LC hx hb hB hown hK hP 0 rfl 0 (by decide) k_68 rfl d_LC_insert_75 ?_
        refine lv_iload_n hx hb d_LC_insert_78 rfl (lv_at hl 3 rfl) ?_
        refine lv_iload hx hb d_LC_insert_79 (lv_at hl 0 rfl) ?_
        refine ln_iadd hx hb d_LC_insert_81 ?_
        refine lv_iload hx hb d_LC_insert_82 (lv_at hl 1 rfl) ?_
        refine lv_iload hx hb d_LC_insert_84 (lv_at hl 1 rfl) ?_
        refine lv_bipush (v := 10) hx hb d_LC_insert_86 (by decide) ?_
        have call : W p l e rmT s m ([.ref xo, .int (nI i), .int v, .int st, .int (nI n)] : List Value).toArray below meth c H locs 0 0 (MQ below (QCi D (TY cI cZ cL) (fun (z : Int32) (u : TXS) => z = nI (txt.length + n) ∧ OKS u (insN txt i (newV v st n))) (fun u => wC xo al q cI cZ AL AF u) A) ([.ref xo, .int (nI i), .int v, .int st, .int (nI n)] : List Value).toArray s rmT.cells rmT.slots A) (F0 m 96 ls [.int (bI (v + nI k * st == 10)), .int (v + nI k * st), .int (nI (i + k)), .ref (q 0)]) := by
          refine call_Vv (As := [.int (nI (i + k)), .int (v + nI k * st), .int (bI (v + nI k * st == 10))]) (rest := []) (ci := 0) (wr := [(xo, .inr (1, [.ref (q 0), .ref al])), (al, .inl (cI, AL, .inl AF))]) C hA kv_LC_39 (s_LT_insert l D cI cZ cL q u1 _ hu1 (i + k) (v + nI k * st) (by omega) (by omega)) hP hD hS [2, 3, 4, 5, 6, 7, 8] [0, 1] rfl rfl ⟨by decide, by decide⟩ (by decide) 0 rfl rfl rfl rfl hl.1 rfl (Nat.le_of_ble_eq_true rfl) ⟨by decide, by decide⟩ ⟨by decide, by decide⟩ d_LC_insert_96 (fun u2 H locs hu2 hP hD hS => ?_)
          rw [insN_snoc hi] at hu2
          have hP : va_P D classes (wC xo al q cI cZ AL AF u2) H := hP
          have hD : va_D A (wC xo al q cI cZ AL AF u2) := hD
          refine lv_iload hx hb d_LC_insert_99 (lv_at hl 1 rfl) ?_
          refine lv_iload_n hx hb d_LC_insert_101 rfl (lv_at hl 5 rfl) ?_
          refine lv_iadd hx hb d_LC_insert_102 ?_
          refine lv_eqi (y := v + nI (k + 1) * st) (step_v v st k) ?_
          refine lv_istore (lv' := [(5, .int (v + nI (k + 1) * st)), (6, .int (nI k)), (0, .ref xo), (1, .int (nI i)), (2, .int v), (3, .int st), (4, .int (nI n))]) hx hb d_LC_insert_103 hl (by decide) rfl (fun ls hl => ?_)
          refine lv_iinc (v := (nI (k + 1))) (lv' := [(6, .int (nI (k + 1))), (5, .int (v + nI (k + 1) * st)), (0, .ref xo), (1, .int (nI i)), (2, .int v), (3, .int st), (4, .int (nI n))]) hx hb d_LC_insert_105 hl (k := 1) rfl (ln_p1 _) (by decide) rfl (fun ls hl => ?_)
          refine lv_goto (tgt := 67) hx hb d_LC_insert_108 (by decide) ?_
          exact ih (k + 1) u2 H locs ls (by omega) (by omega) hu2 hP hD hS (lv_sub hl [0, 1, 2, 3, 4, 5, 6] rfl)
        refine lv_icmp_ne (tgt := 95) hx hb d_LC_insert_88 (by decide) (fun hc2 => ?_) (fun hc2 => ?_)
        · skip
          refine lv_iconst (v := nI 0) hx hb d_LC_insert_95 (by decide) ?_
          refine lv_eqi (y := bI (v + nI k * st == 10)) (by rw [beq_eq_false_iff_ne.mpr hc2]; rfl) ?_
          exact call
        · skip
          refine lv_iconst (v := nI 1) hx hb d_LC_insert_91 (by decide) ?_
          refine lv_goto (tgt := 96) hx hb d_LC_insert_92 (by decide) ?_
          refine lv_eqi (y := bI (v + nI k * st == 10)) (by rw [beq_iff_eq.mpr hc2]; rfl) ?_
          exact call
  refine lv_iload_n hx hb d_LC_insert_0 rfl (lv_at hl 1 rfl) ?_
  refine lv_if_lt (tgt := 33) hx hb d_LC_insert_1 (by decide) (fun hc => ?_) (fun hc => ?_)
  · skip
    exact absurd hc (nI_pos (by omega))
  · skip
    refine lv_iload_n hx hb d_LC_insert_4 rfl (lv_at hl 1 rfl) ?_
    refine lv_aload_n hx hb d_LC_insert_5 rfl (lv_at hl 0 rfl) ?_
    refine g_LC hx hb hB hown hK hP 0 rfl 0 (by decide) k_68 rfl d_LC_insert_6 ?_
    refine g_NE hx hb hB hown hK hP 2 rfl 9 (by decide) hX.1 rfl d_LC_insert_9 ?_
    refine ln_eqn (b := txt.length) (by rw [hu.2.2]) ?_
    refine ln_icmp_gt (tgt := 33) hx hb d_LC_insert_12 (by decide) (by omega) (by omega) (fun hc2 => ?_) (fun hc2 => ?_)
    · skip
      exact absurd hi (by omega)
    · skip
      refine lv_iload hx hb d_LC_insert_15 (lv_at hl 4 rfl) ?_
      refine lv_iconst (v := nI 1) hx hb d_LC_insert_17 (by decide) ?_
      refine ln_icmp_lt (tgt := 33) hx hb d_LC_insert_18 (by decide) (by omega) (by omega) (fun hc3 => ?_) (fun hc3 => ?_)
      · skip
        exact absurd h1 (by omega)
      · skip
        refine lv_iload hx hb d_LC_insert_21 (lv_at hl 4 rfl) ?_
        refine lv_sipush (v := nI 500) hx hb d_LC_insert_23 (by decide) ?_
        refine ln_icmp_gt (tgt := 33) hx hb d_LC_insert_26 (by decide) (by omega) (by omega) (fun hc4 => ?_) (fun hc4 => ?_)
        · skip
          exact absurd h2 (by omega)
        · skip
          refine lv_iconst (v := nI 1) hx hb d_LC_insert_29 (by decide) ?_
          refine lv_goto (tgt := 34) hx hb d_LC_insert_30 (by decide) ?_
          refine lv_eqi (y := bI true) (rfl) ?_
          refine call_Rs (As := [.int (bI true)]) (rest := []) C hA ks_LC_32 (c_LC_need_t l D cI cZ cL) (fun k q h => by simp at h) hS rfl hl.1 rfl (Nat.le_of_ble_eq_true rfl) ⟨by decide, by decide⟩ ⟨rfl, rfl⟩ ⟨Nat.zero_le _, Nat.zero_le _⟩ d_LC_insert_34 ?_
          refine lv_aload_n hx hb d_LC_insert_37 rfl (lv_at hl 0 rfl) ?_
          refine g_LC hx hb hB hown hK hP 0 rfl 0 (by decide) k_68 rfl d_LC_insert_38 ?_
          refine g_NE hx hb hB hown hK hP 2 rfl 9 (by decide) hX.1 rfl d_LC_insert_41 ?_
          refine ln_eqn (b := txt.length) (by rw [hu.2.2]) ?_
          refine lv_iload hx hb d_LC_insert_44 (lv_at hl 4 rfl) ?_
          refine ln_iadd hx hb d_LC_insert_46 ?_
          refine lv_sipush (v := nI 20000) hx hb d_LC_insert_47 (by decide) ?_
          refine ln_icmp_le (tgt := 61) hx hb d_LC_insert_50 (by decide) (by omega) (by omega) (fun hc5 => ?_) (fun hc5 => ?_)
          · skip
            refine lv_iload_n hx hb d_LC_insert_61 rfl (lv_at hl 2 rfl) ?_
            refine lv_eqi (y := v + nI 0 * st) (by rw [nI_0, Int32.zero_mul, Int32.add_zero]) ?_
            refine lv_istore (lv' := [(5, .int (v + nI 0 * st)), (0, .ref xo), (1, .int (nI i)), (2, .int v), (3, .int st), (4, .int (nI n))]) hx hb d_LC_insert_62 hl (by decide) rfl (fun ls hl => ?_)
            refine lv_iconst (v := nI 0) hx hb d_LC_insert_64 (by decide) ?_
            refine lv_istore (lv' := [(6, .int (nI 0)), (5, .int (v + nI 0 * st)), (0, .ref xo), (1, .int (nI i)), (2, .int v), (3, .int st), (4, .int (nI n))]) hx hb d_LC_insert_65 hl (by decide) rfl (fun ls hl => ?_)
            exact loop (n + 1) 0 u0 s.heap [] ls (by omega) (by omega) (by rw [insN_0]; exact hu) hP hD hS (lv_sub hl [0, 1, 2, 3, 4, 5, 6] rfl)
          · skip
            exact absurd h3 (by omega)
set_option maxHeartbeats 4000000 in
set_option maxRecDepth 100000 in
/-- insert, its arguments are bad -/
theorem c_LC_insert_x (l : Launch) (hfl : l.flags = pinnedFlags ++ [noTraceFlag]) (D : va_G) (cI cZ cL : ClassId) (xo al : Nat) (q : Nat → Nat) (AL : Nat) (AF : Nat → Int32) (u0 : TXS) (txt : List Int32) (hu : OKS u0 txt) (i v st n : Int32) (hno : ¬ okI txt.length i n) : XT l y_LC_insert hd_LC_insert rmY D (TY cI cZ cL) [.ref xo, .int i, .int v, .int st, .int n] (wC xo al q cI cZ AL AF u0) xIAE := by
  refine XT.mk (by decide +kernel) (Nat.le_of_ble_eq_true rfl) ⟨rfl, rfl⟩ ?_
  intro p e s m below meth c ls C hP hl
  obtain ⟨hx, hb, hml, hown, hB, hlk, hr, htb, hK, hX⟩ := id C
  have hA := Aok_new s
  have hS : va_S (fun q => s.heap.size ≤ q) s.heap s.heap [] := va_S.rf
  have hl : lv_has ls 7 [(0, .ref xo), (1, .int i), (2, .int v), (3, .int st), (4, .int n)] := hl
  refine lv_iload_n hx hb d_LC_insert_0 rfl (lv_at hl 1 rfl) ?_
  refine lv_if_lt (tgt := 33) hx hb d_LC_insert_1 (by decide) (fun hc => ?_) (fun hc => ?_)
  · skip
    refine lv_iconst (v := nI 0) hx hb d_LC_insert_33 (by decide) ?_
    refine lv_eqi (y := bI false) (rfl) ?_
    exact call_Xs (As := [.int (bI false)]) (rest := []) C ks_LC_32 (c_LC_need_f l hfl D cI cZ cL) (fun k q h => by simp at h) rfl hl.1 rfl (Nat.le_of_ble_eq_true rfl) ⟨by decide, by decide⟩ ⟨by decide, by decide⟩ d_LC_insert_34
  · skip
    refine lv_iload_n hx hb d_LC_insert_4 rfl (lv_at hl 1 rfl) ?_
    refine lv_aload_n hx hb d_LC_insert_5 rfl (lv_at hl 0 rfl) ?_
    refine g_LC hx hb hB hown hK hP 0 rfl 0 (by decide) k_68 rfl d_LC_insert_6 ?_
    refine g_NE hx hb hB hown hK hP 2 rfl 9 (by decide) hX.1 rfl d_LC_insert_9 ?_
    refine ln_eqn (b := txt.length) (by rw [hu.2.2]) ?_
    refine lv_icmp_gt (tgt := 33) hx hb d_LC_insert_12 (by decide) (fun hc2 => ?_) (fun hc2 => ?_)
    · skip
      refine lv_iconst (v := nI 0) hx hb d_LC_insert_33 (by decide) ?_
      refine lv_eqi (y := bI false) (rfl) ?_
      exact call_Xs (As := [.int (bI false)]) (rest := []) C ks_LC_32 (c_LC_need_f l hfl D cI cZ cL) (fun k q h => by simp at h) rfl hl.1 rfl (Nat.le_of_ble_eq_true rfl) ⟨by decide, by decide⟩ ⟨by decide, by decide⟩ d_LC_insert_34
    · skip
      refine lv_iload hx hb d_LC_insert_15 (lv_at hl 4 rfl) ?_
      refine lv_iconst (v := 1) hx hb d_LC_insert_17 (by decide) ?_
      refine lv_icmp_lt (tgt := 33) hx hb d_LC_insert_18 (by decide) (fun hc3 => ?_) (fun hc3 => ?_)
      · skip
        refine lv_iconst (v := nI 0) hx hb d_LC_insert_33 (by decide) ?_
        refine lv_eqi (y := bI false) (rfl) ?_
        exact call_Xs (As := [.int (bI false)]) (rest := []) C ks_LC_32 (c_LC_need_f l hfl D cI cZ cL) (fun k q h => by simp at h) rfl hl.1 rfl (Nat.le_of_ble_eq_true rfl) ⟨by decide, by decide⟩ ⟨by decide, by decide⟩ d_LC_insert_34
      · skip
        refine lv_iload hx hb d_LC_insert_21 (lv_at hl 4 rfl) ?_
        refine lv_sipush (v := 500) hx hb d_LC_insert_23 (by decide) ?_
        refine lv_icmp_gt (tgt := 33) hx hb d_LC_insert_26 (by decide) (fun hc4 => ?_) (fun hc4 => ?_)
        · skip
          refine lv_iconst (v := nI 0) hx hb d_LC_insert_33 (by decide) ?_
          refine lv_eqi (y := bI false) (rfl) ?_
          exact call_Xs (As := [.int (bI false)]) (rest := []) C ks_LC_32 (c_LC_need_f l hfl D cI cZ cL) (fun k q h => by simp at h) rfl hl.1 rfl (Nat.le_of_ble_eq_true rfl) ⟨by decide, by decide⟩ ⟨by decide, by decide⟩ d_LC_insert_34
        · skip
          exact absurd ⟨hc, hc2, hc3, hc4⟩ hno
set_option maxHeartbeats 4000000 in
set_option maxRecDepth 100000 in
/-- insert, there is no room -/
theorem c_LC_insert_y (l : Launch) (hfl : l.flags = pinnedFlags ++ [noTraceFlag]) (D : va_G) (cI cZ cL : ClassId) (xo al : Nat) (q : Nat → Nat) (AL : Nat) (AF : Nat → Int32) (u0 : TXS) (txt : List Int32) (hu : OKS u0 txt) (i v st n : Int32) (hok : okI txt.length i n) (hbig : ¬ nI txt.length + n ≤ 20000) : XT l y_LC_insert hd_LC_insert rmY D (TY cI cZ cL) [.ref xo, .int i, .int v, .int st, .int n] (wC xo al q cI cZ AL AF u0) xISE := by
  refine XT.mk (by decide +kernel) (Nat.le_of_ble_eq_true rfl) ⟨rfl, rfl⟩ ?_
  intro p e s m below meth c ls C hP hl
  obtain ⟨hx, hb, hml, hown, hB, hlk, hr, htb, hK, hX⟩ := id C
  have hA := Aok_new s
  have hS : va_S (fun q => s.heap.size ≤ q) s.heap s.heap [] := va_S.rf
  have hl : lv_has ls 7 [(0, .ref xo), (1, .int i), (2, .int v), (3, .int st), (4, .int n)] := hl
  refine lv_iload_n hx hb d_LC_insert_0 rfl (lv_at hl 1 rfl) ?_
  refine lv_if_lt (tgt := 33) hx hb d_LC_insert_1 (by decide) (fun hc => ?_) (fun hc => ?_)
  · skip
    exact absurd hc hok.1
  · skip
    refine lv_iload_n hx hb d_LC_insert_4 rfl (lv_at hl 1 rfl) ?_
    refine lv_aload_n hx hb d_LC_insert_5 rfl (lv_at hl 0 rfl) ?_
    refine g_LC hx hb hB hown hK hP 0 rfl 0 (by decide) k_68 rfl d_LC_insert_6 ?_
    refine g_NE hx hb hB hown hK hP 2 rfl 9 (by decide) hX.1 rfl d_LC_insert_9 ?_
    refine ln_eqn (b := txt.length) (by rw [hu.2.2]) ?_
    refine lv_icmp_gt (tgt := 33) hx hb d_LC_insert_12 (by decide) (fun hc2 => ?_) (fun hc2 => ?_)
    · skip
      exact absurd hc2 hok.2.1
    · skip
      refine lv_iload hx hb d_LC_insert_15 (lv_at hl 4 rfl) ?_
      refine lv_iconst (v := 1) hx hb d_LC_insert_17 (by decide) ?_
      refine lv_icmp_lt (tgt := 33) hx hb d_LC_insert_18 (by decide) (fun hc3 => ?_) (fun hc3 => ?_)
      · skip
        exact absurd hc3 hok.2.2.1
      · skip
        refine lv_iload hx hb d_LC_insert_21 (lv_at hl 4 rfl) ?_
        refine lv_sipush (v := 500) hx hb d_LC_insert_23 (by decide) ?_
        refine lv_icmp_gt (tgt := 33) hx hb d_LC_insert_26 (by decide) (fun hc4 => ?_) (fun hc4 => ?_)
        · skip
          exact absurd hc4 hok.2.2.2
        · skip
          refine lv_iconst (v := nI 1) hx hb d_LC_insert_29 (by decide) ?_
          refine lv_goto (tgt := 34) hx hb d_LC_insert_30 (by decide) ?_
          refine lv_eqi (y := bI true) (rfl) ?_
          refine call_Rs (As := [.int (bI true)]) (rest := []) C hA ks_LC_32 (c_LC_need_t l D cI cZ cL) (fun k q h => by simp at h) hS rfl hl.1 rfl (Nat.le_of_ble_eq_true rfl) ⟨by decide, by decide⟩ ⟨rfl, rfl⟩ ⟨Nat.zero_le _, Nat.zero_le _⟩ d_LC_insert_34 ?_
          refine lv_aload_n hx hb d_LC_insert_37 rfl (lv_at hl 0 rfl) ?_
          refine g_LC hx hb hB hown hK hP 0 rfl 0 (by decide) k_68 rfl d_LC_insert_38 ?_
          refine g_NE hx hb hB hown hK hP 2 rfl 9 (by decide) hX.1 rfl d_LC_insert_41 ?_
          refine ln_eqn (b := txt.length) (by rw [hu.2.2]) ?_
          refine lv_iload hx hb d_LC_insert_44 (lv_at hl 4 rfl) ?_
          refine lv_iadd hx hb d_LC_insert_46 ?_
          refine lv_sipush (v := 20000) hx hb d_LC_insert_47 (by decide) ?_
          refine lv_icmp_le (tgt := 61) hx hb d_LC_insert_50 (by decide) (fun hc5 => ?_) (fun hc5 => ?_)
          · skip
            exact absurd hc5 hbig
          · skip
            exact throw0 hfl C xs_LC_ISE (by decide +kernel) k_166 k_167 k_8 hl.1 d_LC_insert_53 d_LC_insert_56 d_LC_insert_57 d_LC_insert_60 (by decide) (by decide) (by decide) (by decide)
set_option maxHeartbeats 4000000 in
set_option maxRecDepth 100000 in
/-- delete, when it may -/
theorem c_LC_delete (l : Launch) (D : va_G) (cI cZ cL : ClassId) (xo al : Nat) (q : Nat → Nat) (AL : Nat) (AF : Nat → Int32) (u0 : TXS) (txt : List Int32) (hu : OKS u0 txt) (i n : Nat) (h1 : 1 ≤ n) (hi : i + n ≤ txt.length) (hlen : txt.length ≤ 20000) : CI l y_LC_delete hd_LC_delete rmT D (TY cI cZ cL) [.ref xo, .int (nI i), .int (nI n)] (wC xo al q cI cZ AL AF u0) (fun (z : Int32) (u : TXS) => z = nI (txt.length - n) ∧ OKS u (delN txt i n)) (fun u => wC xo al q cI cZ AL AF u) := by
  refine CI.mk (by decide +kernel) (Nat.le_of_ble_eq_true rfl) ?_
  intro p e s m below meth c A ls C hA hP hD hl
  obtain ⟨hx, hb, hml, hown, hB, hlk, hr, htb, hK, hX⟩ := id C
  have hS : va_S A s.heap s.heap [] := va_S.rf
  have hl : lv_has ls 4 [(0, .ref xo), (1, .int (nI i)), (2, .int (nI n))] := hl
  have loop : ∀ (g k : Nat) (u1 : TXS) (H : Heap) (locs : List Loc) (ls : Array Slot), k ≤ n → n + 1 ≤ k + g → OKS u1 (delN txt i k) → va_P D classes (wC xo al q cI cZ AL AF u1) H → va_D A (wC xo al q cI cZ AL AF u1) → va_S A s.heap H locs → lv_has ls 4 [(3, .int (nI k)), (0, .ref xo), (1, .int (nI i)), (2, .int (nI n))] → W p l e rmT s m ([.ref xo, .int (nI i), .int (nI n)] : List Value).toArray below meth c H locs 0 0 (MQ below (QCi D (TY cI cZ cL) (fun (z : Int32) (u : TXS) => z = nI (txt.length - n) ∧ OKS u (delN txt i n)) (fun u => wC xo al q cI cZ AL AF u) A) ([.ref xo, .int (nI i), .int (nI n)] : List Value).toArray s rmT.cells rmT.slots A) (F0 m 32 ls []) := by
    intro g
    induction g with
    | zero => intro k u1 H locs ls q1 q2; exact absurd q2 (by omega)
    | succ g ih =>
      intro k u1 H locs ls q1 q2 hu1 hP hD hS hl
      have hlk : (delN txt i k).length = txt.length - k := delN_len (by omega)
      refine lv_iload_n hx hb d_LC_delete_32 rfl (lv_at hl 0 rfl) ?_
      refine lv_iload_n hx hb d_LC_delete_33 rfl (lv_at hl 3 rfl) ?_
      refine ln_icmp_ge (tgt := 51) hx hb d_LC_delete_34 (by decide) (by omega) (by omega) (fun hc => ?_) (fun hc => ?_)
      · skip
        obtain rfl : n = k := by omega
        refine lv_aload_n hx hb d_LC_delete_51 rfl (lv_at hl 1 rfl) ?_
        refine g_LC hx hb hB hown hK hP 0 rfl 0 (by decide) k_68 rfl d_LC_delete_52 ?_
        refine g_NE hx hb hB hown hK hP 2 rfl 9 (by decide) hX.1 rfl d_LC_delete_55 ?_
        refine ln_eqn (b := txt.length - n) (by rw [hu1.2.2, hlk]) ?_
        exact e_Ci C hS (u1) (⟨rfl, hu1⟩) hP hD (by decide) (by decide) d_LC_delete_58
      · skip
        refine lv_aload_n hx hb d_LC_delete_37 rfl (lv_at hl 1 rfl) ?_
        refine g_LC hx hb hB hown hK hP 0 rfl 0 (by decide) k_68 rfl d_LC_delete_38 ?_
        refine lv_iload_n hx hb d_LC_delete_41 rfl (lv_at hl 2 rfl) ?_
        refine call_Vv (As := [.int (nI i)]) (rest := []) (ci := 0) (wr := [(xo, .inr (1, [.ref (q 0), .ref al])), (al, .inl (cI, AL, .inl AF))]) C hA kv_LC_43 (s_LT_delete l D cI cZ cL q u1 _ hu1 i (by omega) (by omega)) hP hD hS [2, 3, 4, 5, 6, 7, 8] [0, 1] rfl rfl ⟨by decide, by decide⟩ (by decide) 0 rfl rfl rfl rfl hl.1 rfl (Nat.le_of_ble_eq_true rfl) ⟨by decide, by decide⟩ ⟨by decide, by decide⟩ d_LC_delete_42 (fun u2 H locs hu2 hP hD hS => ?_)
        rw [delN_s (by omega)] at hu2
        have hP : va_P D classes (wC xo al q cI cZ AL AF u2) H := hP
        have hD : va_D A (wC xo al q cI cZ AL AF u2) := hD
        refine lv_iinc (v := (nI (k + 1))) (lv' := [(3, .int (nI (k + 1))), (0, .ref xo), (1, .int (nI i)), (2, .int (nI n))]) hx hb d_LC_delete_45 hl (k := 0) rfl (ln_p1 _) (by decide) rfl (fun ls hl => ?_)
        refine lv_goto (tgt := 32) hx hb d_LC_delete_48 (by decide) ?_
        exact ih (k + 1) u2 H locs ls (by omega) (by omega) hu2 hP hD hS (lv_sub hl [0, 1, 2, 3] rfl)
  refine lv_iload_n hx hb d_LC_delete_0 rfl (lv_at hl 2 rfl) ?_
  refine lv_iconst (v := nI 1) hx hb d_LC_delete_1 (by decide) ?_
  refine ln_icmp_lt (tgt := 26) hx hb d_LC_delete_2 (by decide) (by omega) (by omega) (fun hc => ?_) (fun hc => ?_)
  · skip
    exact absurd h1 (by omega)
  · skip
    refine lv_iload_n hx hb d_LC_delete_5 rfl (lv_at hl 1 rfl) ?_
    refine lv_if_lt (tgt := 26) hx hb d_LC_delete_6 (by decide) (fun hc2 => ?_) (fun hc2 => ?_)
    · skip
      exact absurd hc2 (nI_pos (by omega))
    · skip
      refine lv_iload_n hx hb d_LC_delete_9 rfl (lv_at hl 1 rfl) ?_
      refine lv_aload_n hx hb d_LC_delete_10 rfl (lv_at hl 0 rfl) ?_
      refine g_LC hx hb hB hown hK hP 0 rfl 0 (by decide) k_68 rfl d_LC_delete_11 ?_
      refine g_NE hx hb hB hown hK hP 2 rfl 9 (by decide) hX.1 rfl d_LC_delete_14 ?_
      refine ln_eqn (b := txt.length) (by rw [hu.2.2]) ?_
      refine lv_iload_n hx hb d_LC_delete_17 rfl (lv_at hl 2 rfl) ?_
      refine ln_isub hx hb d_LC_delete_18 (by omega) ?_
      refine ln_icmp_gt (tgt := 26) hx hb d_LC_delete_19 (by decide) (by omega) (by omega) (fun hc3 => ?_) (fun hc3 => ?_)
      · skip
        exact absurd hi (by omega)
      · skip
        refine lv_iconst (v := nI 1) hx hb d_LC_delete_22 (by decide) ?_
        refine lv_goto (tgt := 27) hx hb d_LC_delete_23 (by decide) ?_
        refine lv_eqi (y := bI true) (rfl) ?_
        refine call_Rs (As := [.int (bI true)]) (rest := []) C hA ks_LC_32 (c_LC_need_t l D cI cZ cL) (fun k q h => by simp at h) hS rfl hl.1 rfl (Nat.le_of_ble_eq_true rfl) ⟨by decide, by decide⟩ ⟨rfl, rfl⟩ ⟨Nat.zero_le _, Nat.zero_le _⟩ d_LC_delete_27 ?_
        refine lv_iconst (v := nI 0) hx hb d_LC_delete_30 (by decide) ?_
        refine lv_istore_n (lv' := [(3, .int (nI 0)), (0, .ref xo), (1, .int (nI i)), (2, .int (nI n))]) hx hb d_LC_delete_31 rfl hl (by decide) rfl (fun ls hl => ?_)
        exact loop (n + 1) 0 u0 s.heap [] ls (by omega) (by omega) (by rw [delN_0]; exact hu) hP hD hS (lv_sub hl [0, 1, 2, 3] rfl)
set_option maxHeartbeats 4000000 in
set_option maxRecDepth 100000 in
/-- delete, its arguments are bad -/
theorem c_LC_delete_x (l : Launch) (hfl : l.flags = pinnedFlags ++ [noTraceFlag]) (D : va_G) (cI cZ cL : ClassId) (xo al : Nat) (q : Nat → Nat) (AL : Nat) (AF : Nat → Int32) (u0 : TXS) (txt : List Int32) (hu : OKS u0 txt) (hlen : txt.length ≤ 20000) (i n : Int32) (hno : ¬ okD txt.length i n) : XT l y_LC_delete hd_LC_delete rmY D (TY cI cZ cL) [.ref xo, .int i, .int n] (wC xo al q cI cZ AL AF u0) xIAE := by
  refine XT.mk (by decide +kernel) (Nat.le_of_ble_eq_true rfl) ⟨rfl, rfl⟩ ?_
  intro p e s m below meth c ls C hP hl
  obtain ⟨hx, hb, hml, hown, hB, hlk, hr, htb, hK, hX⟩ := id C
  have hA := Aok_new s
  have hS : va_S (fun q => s.heap.size ≤ q) s.heap s.heap [] := va_S.rf
  have hl : lv_has ls 4 [(0, .ref xo), (1, .int i), (2, .int n)] := hl
  refine lv_iload_n hx hb d_LC_delete_0 rfl (lv_at hl 2 rfl) ?_
  refine lv_iconst (v := 1) hx hb d_LC_delete_1 (by decide) ?_
  refine lv_icmp_lt (tgt := 26) hx hb d_LC_delete_2 (by decide) (fun hc => ?_) (fun hc => ?_)
  · skip
    refine lv_iconst (v := nI 0) hx hb d_LC_delete_26 (by decide) ?_
    refine lv_eqi (y := bI false) (rfl) ?_
    exact call_Xs (As := [.int (bI false)]) (rest := []) C ks_LC_32 (c_LC_need_f l hfl D cI cZ cL) (fun k q h => by simp at h) rfl hl.1 rfl (Nat.le_of_ble_eq_true rfl) ⟨by decide, by decide⟩ ⟨by decide, by decide⟩ d_LC_delete_27
  · skip
    refine lv_iload_n hx hb d_LC_delete_5 rfl (lv_at hl 1 rfl) ?_
    refine lv_if_lt (tgt := 26) hx hb d_LC_delete_6 (by decide) (fun hc2 => ?_) (fun hc2 => ?_)
    · skip
      refine lv_iconst (v := nI 0) hx hb d_LC_delete_26 (by decide) ?_
      refine lv_eqi (y := bI false) (rfl) ?_
      exact call_Xs (As := [.int (bI false)]) (rest := []) C ks_LC_32 (c_LC_need_f l hfl D cI cZ cL) (fun k q h => by simp at h) rfl hl.1 rfl (Nat.le_of_ble_eq_true rfl) ⟨by decide, by decide⟩ ⟨by decide, by decide⟩ d_LC_delete_27
    · skip
      refine lv_iload_n hx hb d_LC_delete_9 rfl (lv_at hl 1 rfl) ?_
      refine lv_aload_n hx hb d_LC_delete_10 rfl (lv_at hl 0 rfl) ?_
      refine g_LC hx hb hB hown hK hP 0 rfl 0 (by decide) k_68 rfl d_LC_delete_11 ?_
      refine g_NE hx hb hB hown hK hP 2 rfl 9 (by decide) hX.1 rfl d_LC_delete_14 ?_
      refine ln_eqn (b := txt.length) (by rw [hu.2.2]) ?_
      refine lv_iload_n hx hb d_LC_delete_17 rfl (lv_at hl 2 rfl) ?_
      refine lv_isub hx hb d_LC_delete_18 ?_
      refine lv_icmp_gt (tgt := 26) hx hb d_LC_delete_19 (by decide) (fun hc3 => ?_) (fun hc3 => ?_)
      · skip
        refine lv_iconst (v := nI 0) hx hb d_LC_delete_26 (by decide) ?_
        refine lv_eqi (y := bI false) (rfl) ?_
        exact call_Xs (As := [.int (bI false)]) (rest := []) C ks_LC_32 (c_LC_need_f l hfl D cI cZ cL) (fun k q h => by simp at h) rfl hl.1 rfl (Nat.le_of_ble_eq_true rfl) ⟨by decide, by decide⟩ ⟨by decide, by decide⟩ d_LC_delete_27
      · skip
        exact absurd ((okD_iff (by omega)).mpr ⟨hc, hc2, hc3⟩) hno
set_option maxHeartbeats 4000000 in
set_option maxRecDepth 100000 in
/-- get, in range -/
theorem c_LC_get (l : Launch) (D : va_G) (cI cZ cL : ClassId) (xo al : Nat) (q : Nat → Nat) (AL : Nat) (AF : Nat → Int32) (u0 : TXS) (txt : List Int32) (hu : OKS u0 txt) (i : Nat) (hi : i < txt.length) (hlen : txt.length ≤ 20000) : CI l y_LC_get hd_LC_get rmT D (TY cI cZ cL) [.ref xo, .int (nI i)] (wC xo al q cI cZ AL AF u0) (fun (z : Int32) (u : TXS) => OKS u txt ∧ z = txt.getD i 0) (fun u => wC xo al q cI cZ AL AF u) := by
  refine CI.mk (by decide +kernel) (Nat.le_of_ble_eq_true rfl) ?_
  intro p e s m below meth c A ls C hA hP hD hl
  obtain ⟨hx, hb, hml, hown, hB, hlk, hr, htb, hK, hX⟩ := id C
  have hS : va_S A s.heap s.heap [] := va_S.rf
  have hl : lv_has ls 2 [(0, .ref xo), (1, .int (nI i))] := hl
  refine lv_iload_n hx hb d_LC_get_0 rfl (lv_at hl 1 rfl) ?_
  refine lv_if_lt (tgt := 19) hx hb d_LC_get_1 (by decide) (fun hc => ?_) (fun hc => ?_)
  · skip
    exact absurd hc (nI_pos (by omega))
  · skip
    refine lv_iload_n hx hb d_LC_get_4 rfl (lv_at hl 1 rfl) ?_
    refine lv_aload_n hx hb d_LC_get_5 rfl (lv_at hl 0 rfl) ?_
    refine g_LC hx hb hB hown hK hP 0 rfl 0 (by decide) k_68 rfl d_LC_get_6 ?_
    refine g_NE hx hb hB hown hK hP 2 rfl 9 (by decide) hX.1 rfl d_LC_get_9 ?_
    refine ln_eqn (b := txt.length) (by rw [hu.2.2]) ?_
    refine ln_icmp_ge (tgt := 19) hx hb d_LC_get_12 (by decide) (by omega) (by omega) (fun hc2 => ?_) (fun hc2 => ?_)
    · skip
      exact absurd hi (by omega)
    · skip
      refine lv_iconst (v := nI 1) hx hb d_LC_get_15 (by decide) ?_
      refine lv_goto (tgt := 20) hx hb d_LC_get_16 (by decide) ?_
      refine lv_eqi (y := bI true) (rfl) ?_
      refine call_Rs (As := [.int (bI true)]) (rest := []) C hA ks_LC_46 (c_LC_there_t l D cI cZ cL) (fun k q h => by simp at h) hS rfl hl.1 rfl (Nat.le_of_ble_eq_true rfl) ⟨by decide, by decide⟩ ⟨rfl, rfl⟩ ⟨Nat.zero_le _, Nat.zero_le _⟩ d_LC_get_20 ?_
      refine lv_aload_n hx hb d_LC_get_23 rfl (lv_at hl 0 rfl) ?_
      refine g_LC hx hb hB hown hK hP 0 rfl 0 (by decide) k_68 rfl d_LC_get_24 ?_
      refine lv_iload_n hx hb d_LC_get_27 rfl (lv_at hl 1 rfl) ?_
      refine call_Vi (As := [.int (nI i)]) (rest := []) (ci := 0) (wr := [(xo, .inr (1, [.ref (q 0), .ref al])), (al, .inl (cI, AL, .inl AF))]) C hA kv_LC_49 (s_LT_get l D cI cZ cL q u0 txt hu i hi hlen) hP hD hS [2, 3, 4, 5, 6, 7, 8] [0, 1] rfl rfl ⟨by decide, by decide⟩ (by decide) 0 rfl rfl rfl rfl hl.1 rfl (Nat.le_of_ble_eq_true rfl) ⟨by decide, by decide⟩ ⟨by decide, by decide⟩ d_LC_get_28 (fun zz u2 H locs hu2 hP hD hS => ?_)
      have hP : va_P D classes (wC xo al q cI cZ AL AF u2) H := hP
      have hD : va_D A (wC xo al q cI cZ AL AF u2) := hD
      exact e_Ci C hS (u2) (hu2) hP hD (by decide) (by decide) d_LC_get_31
set_option maxHeartbeats 4000000 in
set_option maxRecDepth 100000 in
/-- get, out of range -/
theorem c_LC_get_x (l : Launch) (hfl : l.flags = pinnedFlags ++ [noTraceFlag]) (D : va_G) (cI cZ cL : ClassId) (xo al : Nat) (q : Nat → Nat) (AL : Nat) (AF : Nat → Int32) (u0 : TXS) (txt : List Int32) (hu : OKS u0 txt) (i : Int32) (hno : ¬ okG txt.length i) : XT l y_LC_get hd_LC_get rmY D (TY cI cZ cL) [.ref xo, .int i] (wC xo al q cI cZ AL AF u0) xNSE := by
  refine XT.mk (by decide +kernel) (Nat.le_of_ble_eq_true rfl) ⟨rfl, rfl⟩ ?_
  intro p e s m below meth c ls C hP hl
  obtain ⟨hx, hb, hml, hown, hB, hlk, hr, htb, hK, hX⟩ := id C
  have hA := Aok_new s
  have hS : va_S (fun q => s.heap.size ≤ q) s.heap s.heap [] := va_S.rf
  have hl : lv_has ls 2 [(0, .ref xo), (1, .int i)] := hl
  refine lv_iload_n hx hb d_LC_get_0 rfl (lv_at hl 1 rfl) ?_
  refine lv_if_lt (tgt := 19) hx hb d_LC_get_1 (by decide) (fun hc => ?_) (fun hc => ?_)
  · skip
    refine lv_iconst (v := nI 0) hx hb d_LC_get_19 (by decide) ?_
    refine lv_eqi (y := bI false) (rfl) ?_
    exact call_Xs (As := [.int (bI false)]) (rest := []) C ks_LC_46 (c_LC_there_f l hfl D cI cZ cL) (fun k q h => by simp at h) rfl hl.1 rfl (Nat.le_of_ble_eq_true rfl) ⟨by decide, by decide⟩ ⟨by decide, by decide⟩ d_LC_get_20
  · skip
    refine lv_iload_n hx hb d_LC_get_4 rfl (lv_at hl 1 rfl) ?_
    refine lv_aload_n hx hb d_LC_get_5 rfl (lv_at hl 0 rfl) ?_
    refine g_LC hx hb hB hown hK hP 0 rfl 0 (by decide) k_68 rfl d_LC_get_6 ?_
    refine g_NE hx hb hB hown hK hP 2 rfl 9 (by decide) hX.1 rfl d_LC_get_9 ?_
    refine ln_eqn (b := txt.length) (by rw [hu.2.2]) ?_
    refine lv_icmp_ge (tgt := 19) hx hb d_LC_get_12 (by decide) (fun hc2 => ?_) (fun hc2 => ?_)
    · skip
      refine lv_iconst (v := nI 0) hx hb d_LC_get_19 (by decide) ?_
      refine lv_eqi (y := bI false) (rfl) ?_
      exact call_Xs (As := [.int (bI false)]) (rest := []) C ks_LC_46 (c_LC_there_f l hfl D cI cZ cL) (fun k q h => by simp at h) rfl hl.1 rfl (Nat.le_of_ble_eq_true rfl) ⟨by decide, by decide⟩ ⟨by decide, by decide⟩ d_LC_get_20
    · skip
      exact absurd ⟨hc, Int32.not_le.mp hc2⟩ hno
set_option maxHeartbeats 4000000 in
set_option maxRecDepth 100000 in
/-- line, there is one -/
theorem c_LC_line (l : Launch) (D : va_G) (cI cZ cL : ClassId) (xo al : Nat) (q : Nat → Nat) (AL : Nat) (AF : Nat → Int32) (u0 : TXS) (txt : List Int32) (hu : OKS u0 txt) (n : Nat) (hn : n ≤ cnt txt txt.length) (hlen : txt.length ≤ 20000) : RI l y_LC_line hd_LC_line rmT D (TY cI cZ cL) [.ref xo, .int (nI n)] (wC xo al q cI cZ AL AF u0) (fun z => ∃ k, z = nI k ∧ BE txt n k) := by
  refine RI.mk (by decide +kernel) (Nat.le_of_ble_eq_true rfl) ?_
  intro p e s m below meth c ls C hP hl
  obtain ⟨hx, hb, hml, hown, hB, hlk, hr, htb, hK, hX⟩ := id C
  have hA := Aok_new s
  have hS : va_S (fun q => s.heap.size ≤ q) s.heap s.heap [] := va_S.rf
  have hl : lv_has ls 2 [(0, .ref xo), (1, .int (nI n))] := hl
  have hcl := cnt_lenle txt txt.length
  refine lv_iload_n hx hb d_LC_line_0 rfl (lv_at hl 1 rfl) ?_
  refine lv_if_lt (tgt := 19) hx hb d_LC_line_1 (by decide) (fun hc => ?_) (fun hc => ?_)
  · skip
    exact absurd hc (nI_pos (by omega))
  · skip
    refine lv_iload_n hx hb d_LC_line_4 rfl (lv_at hl 1 rfl) ?_
    refine lv_aload_n hx hb d_LC_line_5 rfl (lv_at hl 0 rfl) ?_
    refine g_LC hx hb hB hown hK hP 0 rfl 0 (by decide) k_68 rfl d_LC_line_6 ?_
    refine g_NE hx hb hB hown hK hP 2 rfl 10 (by decide) hX.2.1 rfl d_LC_line_9 ?_
    refine ln_eqn (b := cnt txt txt.length) (by rw [hu.2.2, cnt_all (Nat.le_refl _)]) ?_
    refine ln_icmp_gt (tgt := 19) hx hb d_LC_line_12 (by decide) (by omega) (by omega) (fun hc2 => ?_) (fun hc2 => ?_)
    · skip
      exact absurd hn (by omega)
    · skip
      refine lv_iconst (v := nI 1) hx hb d_LC_line_15 (by decide) ?_
      refine lv_goto (tgt := 20) hx hb d_LC_line_16 (by decide) ?_
      refine lv_eqi (y := bI true) (rfl) ?_
      refine call_Rs (As := [.int (bI true)]) (rest := []) C hA ks_LC_46 (c_LC_there_t l D cI cZ cL) (fun k q h => by simp at h) hS rfl hl.1 rfl (Nat.le_of_ble_eq_true rfl) ⟨by decide, by decide⟩ ⟨rfl, rfl⟩ ⟨Nat.zero_le _, Nat.zero_le _⟩ d_LC_line_20 ?_
      refine lv_aload_n hx hb d_LC_line_23 rfl (lv_at hl 0 rfl) ?_
      refine lv_iload_n hx hb d_LC_line_24 rfl (lv_at hl 1 rfl) ?_
      refine call_Ri (As := [.int (nI n)]) (rest := []) (ci := 1) C hA kv_LC_59 (c_LC_begin l D cI cZ cL xo al q AL AF u0 txt hu n hn hlen) hP hS 0 rfl rfl rfl rfl hl.1 rfl (Nat.le_of_ble_eq_true rfl) ⟨by decide, by decide⟩ ⟨rfl, rfl⟩ ⟨Nat.zero_le _, Nat.zero_le _⟩ d_LC_line_25 (fun rr hrr => ?_)
      exact e_Ri C (hrr) d_LC_line_28
set_option maxHeartbeats 4000000 in
set_option maxRecDepth 100000 in
/-- line, there is none -/
theorem c_LC_line_x (l : Launch) (hfl : l.flags = pinnedFlags ++ [noTraceFlag]) (D : va_G) (cI cZ cL : ClassId) (xo al : Nat) (q : Nat → Nat) (AL : Nat) (AF : Nat → Int32) (u0 : TXS) (txt : List Int32) (hu : OKS u0 txt) (n : Int32) (hno : ¬ okL (cnt txt txt.length) n) : XT l y_LC_line hd_LC_line rmY D (TY cI cZ cL) [.ref xo, .int n] (wC xo al q cI cZ AL AF u0) xNSE := by
  refine XT.mk (by decide +kernel) (Nat.le_of_ble_eq_true rfl) ⟨rfl, rfl⟩ ?_
  intro p e s m below meth c ls C hP hl
  obtain ⟨hx, hb, hml, hown, hB, hlk, hr, htb, hK, hX⟩ := id C
  have hA := Aok_new s
  have hS : va_S (fun q => s.heap.size ≤ q) s.heap s.heap [] := va_S.rf
  have hl : lv_has ls 2 [(0, .ref xo), (1, .int n)] := hl
  refine lv_iload_n hx hb d_LC_line_0 rfl (lv_at hl 1 rfl) ?_
  refine lv_if_lt (tgt := 19) hx hb d_LC_line_1 (by decide) (fun hc => ?_) (fun hc => ?_)
  · skip
    refine lv_iconst (v := nI 0) hx hb d_LC_line_19 (by decide) ?_
    refine lv_eqi (y := bI false) (rfl) ?_
    exact call_Xs (As := [.int (bI false)]) (rest := []) C ks_LC_46 (c_LC_there_f l hfl D cI cZ cL) (fun k q h => by simp at h) rfl hl.1 rfl (Nat.le_of_ble_eq_true rfl) ⟨by decide, by decide⟩ ⟨by decide, by decide⟩ d_LC_line_20
  · skip
    refine lv_iload_n hx hb d_LC_line_4 rfl (lv_at hl 1 rfl) ?_
    refine lv_aload_n hx hb d_LC_line_5 rfl (lv_at hl 0 rfl) ?_
    refine g_LC hx hb hB hown hK hP 0 rfl 0 (by decide) k_68 rfl d_LC_line_6 ?_
    refine g_NE hx hb hB hown hK hP 2 rfl 10 (by decide) hX.2.1 rfl d_LC_line_9 ?_
    refine ln_eqn (b := cnt txt txt.length) (by rw [hu.2.2, cnt_all (Nat.le_refl _)]) ?_
    refine lv_icmp_gt (tgt := 19) hx hb d_LC_line_12 (by decide) (fun hc2 => ?_) (fun hc2 => ?_)
    · skip
      refine lv_iconst (v := nI 0) hx hb d_LC_line_19 (by decide) ?_
      refine lv_eqi (y := bI false) (rfl) ?_
      exact call_Xs (As := [.int (bI false)]) (rest := []) C ks_LC_46 (c_LC_there_f l hfl D cI cZ cL) (fun k q h => by simp at h) rfl hl.1 rfl (Nat.le_of_ble_eq_true rfl) ⟨by decide, by decide⟩ ⟨by decide, by decide⟩ d_LC_line_20
    · skip
      exact absurd ⟨hc, hc2⟩ hno
set_option maxHeartbeats 4000000 in
set_option maxRecDepth 100000 in
/-- lineOf, in range -/
theorem c_LC_lineOf (l : Launch) (D : va_G) (cI cZ cL : ClassId) (xo al : Nat) (q : Nat → Nat) (AL : Nat) (AF : Nat → Int32) (u0 : TXS) (txt : List Int32) (hu : OKS u0 txt) (i : Nat) (hi : i ≤ txt.length) (hlen : txt.length ≤ 20000) : RI l y_LC_lineOf hd_LC_lineOf rmT D (TY cI cZ cL) [.ref xo, .int (nI i)] (wC xo al q cI cZ AL AF u0) (fun z => z = nI (cnt txt i)) := by
  refine RI.mk (by decide +kernel) (Nat.le_of_ble_eq_true rfl) ?_
  intro p e s m below meth c ls C hP hl
  obtain ⟨hx, hb, hml, hown, hB, hlk, hr, htb, hK, hX⟩ := id C
  have hA := Aok_new s
  have hS : va_S (fun q => s.heap.size ≤ q) s.heap s.heap [] := va_S.rf
  have hl : lv_has ls 5 [(0, .ref xo), (1, .int (nI i))] := hl
  have hcl := cnt_lenle txt txt.length
  have hci := cnt_mono (txt := txt) hi
  have loop : ∀ (g lw hg : Nat) (ls : Array Slot), lw ≤ cnt txt i → cnt txt i ≤ hg → hg ≤ cnt txt txt.length → hg + 1 ≤ lw + g → lv_has ls 5 [(2, .int (nI lw)), (3, .int (nI hg)), (0, .ref xo), (1, .int (nI i))] → W p l e rmT s m ([.ref xo, .int (nI i)] : List Value).toArray below meth c s.heap [] 0 0 (MQ below (QRi (fun z => z = nI (cnt txt i))) ([.ref xo, .int (nI i)] : List Value).toArray s rmT.cells rmT.slots (fun _ => False)) (F0 m 33 ls []) := by
    intro g
    induction g with
    | zero => intro lw hg ls q1 q2 q3 q4; exact absurd q4 (by omega)
    | succ g ih =>
      intro lw hg ls q1 q2 q3 q4 hl
      refine lv_iload_n hx hb d_LC_lineOf_33 rfl (lv_at hl 0 rfl) ?_
      refine lv_iload_n hx hb d_LC_lineOf_34 rfl (lv_at hl 1 rfl) ?_
      refine ln_icmp_ge (tgt := 71) hx hb d_LC_lineOf_35 (by decide) (by omega) (by omega) (fun hc => ?_) (fun hc => ?_)
      · skip
        refine lv_iload_n hx hb d_LC_lineOf_71 rfl (lv_at hl 0 rfl) ?_
        exact e_Ri C (by rw [show lw = cnt txt i by omega]) d_LC_lineOf_72
      · skip
        have hm1 : lw + 1 ≤ (lw + hg + 1) / 2 := by omega
        have hm2 : (lw + hg + 1) / 2 ≤ hg := by omega
        refine lv_iload_n hx hb d_LC_lineOf_38 rfl (lv_at hl 0 rfl) ?_
        refine lv_iload_n hx hb d_LC_lineOf_39 rfl (lv_at hl 1 rfl) ?_
        refine ln_iadd hx hb d_LC_lineOf_40 ?_
        refine lv_iconst (v := nI 1) hx hb d_LC_lineOf_41 (by decide) ?_
        refine ln_iadd hx hb d_LC_lineOf_42 ?_
        refine lv_iconst (v := nI 2) hx hb d_LC_lineOf_43 (by decide) ?_
        refine ln_idiv hx hb d_LC_lineOf_44 (by omega) (by omega) (by omega) ?_
        obtain ⟨md, hmd⟩ : ∃ md, md = (lw + hg + 1) / 2 := ⟨_, rfl⟩
        refine ln_eqn (b := md) (hmd.symm) ?_
        rw [← hmd] at hm1 hm2
        refine lv_istore (lv' := [(4, .int (nI md)), (2, .int (nI lw)), (3, .int (nI hg)), (0, .ref xo), (1, .int (nI i))]) hx hb d_LC_lineOf_45 hl (by decide) rfl (fun ls hl => ?_)
        refine lv_aload_n hx hb d_LC_lineOf_47 rfl (lv_at hl 3 rfl) ?_
        refine lv_iload hx hb d_LC_lineOf_48 (lv_at hl 0 rfl) ?_
        refine call_Ri (As := [.int (nI md)]) (rest := []) (ci := 1) C hA kv_LC_59 (c_LC_begin l D cI cZ cL xo al q AL AF u0 txt hu md (by omega) hlen) hP hS 0 rfl rfl rfl rfl hl.1 rfl (Nat.le_of_ble_eq_true rfl) ⟨by decide, by decide⟩ ⟨rfl, rfl⟩ ⟨Nat.zero_le _, Nat.zero_le _⟩ d_LC_lineOf_50 (fun rr hrr => ?_)
        obtain ⟨kb, rfl, hbe⟩ := hrr
        have hbk := hbe.1
        have hble := BE_le (i := i) hbe
        refine lv_iload_n hx hb d_LC_lineOf_53 rfl (lv_at hl 4 rfl) ?_
        refine ln_icmp_gt (tgt := 63) hx hb d_LC_lineOf_54 (by decide) (by omega) (by omega) (fun hc2 => ?_) (fun hc2 => ?_)
        · skip
          refine lv_iload hx hb d_LC_lineOf_63 (lv_at hl 0 rfl) ?_
          refine lv_iconst (v := nI 1) hx hb d_LC_lineOf_65 (by decide) ?_
          refine ln_isub hx hb d_LC_lineOf_66 (by omega) ?_
          refine lv_istore_n (lv' := [(3, .int (nI (md - 1))), (4, .int (nI md)), (2, .int (nI lw)), (0, .ref xo), (1, .int (nI i))]) hx hb d_LC_lineOf_67 rfl hl (by decide) rfl (fun ls hl => ?_)
          refine lv_goto (tgt := 33) hx hb d_LC_lineOf_68 (by decide) ?_
          exact ih lw (md - 1) ls q1 (by omega) (by omega) (by omega) (lv_sub hl [2, 0, 3, 4] rfl)
        · skip
          refine lv_iload hx hb d_LC_lineOf_57 (lv_at hl 0 rfl) ?_
          refine lv_istore_n (lv' := [(2, .int (nI md)), (4, .int (nI md)), (3, .int (nI hg)), (0, .ref xo), (1, .int (nI i))]) hx hb d_LC_lineOf_59 rfl hl (by decide) rfl (fun ls hl => ?_)
          refine lv_goto (tgt := 68) hx hb d_LC_lineOf_60 (by decide) ?_
          refine lv_goto (tgt := 33) hx hb d_LC_lineOf_68 (by decide) ?_
          exact ih md hg ls (hble.mp hc2) q2 q3 (by omega) (lv_sub hl [0, 2, 3, 4] rfl)
  refine lv_iload_n hx hb d_LC_lineOf_0 rfl (lv_at hl 1 rfl) ?_
  refine lv_if_lt (tgt := 19) hx hb d_LC_lineOf_1 (by decide) (fun hc => ?_) (fun hc => ?_)
  · skip
    exact absurd hc (nI_pos (by omega))
  · skip
    refine lv_iload_n hx hb d_LC_lineOf_4 rfl (lv_at hl 1 rfl) ?_
    refine lv_aload_n hx hb d_LC_lineOf_5 rfl (lv_at hl 0 rfl) ?_
    refine g_LC hx hb hB hown hK hP 0 rfl 0 (by decide) k_68 rfl d_LC_lineOf_6 ?_
    refine g_NE hx hb hB hown hK hP 2 rfl 9 (by decide) hX.1 rfl d_LC_lineOf_9 ?_
    refine ln_eqn (b := txt.length) (by rw [hu.2.2]) ?_
    refine ln_icmp_gt (tgt := 19) hx hb d_LC_lineOf_12 (by decide) (by omega) (by omega) (fun hc2 => ?_) (fun hc2 => ?_)
    · skip
      exact absurd hi (by omega)
    · skip
      refine lv_iconst (v := nI 1) hx hb d_LC_lineOf_15 (by decide) ?_
      refine lv_goto (tgt := 20) hx hb d_LC_lineOf_16 (by decide) ?_
      refine lv_eqi (y := bI true) (rfl) ?_
      refine call_Rs (As := [.int (bI true)]) (rest := []) C hA ks_LC_32 (c_LC_need_t l D cI cZ cL) (fun k q h => by simp at h) hS rfl hl.1 rfl (Nat.le_of_ble_eq_true rfl) ⟨by decide, by decide⟩ ⟨rfl, rfl⟩ ⟨Nat.zero_le _, Nat.zero_le _⟩ d_LC_lineOf_20 ?_
      refine lv_iconst (v := nI 0) hx hb d_LC_lineOf_23 (by decide) ?_
      refine lv_istore_n (lv' := [(2, .int (nI 0)), (0, .ref xo), (1, .int (nI i))]) hx hb d_LC_lineOf_24 rfl hl (by decide) rfl (fun ls hl => ?_)
      refine lv_aload_n hx hb d_LC_lineOf_25 rfl (lv_at hl 1 rfl) ?_
      refine g_LC hx hb hB hown hK hP 0 rfl 0 (by decide) k_68 rfl d_LC_lineOf_26 ?_
      refine g_NE hx hb hB hown hK hP 2 rfl 10 (by decide) hX.2.1 rfl d_LC_lineOf_29 ?_
      refine ln_eqn (b := cnt txt txt.length) (by rw [hu.2.2, cnt_all (Nat.le_refl _)]) ?_
      refine lv_istore_n (lv' := [(3, .int (nI (cnt txt txt.length))), (2, .int (nI 0)), (0, .ref xo), (1, .int (nI i))]) hx hb d_LC_lineOf_32 rfl hl (by decide) rfl (fun ls hl => ?_)
      exact loop (cnt txt txt.length + 1) 0 (cnt txt txt.length) ls (Nat.zero_le _) hci (Nat.le_refl _) (by omega) (lv_sub hl [1, 0, 2, 3] rfl)
set_option maxHeartbeats 4000000 in
set_option maxRecDepth 100000 in
/-- lineOf, out of range -/
theorem c_LC_lineOf_x (l : Launch) (hfl : l.flags = pinnedFlags ++ [noTraceFlag]) (D : va_G) (cI cZ cL : ClassId) (xo al : Nat) (q : Nat → Nat) (AL : Nat) (AF : Nat → Int32) (u0 : TXS) (txt : List Int32) (hu : OKS u0 txt) (i : Int32) (hno : ¬ okL txt.length i) : XT l y_LC_lineOf hd_LC_lineOf rmY D (TY cI cZ cL) [.ref xo, .int i] (wC xo al q cI cZ AL AF u0) xIAE := by
  refine XT.mk (by decide +kernel) (Nat.le_of_ble_eq_true rfl) ⟨rfl, rfl⟩ ?_
  intro p e s m below meth c ls C hP hl
  obtain ⟨hx, hb, hml, hown, hB, hlk, hr, htb, hK, hX⟩ := id C
  have hA := Aok_new s
  have hS : va_S (fun q => s.heap.size ≤ q) s.heap s.heap [] := va_S.rf
  have hl : lv_has ls 5 [(0, .ref xo), (1, .int i)] := hl
  refine lv_iload_n hx hb d_LC_lineOf_0 rfl (lv_at hl 1 rfl) ?_
  refine lv_if_lt (tgt := 19) hx hb d_LC_lineOf_1 (by decide) (fun hc => ?_) (fun hc => ?_)
  · skip
    refine lv_iconst (v := nI 0) hx hb d_LC_lineOf_19 (by decide) ?_
    refine lv_eqi (y := bI false) (rfl) ?_
    exact call_Xs (As := [.int (bI false)]) (rest := []) C ks_LC_32 (c_LC_need_f l hfl D cI cZ cL) (fun k q h => by simp at h) rfl hl.1 rfl (Nat.le_of_ble_eq_true rfl) ⟨by decide, by decide⟩ ⟨by decide, by decide⟩ d_LC_lineOf_20
  · skip
    refine lv_iload_n hx hb d_LC_lineOf_4 rfl (lv_at hl 1 rfl) ?_
    refine lv_aload_n hx hb d_LC_lineOf_5 rfl (lv_at hl 0 rfl) ?_
    refine g_LC hx hb hB hown hK hP 0 rfl 0 (by decide) k_68 rfl d_LC_lineOf_6 ?_
    refine g_NE hx hb hB hown hK hP 2 rfl 9 (by decide) hX.1 rfl d_LC_lineOf_9 ?_
    refine ln_eqn (b := txt.length) (by rw [hu.2.2]) ?_
    refine lv_icmp_gt (tgt := 19) hx hb d_LC_lineOf_12 (by decide) (fun hc2 => ?_) (fun hc2 => ?_)
    · skip
      refine lv_iconst (v := nI 0) hx hb d_LC_lineOf_19 (by decide) ?_
      refine lv_eqi (y := bI false) (rfl) ?_
      exact call_Xs (As := [.int (bI false)]) (rest := []) C ks_LC_32 (c_LC_need_f l hfl D cI cZ cL) (fun k q h => by simp at h) rfl hl.1 rfl (Nat.le_of_ble_eq_true rfl) ⟨by decide, by decide⟩ ⟨by decide, by decide⟩ d_LC_lineOf_20
    · skip
      exact absurd ⟨hc, hc2⟩ hno
end
section
abbrev tx0 : TXS := ([(0, [])], [], 1, fun _ => 0, fun _ => false, fun _ => 0, fun _ => 0, fun _ => 0, fun _ => 0, 0, 0)
abbrev rmL : Room := { frames := 2, cells := 8, slots := 163357, locals := 60 }
abbrev rmD (g AL : Nat) : Room := { frames := 1, cells := g, slots := 2 * (AL * 2 ^ g) - 2 * AL, locals := 50 }
theorem pw_s (AL j : Nat) : AL * 2 ^ (j + 1) = 2 * (AL * 2 ^ j) := by rw [Nat.pow_succ, ← Nat.mul_assoc, Nat.mul_comm 2]
theorem pw_le (AL : Nat) {a b : Nat} (h : a ≤ b) : AL * 2 ^ a ≤ AL * 2 ^ b := Nat.mul_le_mul_left _ (Nat.pow_le_pow_right (by omega) h)
theorem pw_1 (AL j : Nat) : AL ≤ AL * 2 ^ j := by have := pw_le AL (Nat.zero_le j); simpa using this
set_option maxHeartbeats 4000000 in
set_option maxRecDepth 100000 in
/-- the constructor -/
theorem c_LC_init (l : Launch) (D : va_G) (cI cZ cL : ClassId) (xo : Nat) : CV l y_LC_init hd_LC_init rmL D (TY cI cZ cL) [.ref xo] ([(xo, .inr (1, [.null, .null]))]) (fun _ : (Nat → Nat) × Nat => True) (fun u => wC xo u.2 u.1 cI cZ 64 (fun _ => 0) tx0) := by
  refine CV.mk (by decide +kernel) (Nat.le_of_ble_eq_true rfl) ?_
  intro p e s m below meth c A ls C hin hA hP hD hl
  obtain ⟨hx, hb, hml, hown, hB, hlk, hr, htb, hK, hX⟩ := id C
  have hS : va_S A s.heap s.heap [] := va_S.rf
  have hl : lv_has ls 1 [(0, .ref xo)] := hl
  have hin : meth.name = "<init>" := hin
  refine lv_aload_n hx hb d_LC_init_0 rfl (lv_at hl 0 rfl) ?_
  refine W.objInit hx hb hown (hB _ k_15) (hB _ k_16) (hB _ k_17) rfl (by rw [hml]; exact hl.1) rfl d_LC_init_1 (Nat.le_of_ble_eq_true rfl) (Nat.le_of_ble_eq_true rfl) ?_
  refine W.eq (g2 := F0 m 4 ls []) rfl ?_
  refine lv_aload_n hx hb d_LC_init_4 rfl (lv_at hl 0 rfl) ?_
  refine va_new (ci := 0) (fs := [.null, .null, .null, .null, .null, .null, .int 0, .int 0, .int 0, .int 0, .int 0, .int 0, .int 0]) (C := R_LT) (T := F_LT) (N := 13) hx hb hB i_LT t_LT t_LT_ok hown (hB _ k_18) (hB _ k_19) (hB _ k_2) hK hP hD hS hA.1 rfl df_LT (by decide) (by decide) d_LC_init_5 (fun t0 H hP hD hS => ?_)
  have hP : va_P D classes [(xo, .inr (1, [.null, .null])), (t0, .inr (0, [.null, .null, .null, .null, .null, .null, .int 0, .int 0, .int 0, .int 0, .int 0, .int 0, .int 0]))] H := hP
  have hD : va_D A [(xo, .inr (1, [.null, .null])), (t0, .inr (0, [.null, .null, .null, .null, .null, .null, .int 0, .int 0, .int 0, .int 0, .int 0, .int 0, .int 0]))] := hD
  refine lv_dup hx hb d_LC_init_8 rfl ?_
  refine lv_sipush (v := nI 20000) hx hb d_LC_init_9 (by decide) ?_
  refine call_Nv (As := [.int (nI 20000)]) (rest := [.ref t0, .ref xo]) (wr := [(xo, .inr (1, [.null, .null]))]) C hA kn_LC_11 (c_LT_init l D cI cZ cL t0) hP hD hS [1] [0] rfl rfl ⟨by decide, by decide⟩ (by decide) rfl hl.1 rfl (Nat.le_of_ble_eq_true rfl) ⟨by decide, by decide⟩ ⟨by decide, by decide⟩ d_LC_init_12 (fun q H2 locs2 hq hP2 hD2 hS2 => ?_)
  subst hq
  generalize H2 = H at hP2 hS2 ⊢
  generalize locs2 = locs at hS2 ⊢
  have hS := hS2
  have hP : va_P D classes ((xo, .inr (1, [.null, .null])) :: (wT q cI cZ (fun _ => 0) (fun _ => false) (fun _ => 0) (fun _ => 0) (fun _ => 0) (fun _ => 0) 0 1 1 0 0 0 0)) H := hP2
  have hD : va_D A ((xo, .inr (1, [.null, .null])) :: (wT q cI cZ (fun _ => 0) (fun _ => false) (fun _ => 0) (fun _ => 0) (fun _ => 0) (fun _ => 0) 0 1 1 0 0 0 0)) := hD2
  refine p_LCf hx hb hB hown hK hP hD hS 0 rfl k_68 hin (Nat.le_of_ble_eq_true rfl) d_LC_init_15 (fun H locs hP hD hS => ?_)
  have hP : va_P D classes ((xo, .inr (1, [.ref (q 0), .null])) :: (wT q cI cZ (fun _ => 0) (fun _ => false) (fun _ => 0) (fun _ => 0) (fun _ => 0) (fun _ => 0) 0 1 1 0 0 0 0)) H := hP
  have hD : va_D A ((xo, .inr (1, [.ref (q 0), .null])) :: (wT q cI cZ (fun _ => 0) (fun _ => false) (fun _ => 0) (fun _ => 0) (fun _ => 0) (fun _ => 0) 0 1 1 0 0 0 0)) := hD
  refine lv_aload_n hx hb d_LC_init_18 rfl (lv_at hl 0 rfl) ?_
  refine lv_bipush (v := nI 64) hx hb d_LC_init_19 (by decide) ?_
  refine va_newa (atype := .int) (ty := .int) (a0 := (64, .inl (fun _ => 0))) (N' := 64) hx hb (hB _ k_66) rfl hK hP hD hS hA.1 (fun cA => rfl) (nI_pos (by omega)) (nI_clamp (by omega)) (by decide) (by decide) (by decide) d_LC_init_21 (fun al cA H hK2 hP hD hS => ?_)
  obtain rfl := (xcA_int hK2 0 rfl).symm
  have hP : va_P D classes ((xo, .inr (1, [.ref (q 0), .null])) :: (wT q cI cZ (fun _ => 0) (fun _ => false) (fun _ => 0) (fun _ => 0) (fun _ => 0) (fun _ => 0) 0 1 1 0 0 0 0 ++ [(al, .inl (cI, 64, .inl (fun _ => 0)))])) H := hP
  have hD : va_D A ((xo, .inr (1, [.ref (q 0), .null])) :: (wT q cI cZ (fun _ => 0) (fun _ => false) (fun _ => 0) (fun _ => 0) (fun _ => 0) (fun _ => 0) 0 1 1 0 0 0 0 ++ [(al, .inl (cI, 64, .inl (fun _ => 0)))])) := hD
  refine p_LCr hx hb hB hown hK hP hD hS 0 rfl k_69 (Nat.le_of_ble_eq_true rfl) d_LC_init_23 (fun H locs hP hD hS => ?_)
  have hP : va_P D classes ((xo, .inr (1, [.ref (q 0), .ref al])) :: (wT q cI cZ (fun _ => 0) (fun _ => false) (fun _ => 0) (fun _ => 0) (fun _ => 0) (fun _ => 0) 0 1 1 0 0 0 0 ++ [(al, .inl (cI, 64, .inl (fun _ => 0)))])) H := hP
  have hD : va_D A ((xo, .inr (1, [.ref (q 0), .ref al])) :: (wT q cI cZ (fun _ => 0) (fun _ => false) (fun _ => 0) (fun _ => 0) (fun _ => 0) (fun _ => 0) 0 1 1 0 0 0 0 ++ [(al, .inl (cI, 64, .inl (fun _ => 0)))])) := hD
  have hP := hP.sub (ws' := wC xo al q cI cZ 64 (fun _ => 0) tx0) [0, 8, 1, 2, 3, 4, 5, 6, 7] rfl
  have hD := hD.sub (ws' := wC xo al q cI cZ 64 (fun _ => 0) tx0) [0, 8, 1, 2, 3, 4, 5, 6, 7] (by decide) rfl
  exact e_Cv C hS (u := (q, al)) trivial hP hD (by decide) (by decide) d_LC_init_26
set_option maxHeartbeats 4000000 in
set_option maxRecDepth 100000 in
/-- digest: the array grows by g doublings -/
theorem c_LC_digest (l : Launch) (D : va_G) (cI cZ cL : ClassId) (xo al : Nat) (q : Nat → Nat) (AL : Nat) (AF : Nat → Int32) (u0 : TXS) (txt : List Int32) (hu : OKS u0 txt) (hlen : txt.length ≤ 20000) (hAL : AL ≤ 40000) (g : Nat) (hg1 : txt.length ≤ AL * 2 ^ g) (hg2 : ∀ j, j < g → AL * 2 ^ j < txt.length) : CI l y_LC_digest hd_LC_digest (rmD g AL) D (TY cI cZ cL) [.ref xo] (wC xo al q cI cZ AL AF u0) (fun (z : Int32) (u : Nat × (Nat → Int32)) => z = dgN txt txt.length) (fun u => wC xo u.1 q cI cZ (AL * 2 ^ g) u.2 u0) := by
  refine CI.mk (by decide +kernel) (Nat.le_of_ble_eq_true rfl) ?_
  intro p e s m below meth c A ls C hA hP hD hl
  obtain ⟨hx, hb, hml, hown, hB, hlk, hr, htb, hK, hX⟩ := id C
  have hS : va_S A s.heap s.heap [] := va_S.rf
  have hl : lv_has ls 3 [(0, .ref xo)] := hl
  have hg40 : AL * 2 ^ g ≤ 40000 := by
    cases g with
    | zero => simpa using hAL
    | succ g => have h9 := hg2 g (by omega); rw [pw_s]; omega
  have sum : ∀ (al1 : Nat) (AF2 : Nat → Int32) (H : Heap) (locs : List Loc), (∀ j, j < txt.length → AF2 j = txt.getD j 0) → va_P D classes (wC xo al1 q cI cZ (AL * 2 ^ g) AF2 u0) H → va_D A (wC xo al1 q cI cZ (AL * 2 ^ g) AF2 u0) → va_S A s.heap H locs → ∀ (f k : Nat) (ls : Array Slot), k ≤ txt.length → txt.length + 1 ≤ k + f → lv_has ls 3 [(2, .int (nI k)), (1, .int (dgN txt k)), (0, .ref xo)] → W p l e (rmD g AL) s m ([.ref xo] : List Value).toArray below meth c H locs g (2 * (AL * 2 ^ g) - 2 * AL) (MQ below (QCi D (TY cI cZ cL) (fun (z : Int32) (u : Nat × (Nat → Int32)) => z = dgN txt txt.length) (fun u => wC xo u.1 q cI cZ (AL * 2 ^ g) u.2 u0) A) ([.ref xo] : List Value).toArray s (rmD g AL).cells (rmD g AL).slots A) (F0 m 46 ls []) := by
    intro al1 AF2 H locs hAF hP hD hS f
    induction f with
    | zero => intro k ls q1 q2; exact absurd q2 (by omega)
    | succ f ih =>
      intro k ls q1 q2 hl
      refine lv_iload_n hx hb d_LC_digest_46 rfl (lv_at hl 0 rfl) ?_
      refine lv_aload_n hx hb d_LC_digest_47 rfl (lv_at hl 2 rfl) ?_
      refine g_LC hx hb hB hown hK hP 0 rfl 0 (by decide) k_68 rfl d_LC_digest_48 ?_
      refine g_NE hx hb hB hown hK hP 2 rfl 9 (by decide) hX.1 rfl d_LC_digest_51 ?_
      refine ln_eqn (b := txt.length) (by rw [hu.2.2]) ?_
      refine ln_icmp_ge (tgt := 76) hx hb d_LC_digest_54 (by decide) (by omega) (by omega) (fun hc => ?_) (fun hc => ?_)
      · skip
        have hk : k = txt.length := by omega
        refine lv_iload_n hx hb d_LC_digest_76 rfl (lv_at hl 1 rfl) ?_
        exact e_Ci C hS (u := (al1, AF2)) (by rw [hk]) hP hD (Nat.le_refl _) (Nat.le_refl _) d_LC_digest_77
      · skip
        refine lv_iload_n hx hb d_LC_digest_57 rfl (lv_at hl 1 rfl) ?_
        refine lv_aload_n hx hb d_LC_digest_58 rfl (lv_at hl 2 rfl) ?_
        refine g_LC hx hb hB hown hK hP 0 rfl 1 (by decide) k_69 rfl d_LC_digest_59 ?_
        refine lv_iload_n hx hb d_LC_digest_62 rfl (lv_at hl 0 rfl) ?_
        refine ln_vald hx hb hK hP 1 0 rfl rfl (by omega) (by omega) d_LC_digest_63 ?_
        refine lv_eqi (y := txt.getD k 0) (hAF k (by omega)) ?_
        refine lv_iload_n hx hb d_LC_digest_64 rfl (lv_at hl 0 rfl) ?_
        refine lv_iconst (v := nI 1) hx hb d_LC_digest_65 (by decide) ?_
        refine ln_iadd hx hb d_LC_digest_66 ?_
        refine lv_imul hx hb d_LC_digest_67 ?_
        refine lv_iadd hx hb d_LC_digest_68 ?_
        refine lv_istore_n (lv' := [(1, .int ((dgN txt k) + ((txt.getD k 0) * (nI (k + 1))))), (2, .int (nI k)), (0, .ref xo)]) hx hb d_LC_digest_69 rfl hl (by decide) rfl (fun ls hl => ?_)
        refine lv_iinc (v := (nI (k + 1))) (lv' := [(2, .int (nI (k + 1))), (1, .int ((dgN txt k) + ((txt.getD k 0) * (nI (k + 1))))), (0, .ref xo)]) hx hb d_LC_digest_70 hl (k := 1) rfl (ln_p1 _) (by decide) rfl (fun ls hl => ?_)
        refine lv_goto (tgt := 46) hx hb d_LC_digest_73 (by decide) ?_
        exact ih (k + 1) ls (by omega) (by omega) (lv_sub hl [0, 1, 2] rfl)
  have grow : ∀ (f j alj : Nat) (AFj : Nat → Int32) (H : Heap) (locs : List Loc) (ls : Array Slot), j ≤ g → g + 1 ≤ j + f → va_P D classes (wC xo alj q cI cZ (AL * 2 ^ j) AFj u0) H → va_D A (wC xo alj q cI cZ (AL * 2 ^ j) AFj u0) → va_S A s.heap H locs → lv_has ls 3 [(0, .ref xo)] → W p l e (rmD g AL) s m ([.ref xo] : List Value).toArray below meth c H locs j (2 * (AL * 2 ^ j) - 2 * AL) (MQ below (QCi D (TY cI cZ cL) (fun (z : Int32) (u : Nat × (Nat → Int32)) => z = dgN txt txt.length) (fun u => wC xo u.1 q cI cZ (AL * 2 ^ g) u.2 u0) A) ([.ref xo] : List Value).toArray s (rmD g AL).cells (rmD g AL).slots A) (F0 m 0 ls []) := by
    intro f
    induction f with
    | zero => intro j alj AFj H locs ls q1 q2; exact absurd q2 (by omega)
    | succ f ih =>
      intro j alj AFj H locs ls q1 q2 hP hD hS hl
      have hjg := pw_le AL q1
      have hj1 := pw_1 AL j
      have hjs := pw_s AL j
      refine lv_aload_n hx hb d_LC_digest_0 rfl (lv_at hl 0 rfl) ?_
      refine g_LC hx hb hB hown hK hP 0 rfl 1 (by decide) k_69 rfl d_LC_digest_1 ?_
      refine va_alen hx hb hK hP 1 0 rfl rfl (v := nI (AL * 2 ^ j)) rfl d_LC_digest_4 ?_
      refine lv_aload_n hx hb d_LC_digest_5 rfl (lv_at hl 0 rfl) ?_
      refine g_LC hx hb hB hown hK hP 0 rfl 0 (by decide) k_68 rfl d_LC_digest_6 ?_
      refine g_NE hx hb hB hown hK hP 2 rfl 9 (by decide) hX.1 rfl d_LC_digest_9 ?_
      refine ln_eqn (b := txt.length) (by rw [hu.2.2]) ?_
      refine ln_icmp_ge (tgt := 31) hx hb d_LC_digest_12 (by decide) (by omega) (by omega) (fun hc => ?_) (fun hc => ?_)
      · skip
        have hjq : g = j := by
          rcases Nat.lt_or_ge j g with z | z
          · exact absurd (hg2 j z) (by omega)
          · omega
        subst hjq
        refine lv_aload_n hx hb d_LC_digest_31 rfl (lv_at hl 0 rfl) ?_
        refine g_LC hx hb hB hown hK hP 0 rfl 0 (by decide) k_68 rfl d_LC_digest_32 ?_
        refine lv_aload_n hx hb d_LC_digest_35 rfl (lv_at hl 0 rfl) ?_
        refine g_LC hx hb hB hown hK hP 0 rfl 1 (by decide) k_69 rfl d_LC_digest_36 ?_
        refine call_Vv (As := [.ref alj]) (rest := []) (ci := 0) (wr := [(xo, .inr (1, [.ref (q 0), .ref alj]))]) C hA kv_LC_62 (s_LT_copy l D cI cZ cL q u0 txt hu alj (AL * 2 ^ g) AFj hg1 (by omega)) hP hD hS [1, 2, 3, 4, 5, 6, 7, 8] [0] rfl rfl ⟨by decide, by decide⟩ (by decide) 1 rfl rfl rfl rfl hl.1 rfl (Nat.le_of_ble_eq_true rfl) ⟨(Nat.le_of_ble_eq_true rfl), (Nat.le_of_ble_eq_true rfl)⟩ ⟨Nat.le_refl _, Nat.le_refl _⟩ d_LC_digest_39 (fun AF2 H locs hAF hP hD hS => ?_)
        have hP : va_P D classes (wC xo alj q cI cZ (AL * 2 ^ g) AF2 u0) H := hP
        have hD : va_D A (wC xo alj q cI cZ (AL * 2 ^ g) AF2 u0) := hD
        refine W.widen (k := g) (n := (2 * (AL * 2 ^ g) - 2 * AL)) (Nat.le_refl _) (Nat.le_refl _) ?_
        refine lv_iconst (v := 0) hx hb d_LC_digest_42 (by decide) ?_
        refine lv_istore_n (lv' := [(1, .int 0), (0, .ref xo)]) hx hb d_LC_digest_43 rfl hl (by decide) rfl (fun ls hl => ?_)
        refine lv_iconst (v := nI 0) hx hb d_LC_digest_44 (by decide) ?_
        refine lv_istore_n (lv' := [(2, .int (nI 0)), (1, .int 0), (0, .ref xo)]) hx hb d_LC_digest_45 rfl hl (by decide) rfl (fun ls hl => ?_)
        exact sum alj AF2 H locs hAF hP hD hS (txt.length + 1) 0 ls (by omega) (by omega) (lv_sub hl [0, 1, 2] rfl)
      · skip
        have hjlt : j < g := by
          rcases Nat.lt_or_ge j g with z | z
          · exact z
          · rw [show j = g by omega] at hc; omega
        have hjg2 := pw_le AL (show j + 1 ≤ g from hjlt)
        refine lv_aload_n hx hb d_LC_digest_15 rfl (lv_at hl 0 rfl) ?_
        refine lv_iconst (v := nI 2) hx hb d_LC_digest_16 (by decide) ?_
        refine lv_aload_n hx hb d_LC_digest_17 rfl (lv_at hl 0 rfl) ?_
        refine g_LC hx hb hB hown hK hP 0 rfl 1 (by decide) k_69 rfl d_LC_digest_18 ?_
        refine va_alen hx hb hK hP 1 0 rfl rfl (v := nI (AL * 2 ^ j)) rfl d_LC_digest_21 ?_
        refine ln_imul hx hb d_LC_digest_22 ?_
        refine ln_eqn (b := AL * 2 ^ (j + 1)) (hjs.symm) ?_
        refine va_newa (atype := .int) (ty := .int) (a0 := (AL * 2 ^ (j + 1), .inl (fun _ => 0))) (N' := AL * 2 ^ (j + 1)) hx hb (hB _ k_66) rfl hK hP hD hS hA.1 (fun cA => rfl) (nI_pos (by omega)) (nI_clamp (by omega)) (show AL * 2 ^ (j + 1) * 4 ≤ 536870912 by omega) (show j + 1 ≤ g from hjlt) (show 2 * (AL * 2 ^ j) - 2 * AL + AL * 2 ^ (j + 1) ≤ 2 * (AL * 2 ^ g) - 2 * AL by omega) d_LC_digest_23 (fun nw cA H hK2 hP hD hS => ?_)
        obtain rfl := (xcA_int hK2 0 rfl).symm
        have hP : va_P D classes ((xo, .inr (1, [.ref (q 0), .ref alj])) :: (alj, .inl (cI, AL * 2 ^ j, .inl AFj)) :: (wS q cI cZ u0 ++ [(nw, .inl (cI, AL * 2 ^ (j + 1), .inl (fun _ => 0)))])) H := hP
        have hD : va_D A ((xo, .inr (1, [.ref (q 0), .ref alj])) :: (alj, .inl (cI, AL * 2 ^ j, .inl AFj)) :: (wS q cI cZ u0 ++ [(nw, .inl (cI, AL * 2 ^ (j + 1), .inl (fun _ => 0)))])) := hD
        refine p_LCr hx hb hB hown hK hP hD hS 0 rfl k_69 (Nat.le_of_ble_eq_true rfl) d_LC_digest_25 (fun H locs hP hD hS => ?_)
        have hP : va_P D classes ((xo, .inr (1, [.ref (q 0), .ref nw])) :: (alj, .inl (cI, AL * 2 ^ j, .inl AFj)) :: (wS q cI cZ u0 ++ [(nw, .inl (cI, AL * 2 ^ (j + 1), .inl (fun _ => 0)))])) H := hP
        have hD : va_D A ((xo, .inr (1, [.ref (q 0), .ref nw])) :: (alj, .inl (cI, AL * 2 ^ j, .inl AFj)) :: (wS q cI cZ u0 ++ [(nw, .inl (cI, AL * 2 ^ (j + 1), .inl (fun _ => 0)))])) := hD
        have hP := hP.sub (ws' := wC xo nw q cI cZ (AL * 2 ^ (j + 1)) (fun _ => 0) u0) [0, 9, 2, 3, 4, 5, 6, 7, 8] rfl
        have hD := hD.sub (ws' := wC xo nw q cI cZ (AL * 2 ^ (j + 1)) (fun _ => 0) u0) [0, 9, 2, 3, 4, 5, 6, 7, 8] (by decide) rfl
        refine lv_goto (tgt := 0) hx hb d_LC_digest_28 (by decide) ?_
        refine W.widen (k := j + 1) (n := 2 * (AL * 2 ^ (j + 1)) - 2 * AL) (Nat.le_refl _) (by omega) ?_
        exact ih (j + 1) nw (fun _ => 0) H locs ls hjlt (by omega) hP hD hS hl
  have hP : va_P D classes (wC xo al q cI cZ (AL * 2 ^ 0) AF u0) s.heap := by rw [Nat.pow_zero, Nat.mul_one]; exact hP
  have hD : va_D A (wC xo al q cI cZ (AL * 2 ^ 0) AF u0) := by rw [Nat.pow_zero, Nat.mul_one]; exact hD
  refine W.widen (k := 0) (n := 2 * (AL * 2 ^ 0) - 2 * AL) (Nat.le_refl _) (Nat.zero_le _) ?_
  exact grow (g + 1) 0 al AF s.heap [] ls (Nat.zero_le _) (by omega) hP hD hS hl
end
section
abbrev wO (ot : Nat) (cL : ClassId) (OF : Nat → Int64) (ws : va_W) : va_W := (ot, .inl (cL, 1, .inr (.inl OF))) :: ws
theorem out0 {OF : Nat → Int64} {x : Int64} : vp_updL OF (nI 0).toNatClampNeg x 0 = x := by
  rw [show (nI 0).toNatClampNeg = 0 from nI_clamp (by omega)]
  exact pk_uLs
set_option maxHeartbeats 4000000 in
set_option maxRecDepth 100000 in
/-- insert -/
theorem c_LW_insert (l : Launch) (hfl : l.flags = pinnedFlags ++ [noTraceFlag]) (D : va_G) (cI cZ cL : ClassId) (xo al : Nat) (q : Nat → Nat) (AL : Nat) (AF : Nat → Int32) (u0 : TXS) (txt : List Int32) (hu : OKS u0 txt) (hlen : txt.length ≤ 20000) (ot : Nat) (OF : Nat → Int64) (i v st n : Int32) : CI l y_LW_insert hd_LW_insert rmQ D (TY cI cZ cL) [.ref xo, .int i, .int v, .int st, .int n, .ref ot] (wO ot cL OF (wC xo al q cI cZ AL AF u0)) (fun (z : Int32) (u : TXS × (Nat → Int64)) => z = insK txt.length i n ∧ OKS u.1 (insT txt i v st n) ∧ (insK txt.length i n = 0 → u.2 0 = (nI (insT txt i v st n).length).toInt64)) (fun u => wO ot cL u.2 (wC xo al q cI cZ AL AF u.1)) := by
  refine CI.mkW (by decide +kernel) (Nat.le_of_ble_eq_true rfl) ?_
  intro p e s m below meth c A ls C hA hP hD hl
  obtain ⟨hx, hb, hml, hown, hB, hlk, hr, htb, hK, hX⟩ := id C
  have hS : va_S A s.heap s.heap [] := va_S.rf
  have hl : lv_has ls 7 [(0, .ref xo), (1, .int i), (2, .int v), (3, .int st), (4, .int n), (5, .ref ot)] := hl
  refine lv_aload hx hb d_LW_insert_0 (lv_at hl 5 rfl) ?_
  refine lv_iconst (v := nI 0) hx hb d_LW_insert_2 (by decide) ?_
  refine lv_aload_n hx hb d_LW_insert_3 rfl (lv_at hl 0 rfl) ?_
  refine lv_iload_n hx hb d_LW_insert_4 rfl (lv_at hl 1 rfl) ?_
  refine lv_iload_n hx hb d_LW_insert_5 rfl (lv_at hl 2 rfl) ?_
  refine lv_iload_n hx hb d_LW_insert_6 rfl (lv_at hl 3 rfl) ?_
  refine lv_iload hx hb d_LW_insert_7 (lv_at hl 4 rfl) ?_
  by_cases hok : okI txt.length i n
  · skip
    by_cases hbig : nI txt.length + n ≤ 20000
    · skip
      obtain ⟨a, c1, ha, hc1, hc2, rfl, rfl⟩ := okI_nat (by omega) hok
      have hK0 := insK_ok hok hbig
      have hT := insT_ok (v := v) (st := st) hK0 (by omega) (by omega)
      have hb3 := (big_nat hlen hc2).mp hbig
      refine call_Vi (As := [.int (nI a), .int v, .int st, .int (nI c1)]) (rest := [.int (nI 0), .ref ot]) (ci := 1) (wr := [(ot, .inl (cL, 1, .inr (.inl OF)))]) C hA kv_LW_7 (c_LC_insert l D cI cZ cL xo al q AL AF u0 txt hu a v st c1 ha hc1 hc2 hb3) hP hD hS [1, 2, 3, 4, 5, 6, 7, 8, 9] [0] rfl rfl ⟨by decide, by decide⟩ (by decide) 0 rfl rfl rfl rfl hl.1 rfl (Nat.le_of_ble_eq_true rfl) ⟨by decide, by decide⟩ ⟨by decide, by decide⟩ d_LW_insert_9 (fun zz u2 H locs hz hP hD hS => ?_)
      have hP : va_P D classes (wO ot cL OF (wC xo al q cI cZ AL AF u2)) H := hP
      have hD : va_D A (wO ot cL OF (wC xo al q cI cZ AL AF u2)) := hD
      refine lv_i2l hx hb d_LW_insert_12 rfl ?_
      refine va_last hx hb hK hP hD hS 0 2 rfl rfl (vp_in_nI (by omega) (by omega)) d_LW_insert_13 (fun H locs hP hD hS => ?_)
      have hP : va_P D classes (wO ot cL (vp_updL OF (nI 0).toNatClampNeg zz.toInt64) (wC xo al q cI cZ AL AF u2)) H := hP
      have hD : va_D A (wO ot cL (vp_updL OF (nI 0).toNatClampNeg zz.toInt64) (wC xo al q cI cZ AL AF u2)) := hD
      refine lv_goto (tgt := 25) hx hb d_LW_insert_14 (by decide) ?_
      refine lv_iconst (v := nI 0) hx hb d_LW_insert_25 (by decide) ?_
      exact e_Ci C hS (u := (u2, vp_updL OF (nI 0).toNatClampNeg zz.toInt64)) (⟨hK0.symm, by rw [hT]; exact hz.2, fun _ => by rw [hT, insN_len ha, newV_len]; simp only [out0]; rw [hz.1]⟩) hP hD (by decide) (by decide) d_LW_insert_26
    · skip
      have hK0 := insK_big hok hbig
      have hT := insT_no (txt := txt) (i := i) (v := v) (st := st) (n := n) (by rw [hK0]; decide)
      refine call_Xv (As := [.int i, .int v, .int st, .int n]) (rest := [.int (nI 0), .ref ot]) (ci := 1) (hpc := 21) C hA kv_LW_7 (c_LC_insert_y l hfl D cI cZ cL xo al q AL AF u0 txt hu i v st n hok hbig) (hP.sub (ws' := wC xo al q cI cZ AL AF u0) [1, 2, 3, 4, 5, 6, 7, 8, 9] rfl) hS 0 rfl rfl rfl rfl hl.1 rfl (Nat.le_of_ble_eq_true rfl) ⟨by decide, by decide⟩ ⟨by decide, by decide⟩ d_LW_insert_9 xc_ISE (Or.inr ⟨_, _, _, rfl, by decide, by decide, k_94, rfl, by decide, by decide, rfl, k_95⟩) (fun xx H1 hz1 hk1 hS => ?_)
      have hP := keepW hP hk1
      generalize H1 = H at hP hS ⊢
      refine lv_astore (lv' := [(6, .ref xx), (0, .ref xo), (1, .int i), (2, .int v), (3, .int st), (4, .int n), (5, .ref ot)]) hx hb d_LW_insert_21 hl (by decide) rfl (fun ls hl => ?_)
      refine lv_iconst (v := nI 2) hx hb d_LW_insert_23 (by decide) ?_
      exact e_Ci C hS (u := (u0, OF)) (⟨hK0.symm, by rw [hT]; exact hu, fun q => absurd q (by rw [hK0]; decide)⟩) hP hD (by decide) (by decide) d_LW_insert_24
  · skip
    have hK0 := insK_no hok
    have hT := insT_no (txt := txt) (i := i) (v := v) (st := st) (n := n) (by rw [hK0]; decide)
    refine call_Xv (As := [.int i, .int v, .int st, .int n]) (rest := [.int (nI 0), .ref ot]) (ci := 1) (hpc := 17) C hA kv_LW_7 (c_LC_insert_x l hfl D cI cZ cL xo al q AL AF u0 txt hu i v st n hok) (hP.sub (ws' := wC xo al q cI cZ AL AF u0) [1, 2, 3, 4, 5, 6, 7, 8, 9] rfl) hS 0 rfl rfl rfl rfl hl.1 rfl (Nat.le_of_ble_eq_true rfl) ⟨by decide, by decide⟩ ⟨by decide, by decide⟩ d_LW_insert_9 xc_IAE (Or.inl ⟨_, _, rfl, by decide, by decide, rfl, k_94⟩) (fun xx H1 hz1 hk1 hS => ?_)
    have hP := keepW hP hk1
    generalize H1 = H at hP hS ⊢
    refine lv_astore (lv' := [(6, .ref xx), (0, .ref xo), (1, .int i), (2, .int v), (3, .int st), (4, .int n), (5, .ref ot)]) hx hb d_LW_insert_17 hl (by decide) rfl (fun ls hl => ?_)
    refine lv_iconst (v := nI 1) hx hb d_LW_insert_19 (by decide) ?_
    exact e_Ci C hS (u := (u0, OF)) (⟨hK0.symm, by rw [hT]; exact hu, fun q => absurd q (by rw [hK0]; decide)⟩) hP hD (by decide) (by decide) d_LW_insert_20
set_option maxHeartbeats 4000000 in
set_option maxRecDepth 100000 in
/-- delete -/
theorem c_LW_delete (l : Launch) (hfl : l.flags = pinnedFlags ++ [noTraceFlag]) (D : va_G) (cI cZ cL : ClassId) (xo al : Nat) (q : Nat → Nat) (AL : Nat) (AF : Nat → Int32) (u0 : TXS) (txt : List Int32) (hu : OKS u0 txt) (hlen : txt.length ≤ 20000) (ot : Nat) (OF : Nat → Int64) (i n : Int32) : CI l y_LW_delete hd_LW_delete rmQ D (TY cI cZ cL) [.ref xo, .int i, .int n, .ref ot] (wO ot cL OF (wC xo al q cI cZ AL AF u0)) (fun (z : Int32) (u : TXS × (Nat → Int64)) => z = delK txt.length i n ∧ OKS u.1 (delT txt i n) ∧ (delK txt.length i n = 0 → u.2 0 = (nI (delT txt i n).length).toInt64)) (fun u => wO ot cL u.2 (wC xo al q cI cZ AL AF u.1)) := by
  refine CI.mkW (by decide +kernel) (Nat.le_of_ble_eq_true rfl) ?_
  intro p e s m below meth c A ls C hA hP hD hl
  obtain ⟨hx, hb, hml, hown, hB, hlk, hr, htb, hK, hX⟩ := id C
  have hS : va_S A s.heap s.heap [] := va_S.rf
  have hl : lv_has ls 5 [(0, .ref xo), (1, .int i), (2, .int n), (3, .ref ot)] := hl
  refine lv_aload_n hx hb d_LW_delete_0 rfl (lv_at hl 3 rfl) ?_
  refine lv_iconst (v := nI 0) hx hb d_LW_delete_1 (by decide) ?_
  refine lv_aload_n hx hb d_LW_delete_2 rfl (lv_at hl 0 rfl) ?_
  refine lv_iload_n hx hb d_LW_delete_3 rfl (lv_at hl 1 rfl) ?_
  refine lv_iload_n hx hb d_LW_delete_4 rfl (lv_at hl 2 rfl) ?_
  by_cases hok : okD txt.length i n
  · skip
    have hK0 : delK txt.length i n = 0 := by unfold delK; rw [if_pos hok]
    obtain ⟨a, c1, hc1, hac, rfl, rfl⟩ := okD_nat (by omega) hok
    have hT := delT_ok hok (by omega) (by omega)
    refine call_Vi (As := [.int (nI a), .int (nI c1)]) (rest := [.int (nI 0), .ref ot]) (ci := 1) (wr := [(ot, .inl (cL, 1, .inr (.inl OF)))]) C hA kv_LW_17 (c_LC_delete l D cI cZ cL xo al q AL AF u0 txt hu a c1 hc1 hac hlen) hP hD hS [1, 2, 3, 4, 5, 6, 7, 8, 9] [0] rfl rfl ⟨by decide, by decide⟩ (by decide) 0 rfl rfl rfl rfl hl.1 rfl (Nat.le_of_ble_eq_true rfl) ⟨by decide, by decide⟩ ⟨by decide, by decide⟩ d_LW_delete_5 (fun zz u2 H locs hz hP hD hS => ?_)
    have hP : va_P D classes (wO ot cL OF (wC xo al q cI cZ AL AF u2)) H := hP
    have hD : va_D A (wO ot cL OF (wC xo al q cI cZ AL AF u2)) := hD
    refine lv_i2l hx hb d_LW_delete_8 rfl ?_
    refine va_last hx hb hK hP hD hS 0 2 rfl rfl (vp_in_nI (by omega) (by omega)) d_LW_delete_9 (fun H locs hP hD hS => ?_)
    have hP : va_P D classes (wO ot cL (vp_updL OF (nI 0).toNatClampNeg zz.toInt64) (wC xo al q cI cZ AL AF u2)) H := hP
    have hD : va_D A (wO ot cL (vp_updL OF (nI 0).toNatClampNeg zz.toInt64) (wC xo al q cI cZ AL AF u2)) := hD
    refine lv_goto (tgt := 17) hx hb d_LW_delete_10 (by decide) ?_
    refine lv_iconst (v := nI 0) hx hb d_LW_delete_17 (by decide) ?_
    exact e_Ci C hS (u := (u2, vp_updL OF (nI 0).toNatClampNeg zz.toInt64)) (⟨hK0.symm, by rw [hT]; exact hz.2, fun _ => by rw [hT, delN_len hac]; simp only [out0]; rw [hz.1]⟩) hP hD (by decide) (by decide) d_LW_delete_18
  · skip
    have hK0 : delK txt.length i n = 1 := by unfold delK; rw [if_neg hok]
    have hT := delT_no hok
    refine call_Xv (As := [.int i, .int n]) (rest := [.int (nI 0), .ref ot]) (ci := 1) (hpc := 13) C hA kv_LW_17 (c_LC_delete_x l hfl D cI cZ cL xo al q AL AF u0 txt hu hlen i n hok) (hP.sub (ws' := wC xo al q cI cZ AL AF u0) [1, 2, 3, 4, 5, 6, 7, 8, 9] rfl) hS 0 rfl rfl rfl rfl hl.1 rfl (Nat.le_of_ble_eq_true rfl) ⟨by decide, by decide⟩ ⟨by decide, by decide⟩ d_LW_delete_5 xc_IAE (Or.inl ⟨_, _, rfl, by decide, by decide, rfl, k_94⟩) (fun xx H1 hz1 hk1 hS => ?_)
    have hP := keepW hP hk1
    generalize H1 = H at hP hS ⊢
    refine lv_astore (lv' := [(4, .ref xx), (0, .ref xo), (1, .int i), (2, .int n), (3, .ref ot)]) hx hb d_LW_delete_13 hl (by decide) rfl (fun ls hl => ?_)
    refine lv_iconst (v := nI 1) hx hb d_LW_delete_15 (by decide) ?_
    exact e_Ci C hS (u := (u0, OF)) (⟨hK0.symm, by rw [hT]; exact hu, fun q => absurd q (by rw [hK0]; decide)⟩) hP hD (by decide) (by decide) d_LW_delete_16
set_option maxHeartbeats 4000000 in
set_option maxRecDepth 100000 in
/-- get -/
theorem c_LW_get (l : Launch) (hfl : l.flags = pinnedFlags ++ [noTraceFlag]) (D : va_G) (cI cZ cL : ClassId) (xo al : Nat) (q : Nat → Nat) (AL : Nat) (AF : Nat → Int32) (u0 : TXS) (txt : List Int32) (hu : OKS u0 txt) (hlen : txt.length ≤ 20000) (ot : Nat) (OF : Nat → Int64) (i : Int32) : CI l y_LW_get hd_LW_get rmQ D (TY cI cZ cL) [.ref xo, .int i, .ref ot] (wO ot cL OF (wC xo al q cI cZ AL AF u0)) (fun (z : Int32) (u : TXS × (Nat → Int64)) => z = (if okG txt.length i then 0 else 1) ∧ OKS u.1 txt ∧ (okG txt.length i → u.2 0 = (txt.getD i.toNatClampNeg 0).toInt64)) (fun u => wO ot cL u.2 (wC xo al q cI cZ AL AF u.1)) := by
  refine CI.mkW (by decide +kernel) (Nat.le_of_ble_eq_true rfl) ?_
  intro p e s m below meth c A ls C hA hP hD hl
  obtain ⟨hx, hb, hml, hown, hB, hlk, hr, htb, hK, hX⟩ := id C
  have hS : va_S A s.heap s.heap [] := va_S.rf
  have hl : lv_has ls 4 [(0, .ref xo), (1, .int i), (2, .ref ot)] := hl
  refine lv_aload_n hx hb d_LW_get_0 rfl (lv_at hl 2 rfl) ?_
  refine lv_iconst (v := nI 0) hx hb d_LW_get_1 (by decide) ?_
  refine lv_aload_n hx hb d_LW_get_2 rfl (lv_at hl 0 rfl) ?_
  refine lv_iload_n hx hb d_LW_get_3 rfl (lv_at hl 1 rfl) ?_
  by_cases hok : okG txt.length i
  · skip
    have hk0 := hok
    obtain ⟨a, ha, rfl⟩ := okG_nat (by omega) hok
    have hcl2 : (nI a).toNatClampNeg = a := nI_clamp (by omega)
    refine call_Vi (As := [.int (nI a)]) (rest := [.int (nI 0), .ref ot]) (ci := 1) (wr := [(ot, .inl (cL, 1, .inr (.inl OF)))]) C hA kv_LW_21 (c_LC_get l D cI cZ cL xo al q AL AF u0 txt hu a ha hlen) hP hD hS [1, 2, 3, 4, 5, 6, 7, 8, 9] [0] rfl rfl ⟨by decide, by decide⟩ (by decide) 0 rfl rfl rfl rfl hl.1 rfl (Nat.le_of_ble_eq_true rfl) ⟨by decide, by decide⟩ ⟨by decide, by decide⟩ d_LW_get_4 (fun zz u2 H locs hz hP hD hS => ?_)
    have hP : va_P D classes (wO ot cL OF (wC xo al q cI cZ AL AF u2)) H := hP
    have hD : va_D A (wO ot cL OF (wC xo al q cI cZ AL AF u2)) := hD
    refine lv_i2l hx hb d_LW_get_7 rfl ?_
    refine va_last hx hb hK hP hD hS 0 2 rfl rfl (vp_in_nI (by omega) (by omega)) d_LW_get_8 (fun H locs hP hD hS => ?_)
    have hP : va_P D classes (wO ot cL (vp_updL OF (nI 0).toNatClampNeg zz.toInt64) (wC xo al q cI cZ AL AF u2)) H := hP
    have hD : va_D A (wO ot cL (vp_updL OF (nI 0).toNatClampNeg zz.toInt64) (wC xo al q cI cZ AL AF u2)) := hD
    refine lv_goto (tgt := 15) hx hb d_LW_get_9 (by decide) ?_
    refine lv_iconst (v := nI 0) hx hb d_LW_get_15 (by decide) ?_
    exact e_Ci C hS (u := (u2, vp_updL OF (nI 0).toNatClampNeg zz.toInt64)) (⟨by rw [if_pos hk0]; rfl, hz.1, fun _ => by simp only [out0]; rw [hcl2, hz.2]⟩) hP hD (by decide) (by decide) d_LW_get_16
  · skip
    refine call_Xv (As := [.int i]) (rest := [.int (nI 0), .ref ot]) (ci := 1) (hpc := 12) C hA kv_LW_21 (c_LC_get_x l hfl D cI cZ cL xo al q AL AF u0 txt hu i hok) (hP.sub (ws' := wC xo al q cI cZ AL AF u0) [1, 2, 3, 4, 5, 6, 7, 8, 9] rfl) hS 0 rfl rfl rfl rfl hl.1 rfl (Nat.le_of_ble_eq_true rfl) ⟨by decide, by decide⟩ ⟨by decide, by decide⟩ d_LW_get_4 xc_NSE (Or.inl ⟨_, _, rfl, by decide, by decide, rfl, k_215⟩) (fun xx H1 hz1 hk1 hS => ?_)
    have hP := keepW hP hk1
    generalize H1 = H at hP hS ⊢
    refine lv_astore_n (lv' := [(3, .ref xx), (0, .ref xo), (1, .int i), (2, .ref ot)]) hx hb d_LW_get_12 rfl hl (by decide) rfl (fun ls hl => ?_)
    refine lv_iconst (v := nI 1) hx hb d_LW_get_13 (by decide) ?_
    exact e_Ci C hS (u := (u0, OF)) (⟨by rw [if_neg hok]; rfl, hu, fun q => absurd q hok⟩) hP hD (by decide) (by decide) d_LW_get_14
set_option maxHeartbeats 4000000 in
set_option maxRecDepth 100000 in
/-- line -/
theorem c_LW_line (l : Launch) (hfl : l.flags = pinnedFlags ++ [noTraceFlag]) (D : va_G) (cI cZ cL : ClassId) (xo al : Nat) (q : Nat → Nat) (AL : Nat) (AF : Nat → Int32) (u0 : TXS) (txt : List Int32) (hu : OKS u0 txt) (hlen : txt.length ≤ 20000) (ot : Nat) (OF : Nat → Int64) (i : Int32) : CI l y_LW_line hd_LW_line rmQ D (TY cI cZ cL) [.ref xo, .int i, .ref ot] (wO ot cL OF (wC xo al q cI cZ AL AF u0)) (fun (z : Int32) (u : Nat → Int64) => z = (if okL (cnt txt txt.length) i then 0 else 1) ∧ (okL (cnt txt txt.length) i → ∃ k, u 0 = (nI k).toInt64 ∧ BE txt i.toNatClampNeg k)) (fun u => wO ot cL u (wC xo al q cI cZ AL AF u0)) := by
  refine CI.mkW (by decide +kernel) (Nat.le_of_ble_eq_true rfl) ?_
  intro p e s m below meth c A ls C hA hP hD hl
  obtain ⟨hx, hb, hml, hown, hB, hlk, hr, htb, hK, hX⟩ := id C
  have hS : va_S A s.heap s.heap [] := va_S.rf
  have hl : lv_has ls 4 [(0, .ref xo), (1, .int i), (2, .ref ot)] := hl
  have hcl := cnt_lenle txt txt.length
  refine lv_aload_n hx hb d_LW_line_0 rfl (lv_at hl 2 rfl) ?_
  refine lv_iconst (v := nI 0) hx hb d_LW_line_1 (by decide) ?_
  refine lv_aload_n hx hb d_LW_line_2 rfl (lv_at hl 0 rfl) ?_
  refine lv_iload_n hx hb d_LW_line_3 rfl (lv_at hl 1 rfl) ?_
  by_cases hok : okL (cnt txt txt.length) i
  · skip
    have hk0 := hok
    obtain ⟨a, ha, rfl⟩ := okL_nat (by omega) hok
    have hcl2 : (nI a).toNatClampNeg = a := nI_clamp (by omega)
    refine call_Ri (As := [.int (nI a)]) (rest := [.int (nI 0), .ref ot]) (ci := 1) C hA kv_LW_27 (c_LC_line l D cI cZ cL xo al q AL AF u0 txt hu a ha hlen) (hP.sub (ws' := wC xo al q cI cZ AL AF u0) [1, 2, 3, 4, 5, 6, 7, 8, 9] rfl) hS 0 rfl rfl rfl rfl hl.1 rfl (Nat.le_of_ble_eq_true rfl) ⟨by decide, by decide⟩ ⟨rfl, rfl⟩ ⟨Nat.zero_le _, Nat.zero_le _⟩ d_LW_line_4 (fun zz hz => ?_)
    refine lv_i2l hx hb d_LW_line_7 rfl ?_
    refine va_last hx hb hK hP hD hS 0 2 rfl rfl (vp_in_nI (by omega) (by omega)) d_LW_line_8 (fun H locs hP hD hS => ?_)
    have hP : va_P D classes (wO ot cL (vp_updL OF (nI 0).toNatClampNeg zz.toInt64) (wC xo al q cI cZ AL AF u0)) H := hP
    have hD : va_D A (wO ot cL (vp_updL OF (nI 0).toNatClampNeg zz.toInt64) (wC xo al q cI cZ AL AF u0)) := hD
    refine lv_goto (tgt := 15) hx hb d_LW_line_9 (by decide) ?_
    refine lv_iconst (v := nI 0) hx hb d_LW_line_15 (by decide) ?_
    exact e_Ci C hS (u := vp_updL OF (nI 0).toNatClampNeg zz.toInt64) (⟨by rw [if_pos hk0]; rfl, fun _ => by obtain ⟨k, hz1, hz2⟩ := hz; refine ⟨k, ?_, by rw [hcl2]; exact hz2⟩; simp only [out0]; rw [hz1]⟩) hP hD (by decide) (by decide) d_LW_line_16
  · skip
    refine call_Xv (As := [.int i]) (rest := [.int (nI 0), .ref ot]) (ci := 1) (hpc := 12) C hA kv_LW_27 (c_LC_line_x l hfl D cI cZ cL xo al q AL AF u0 txt hu i hok) (hP.sub (ws' := wC xo al q cI cZ AL AF u0) [1, 2, 3, 4, 5, 6, 7, 8, 9] rfl) hS 0 rfl rfl rfl rfl hl.1 rfl (Nat.le_of_ble_eq_true rfl) ⟨by decide, by decide⟩ ⟨by decide, by decide⟩ d_LW_line_4 xc_NSE (Or.inl ⟨_, _, rfl, by decide, by decide, rfl, k_215⟩) (fun xx H1 hz1 hk1 hS => ?_)
    have hP := keepW hP hk1
    generalize H1 = H at hP hS ⊢
    refine lv_astore_n (lv' := [(3, .ref xx), (0, .ref xo), (1, .int i), (2, .ref ot)]) hx hb d_LW_line_12 rfl hl (by decide) rfl (fun ls hl => ?_)
    refine lv_iconst (v := nI 1) hx hb d_LW_line_13 (by decide) ?_
    exact e_Ci C hS (u := OF) (⟨by rw [if_neg hok]; rfl, fun q => absurd q hok⟩) hP hD (by decide) (by decide) d_LW_line_14
set_option maxHeartbeats 4000000 in
set_option maxRecDepth 100000 in
/-- lineOf -/
theorem c_LW_lineOf (l : Launch) (hfl : l.flags = pinnedFlags ++ [noTraceFlag]) (D : va_G) (cI cZ cL : ClassId) (xo al : Nat) (q : Nat → Nat) (AL : Nat) (AF : Nat → Int32) (u0 : TXS) (txt : List Int32) (hu : OKS u0 txt) (hlen : txt.length ≤ 20000) (ot : Nat) (OF : Nat → Int64) (i : Int32) : CI l y_LW_lineOf hd_LW_lineOf rmQ D (TY cI cZ cL) [.ref xo, .int i, .ref ot] (wO ot cL OF (wC xo al q cI cZ AL AF u0)) (fun (z : Int32) (u : Nat → Int64) => z = (if okL txt.length i then 0 else 1) ∧ (okL txt.length i → u 0 = (nI (cnt txt i.toNatClampNeg)).toInt64)) (fun u => wO ot cL u (wC xo al q cI cZ AL AF u0)) := by
  refine CI.mkW (by decide +kernel) (Nat.le_of_ble_eq_true rfl) ?_
  intro p e s m below meth c A ls C hA hP hD hl
  obtain ⟨hx, hb, hml, hown, hB, hlk, hr, htb, hK, hX⟩ := id C
  have hS : va_S A s.heap s.heap [] := va_S.rf
  have hl : lv_has ls 4 [(0, .ref xo), (1, .int i), (2, .ref ot)] := hl
  have hcl := cnt_lenle txt txt.length
  refine lv_aload_n hx hb d_LW_lineOf_0 rfl (lv_at hl 2 rfl) ?_
  refine lv_iconst (v := nI 0) hx hb d_LW_lineOf_1 (by decide) ?_
  refine lv_aload_n hx hb d_LW_lineOf_2 rfl (lv_at hl 0 rfl) ?_
  refine lv_iload_n hx hb d_LW_lineOf_3 rfl (lv_at hl 1 rfl) ?_
  by_cases hok : okL txt.length i
  · skip
    have hk0 := hok
    obtain ⟨a, ha, rfl⟩ := okL_nat (by omega) hok
    have hcl2 : (nI a).toNatClampNeg = a := nI_clamp (by omega)
    refine call_Ri (As := [.int (nI a)]) (rest := [.int (nI 0), .ref ot]) (ci := 1) C hA kv_LW_30 (c_LC_lineOf l D cI cZ cL xo al q AL AF u0 txt hu a ha hlen) (hP.sub (ws' := wC xo al q cI cZ AL AF u0) [1, 2, 3, 4, 5, 6, 7, 8, 9] rfl) hS 0 rfl rfl rfl rfl hl.1 rfl (Nat.le_of_ble_eq_true rfl) ⟨by decide, by decide⟩ ⟨rfl, rfl⟩ ⟨Nat.zero_le _, Nat.zero_le _⟩ d_LW_lineOf_4 (fun zz hz => ?_)
    refine lv_i2l hx hb d_LW_lineOf_7 rfl ?_
    refine va_last hx hb hK hP hD hS 0 2 rfl rfl (vp_in_nI (by omega) (by omega)) d_LW_lineOf_8 (fun H locs hP hD hS => ?_)
    have hP : va_P D classes (wO ot cL (vp_updL OF (nI 0).toNatClampNeg zz.toInt64) (wC xo al q cI cZ AL AF u0)) H := hP
    have hD : va_D A (wO ot cL (vp_updL OF (nI 0).toNatClampNeg zz.toInt64) (wC xo al q cI cZ AL AF u0)) := hD
    refine lv_goto (tgt := 15) hx hb d_LW_lineOf_9 (by decide) ?_
    refine lv_iconst (v := nI 0) hx hb d_LW_lineOf_15 (by decide) ?_
    exact e_Ci C hS (u := vp_updL OF (nI 0).toNatClampNeg zz.toInt64) (⟨by rw [if_pos hk0]; rfl, fun _ => by simp only [out0]; rw [hcl2, hz]⟩) hP hD (by decide) (by decide) d_LW_lineOf_16
  · skip
    refine call_Xv (As := [.int i]) (rest := [.int (nI 0), .ref ot]) (ci := 1) (hpc := 12) C hA kv_LW_30 (c_LC_lineOf_x l hfl D cI cZ cL xo al q AL AF u0 txt hu i hok) (hP.sub (ws' := wC xo al q cI cZ AL AF u0) [1, 2, 3, 4, 5, 6, 7, 8, 9] rfl) hS 0 rfl rfl rfl rfl hl.1 rfl (Nat.le_of_ble_eq_true rfl) ⟨by decide, by decide⟩ ⟨by decide, by decide⟩ d_LW_lineOf_4 xc_IAE (Or.inl ⟨_, _, rfl, by decide, by decide, rfl, k_94⟩) (fun xx H1 hz1 hk1 hS => ?_)
    have hP := keepW hP hk1
    generalize H1 = H at hP hS ⊢
    refine lv_astore_n (lv' := [(3, .ref xx), (0, .ref xo), (1, .int i), (2, .ref ot)]) hx hb d_LW_lineOf_12 rfl hl (by decide) rfl (fun ls hl => ?_)
    refine lv_iconst (v := nI 1) hx hb d_LW_lineOf_13 (by decide) ?_
    exact e_Ci C hS (u := OF) (⟨by rw [if_neg hok]; rfl, fun q => absurd q hok⟩) hP hD (by decide) (by decide) d_LW_lineOf_14
end
section
def lw_P (b : Addr) (xs : List Int32) (args : Array Value) (s : State) : Prop := args = #[.ref b] ∧ s.IntsAt b xs ∧ xs.length ≤ 2560 ∧ (Jvm.Cond.and given_1 narrow_1).before args s = true
def lw_Q (_ : Array Value) (s : State) (o : Outcome) (t : State) : Prop := o = .returned (some (.int 1)) ∧ Framed s o t [] 601024 7293034
def lw_Z (below : List Frame) (a : Array Value) (s : State) : State → Prop := fun t => ∃ o, t.status = .running ∧ Ended t below o ∧ lw_Q a s o t
/-- the law's own end, with 1 on the stack, nothing written that was there before, its room as the claim has it -/
theorem lw_ret {p : Program} {l : Launch} {e : Env} {s : State} {m : MethodId} {below : List Frame} {meth : Method} {c : Code} {b : Nat} (hx : p.tables.exec = Jvm.exec) (hb : c.code = code) (hr : meth.sig.returnType = ret) (hlocks : meth.locks = false) {pc : Nat} {H : Heap} {ls : Array Slot} (hdg : decode code pc = .ok (.ireturn, 1)) : W p l e room_1 s m #[Value.ref b] below meth c H [] 601024 7293034 (lw_Z below #[Value.ref b] s) (F0 m pc ls [.int 1]) := by
  intro T hT X
  obtain ⟨fs, hret, hrun, hended, hW, hframe⟩ := X.leave (v := some (.int 1)) (hlocks := hlocks) (fun h => by rw [hr] at h; cases h)
  have hmeth' : T.vm.method? m = some meth := X.method'
  refine ⟨T.setFrames fs, ?_, .returned (some (.int 1)), hrun, hended, rfl, ⟨_, rfl⟩, hW, hframe⟩
  jvm_step X.here [X.here.top, hx, hb, hdg, hmeth', hr, ret, narrow_b1]
  (try refine ⟨rfl, ?_⟩); (try refine ⟨rfl, ?_⟩)
  first | (intro acts; rw [hret _ acts rfl rfl rfl]) | rw [hret _ _ rfl rfl rfl]
  exact Steps.refl _
/-- what holds at the law's entry: the machine, the code, the tables' words (any of lw_tbl by 'hts w (by decide +kernel)'), the script of L ints xs at the cell b, what the Statement gives of the start (any of its parts by flat_of_before) -/
def lw_At (p : Program) (s : State) (m : MethodId) (meth : Method) (c : Code) (b L : Nat) (xs : Nat → Int32) : Prop :=
  p.tables.exec = Jvm.exec ∧ c.code = code ∧ meth.sig.returnType = ret ∧ c.maxLocals = 7 ∧ s.vm.findClass R_law = some m.cls ∧ (∀ w ∈ lw_tbl, w.before #[Value.ref b] s = true) ∧ va_X b L xs s s.heap ∧ b < s.heap.size ∧ meth.locks = false ∧ (Jvm.Cond.and given_1 narrow_1).before #[Value.ref b] s = true
theorem arr_of {args : Array Value} {s : State} {ty : FieldType} (h : (Cond.arrayClass ty).before args s = true) : ∃ cA : ClassId, ArrOfT s cA ty ∧ s.vm.findClass ("[" ++ ty.toString) = some cA := by
  obtain ⟨cA, kA, comp, h1, h2, h3⟩ := Cond.arrayClass_spec h
  exact ⟨cA, fun n z => ⟨fun k h => (by cases h), kA, h2, comp, h3⟩, h1⟩
theorem tbl_at {w : Cond} (i : Nat) (hi : tables_1[i]? = some w) : w ∈ lw_tbl := List.mem_append_right _ (List.mem_of_getElem? hi)
/-- what the tables say at the law's entry -/
theorem K_start {args : Array Value} {s : State} (hts : ∀ w ∈ lw_tbl, w.before args s = true) : ∃ (D : va_G) (cI cZ cL : ClassId), va_K D classes (TY cI cZ cL) s := by
  have hB := bs_tbl hts
  obtain ⟨c0, iS0, hKn0⟩ := u_known (C := R_LT) (T := F_LT) (N := 13) (n := 13) hB i_LT (hB _ k_19)
  obtain ⟨c1, iS1, hKn1⟩ := u_known (C := R_LC) (T := F_LC) (N := 2) (n := 2) hB i_LC (hB _ k_11)
  obtain ⟨c2, iS2, hKn2⟩ := u_known (C := R_MO) (T := F_MO) (N := 3) (n := 3) hB i_MO (hB _ k_265)
  obtain ⟨cI, hI1, hI2⟩ := arr_of (hB _ k_66)
  obtain ⟨cZ, hZ1, hZ2⟩ := arr_of (hB _ k_67)
  obtain ⟨cL, hL1, hL2⟩ := arr_of (hB _ k_361)
  refine ⟨(fun k => if k = 0 then c0 else if k = 1 then c1 else c2, fun k => if k = 0 then iS0 else if k = 1 then iS1 else iS2), cI, cZ, cL, ?_, ?_⟩
  · intro k q hq
    match k, hq with
    | 0, hq => cases hq; exact hKn0
    | 1, hq => cases hq; exact hKn1
    | 2, hq => cases hq; exact hKn2
    | k + 3, hq => simp [classes] at hq
  · intro k q hq
    match k, hq with
    | 0, hq => cases hq; exact ⟨hI1, hI2⟩
    | 1, hq => cases hq; exact ⟨hZ1, hZ2⟩
    | 2, hq => cases hq; exact ⟨hL1, hL2⟩
    | k + 3, hq => simp [TY] at hq
theorem xk_start {args : Array Value} {s : State} (hts : ∀ w ∈ lw_tbl, w.before args s = true) (hgv : (Jvm.Cond.and given_1 narrow_1).before args s = true) : xk s := by
  have hB := bs_tbl hts
  have hs := flat_of_before _ hgv
  obtain ⟨ca, -, hfa, -⟩ := Cond.instantiable_spec (hB _ k_104)
  obtain ⟨cb, -, hfb, -⟩ := Cond.instantiable_spec (hB _ k_167)
  refine ⟨va_Nw.of rfl (hts _ (tbl_at 33 rfl)), va_Nw.of rfl (hts _ (tbl_at 36 rfl)), fun w hw => ?_, xno_of hfb hfa (args := args) (hs _ (by decide +kernel)), xz_of (hts _ (tbl_at 130 rfl)) (hs _ (by decide +kernel)), xz_of (hts _ (tbl_at 132 rfl)) (hs _ (by decide +kernel))⟩
  simp only [xw1, List.mem_cons, List.not_mem_nil, or_false] at hw
  rcases hw with rfl | rfl | rfl | rfl | rfl | rfl
  · exact va_Nw.of rfl (hts _ (tbl_at 105 rfl))
  · exact va_Nw.of rfl (hts _ (tbl_at 168 rfl))
  · exact va_Nw.of rfl (hts _ (tbl_at 225 rfl))
  · exact va_Nw.of rfl (hts _ (tbl_at 106 rfl))
  · exact va_Nw.of rfl (hts _ (tbl_at 108 rfl))
  · exact va_Nw.of rfl (hts _ (tbl_at 110 rfl))
section XL
variable {p : Program} {l : Launch} {e : Env} {R : Room} {s : State} {m : MethodId} {args : Array Value} {below : List Frame} {meth : Method} {c : Code} {H : Heap} {locs : List Loc} {cells slots : Nat} {Q : State → Prop} {pc : Nat} {ls : Array Slot} {rest : List Value}
theorem lv_eql {x y : Int64} (h : x = y) (k : W p l e R s m args below meth c H locs cells slots Q (F0 m pc ls (.long y :: rest))) : W p l e R s m args below meth c H locs cells slots Q (F0 m pc ls (.long x :: rest)) := by rw [h]; exact k
end XL
/-- the whole world of the law -/
abbrev wA (xo al : Nat) (q : Nat → Nat) (cI cZ cL : ClassId) (AL : Nat) (AF : Nat → Int32) (u : TXS) (ot : Nat) (OF : Nat → Int64) (mo r : Nat) (row : Nat → Int32) (many : Nat) (thr : Int32) : va_W := wO ot cL OF (wC xo al q cI cZ AL AF u) ++ wM mo r cI row many thr
theorem if01 {P : Prop} {dP : Decidable P} (h : (if P then (0 : Int32) else 1) = 0) : P := by
  by_cases q : P
  · exact q
  · rw [if_neg q] at h; exact absurd h (by decide)
theorem insT_len {txt : List Int32} {i v st n : Int32} (h : txt.length ≤ 20000) : (insT txt i v st n).length ≤ 20000 := by
  unfold insT
  by_cases h0 : insK txt.length i n = 0
  · rw [if_pos h0]
    have hok : okI txt.length i n := by
      by_cases q : okI txt.length i n
      · exact q
      · rw [insK_no q] at h0; exact absurd h0 (by decide)
    have hb : nI txt.length + n ≤ 20000 := by
      by_cases q : nI txt.length + n ≤ 20000
      · exact q
      · rw [insK_big hok q] at h0; exact absurd h0 (by decide)
    obtain ⟨a, c, ha, hc1, hc2, rfl, rfl⟩ := okI_nat (by omega) hok
    rw [nI_clamp (by omega), nI_clamp (by omega), insN_len ha, newV_len]
    exact (big_nat h hc2).mp hb
  · rw [if_neg h0]; exact h
theorem delT_len {txt : List Int32} {i n : Int32} (h : txt.length ≤ 20000) : (delT txt i n).length ≤ 20000 := by
  unfold delT
  by_cases h0 : okD txt.length i n
  · rw [if_pos h0]
    obtain ⟨a, c, hc1, hac, rfl, rfl⟩ := okD_nat (by omega) h0
    rw [nI_clamp (by omega), nI_clamp (by omega), delN_len hac]
    omega
  · rw [if_neg h0]; exact h
theorem grows (AL len : Nat) (h : 64 ≤ AL) (hl : len ≤ 20000) : ∃ g, g ≤ 9 ∧ len ≤ AL * 2 ^ g ∧ ∀ j, j < g → AL * 2 ^ j < len := by
  have h29 : (2 : Nat) ^ 9 = 512 := by decide
  obtain ⟨g, h1, h2⟩ := pk_least (fun g => len ≤ AL * 2 ^ g) ⟨9, show len ≤ AL * 2 ^ 9 by rw [h29]; omega⟩
  refine ⟨g, ?_, h1, fun j hj => Nat.lt_of_not_le (h2 j hj)⟩
  rcases Nat.lt_or_ge 9 g with q | q
  · have h9 := h2 9 q
    have h9' : ¬ len ≤ AL * 2 ^ 9 := h9
    rw [h29] at h9'
    exact absurd (by omega) h9'
  · exact q
end
section
set_option maxHeartbeats 4000000 in
set_option maxRecDepth 100000 in
/-- the law's loop: at its head the system and the reference hold the same text -/
theorem law_loop {p : Program} {l : Launch} {e : Env} {s : State} {m : MethodId} {below : List Frame} {meth : Method} {c : Code} {D : va_G} {cI cZ cL : ClassId} {b L : Nat} {xs : Nat → Int32} {A : Nat → Prop} (hfl : l.flags = pinnedFlags ++ [noTraceFlag]) (hL : L ≤ 2560) (C0 : lw_At p s m meth c b L xs) (hK : va_K D classes (TY cI cZ cL) s) (hAe : A = fun q => s.heap.size ≤ q) (xo ot mo r : Nat) (q : Nat → Nat) : ∀ (f i : Nat) (al AL : Nat) (AF : Nat → Int32) (u0 : TXS) (txt : List Int32) (OF : Nat → Int64) (row : Nat → Int32) (thr : Int32) (H : Heap) (locs : List Loc) (ls : Array Slot), i ≤ L + 5 → L + 6 ≤ i + f → 64 ≤ AL → AL ≤ 40000 → OKS u0 txt → MR txt row → va_P D classes (wA xo al q cI cZ cL AL AF u0 ot OF mo r row txt.length thr) H → va_D A (wA xo al q cI cZ cL AL AF u0 ot OF mo r row txt.length thr) → va_S A s.heap H locs → lv_has ls 7 [(4, .int (nI i)), (3, .ref ot), (2, .ref mo), (1, .ref xo), (0, .ref b)] → W p l e room_1 s m #[Value.ref b] below meth c H locs (12 + 4 * i) (183363 + 6 * i + 2 * AL) (lw_Z below #[Value.ref b] s) (F0 m 23 ls []) := by
  obtain ⟨hx, hb, hr, hml, hown, hts, hXs, hbl, hlocks, hgv⟩ := id C0
  have hB := bs_tbl hts
  have hX : xk s := xk_start hts hgv
  have C : Cx p s m #[Value.ref b] meth c R_law code 7 ret c.exceptionTable.toList D (TY cI cZ cL) := ⟨hx, hb, hml, hown, hB, hlocks, hr, rfl, hK, hX⟩
  have hA : Aok s A := by rw [hAe]; exact Aok_new s
  have hbA : ¬ A b := by rw [hAe]; exact Nat.not_le.mpr hbl
  intro f
  induction f with
  | zero => intro i al AL AF u0 txt OF row thr H locs ls h1 h2; exact absurd h2 (by omega)
  | succ f ih =>
    intro i al AL AF u0 txt OF row thr H locs ls h1 h2 hA64 hA40 hu hM hP hD hS hl
    have hlen := hM.1
    refine lv_iload hx hb d_LW_law_23 (lv_at hl 0 rfl) ?_
    refine lv_aload_n hx hb d_LW_law_25 rfl (lv_at hl 4 rfl) ?_
    refine va_slen hx hb hXs hbl hbA hS d_LW_law_26 ?_
    refine lv_eqi (y := nI L) rfl ?_
    refine lv_iconst (v := nI 5) hx hb d_LW_law_27 (by decide) ?_
    refine lv_isub hx hb d_LW_law_28 ?_
    refine lv_eqi (y := nI L - nI 5) (rfl) ?_
    refine lv_icmp_gt (tgt := 457) hx hb d_LW_law_29 (by decide) (fun hc => ?_) (fun hc => ?_)
    · skip
      refine lv_iconst (v := 1) hx hb d_LW_law_457 (by decide) ?_
      refine va_forget (fun q hq => by have h9 := hS.2.2 q hq; rw [hAe] at h9; exact h9) ?_
      refine W.widen (k := 601024) (n := 7293034) (by omega) (by omega) ?_
      exact lw_ret hx hb hr hlocks d_LW_law_458
    · skip
      have hi5 : i + 5 ≤ L := by
        rw [lt_toInt, pk_sub_toInt (by omega) (by omega), nI_toInt (by omega)] at hc
        omega
      have next : ∀ (al AL : Nat) (AF : Nat → Int32) (u0 : TXS) (txt : List Int32) (OF : Nat → Int64) (row : Nat → Int32) (thr : Int32) (H : Heap) (locs : List Loc) (ls : Array Slot), 64 ≤ AL → AL ≤ 40000 → OKS u0 txt → MR txt row → va_P D classes (wA xo al q cI cZ cL AL AF u0 ot OF mo r row txt.length thr) H → va_D A (wA xo al q cI cZ cL AL AF u0 ot OF mo r row txt.length thr) → va_S A s.heap H locs → lv_has ls 7 [(4, .int (nI i)), (3, .ref ot), (2, .ref mo), (1, .ref xo), (0, .ref b)] → W p l e room_1 s m #[Value.ref b] below meth c H locs (12 + 4 * (i + 5)) (183363 + 6 * (i + 5) + 2 * AL) (lw_Z below #[Value.ref b] s) (F0 m 451 ls []) := by
        intro al AL AF u0 txt OF row thr H locs ls hA64 hA40 hu hM hP hD hS hl
        refine lv_iinc (v := (nI (i + 5))) (lv' := [(4, .int (nI (i + 5))), (3, .ref ot), (2, .ref mo), (1, .ref xo), (0, .ref b)]) hx hb d_LW_law_451 hl (k := 0) rfl (ln_p5 _) (by decide) rfl (fun ls hl => ?_)
        refine lv_goto (tgt := 23) hx hb d_LW_law_454 (by decide) ?_
        exact ih (i + 5) al AL AF u0 txt OF row thr H locs ls (by omega) (by omega) hA64 hA40 hu hM hP hD hS (lv_sub hl [0, 1, 2, 3, 4] rfl)
      refine lv_aload_n hx hb d_LW_law_32 rfl (lv_at hl 4 rfl) ?_
      refine lv_iload hx hb d_LW_law_33 (lv_at hl 0 rfl) ?_
      refine va_sld hx hb hXs hbl hbA hS (vp_in_nI (by omega) (by omega)) d_LW_law_35 ?_
      refine lv_eqi (y := xs i) (by rw [nI_clamp (by omega)]) ?_
      refine lv_bipush (v := 7) hx hb d_LW_law_36 (by decide) ?_
      refine lv_iand hx hb d_LW_law_38 ?_
      obtain ⟨sw, hsw1, hsw2⟩ := pk_andE (xs i) (m := 7) 3 (by decide)
      refine lv_eqi (y := nI sw) hsw2 ?_
      rcases (show sw = 0 ∨ sw = 1 ∨ sw = 2 ∨ sw = 3 ∨ sw = 4 ∨ sw = 5 ∨ sw = 6 ∨ sw = 7 by omega) with rfl | rfl | rfl | rfl | rfl | rfl | rfl | rfl
      · skip
        refine lv_tableIn (tgt := 84) hx hb d_LW_law_39 (by decide) (by decide) rfl (by decide) ?_
        refine lv_aload_n hx hb d_LW_law_84 rfl (lv_at hl 3 rfl) ?_
        refine lv_aload_n hx hb d_LW_law_85 rfl (lv_at hl 4 rfl) ?_
        refine lv_iload hx hb d_LW_law_86 (lv_at hl 0 rfl) ?_
        refine lv_iconst (v := nI 1) hx hb d_LW_law_88 (by decide) ?_
        refine ln_iadd hx hb d_LW_law_89 ?_
        refine va_sld hx hb hXs hbl hbA hS (vp_in_nI (by omega) (by omega)) d_LW_law_90 ?_
        refine lv_eqi (y := xs (i + 1)) (by rw [nI_clamp (by omega)]) ?_
        refine lv_aload_n hx hb d_LW_law_91 rfl (lv_at hl 4 rfl) ?_
        refine lv_iload hx hb d_LW_law_92 (lv_at hl 0 rfl) ?_
        refine lv_iconst (v := nI 2) hx hb d_LW_law_94 (by decide) ?_
        refine ln_iadd hx hb d_LW_law_95 ?_
        refine va_sld hx hb hXs hbl hbA hS (vp_in_nI (by omega) (by omega)) d_LW_law_96 ?_
        refine lv_eqi (y := xs (i + 2)) (by rw [nI_clamp (by omega)]) ?_
        refine lv_aload_n hx hb d_LW_law_97 rfl (lv_at hl 4 rfl) ?_
        refine lv_iload hx hb d_LW_law_98 (lv_at hl 0 rfl) ?_
        refine lv_iconst (v := nI 3) hx hb d_LW_law_100 (by decide) ?_
        refine ln_iadd hx hb d_LW_law_101 ?_
        refine va_sld hx hb hXs hbl hbA hS (vp_in_nI (by omega) (by omega)) d_LW_law_102 ?_
        refine lv_eqi (y := xs (i + 3)) (by rw [nI_clamp (by omega)]) ?_
        refine lv_aload_n hx hb d_LW_law_103 rfl (lv_at hl 4 rfl) ?_
        refine lv_iload hx hb d_LW_law_104 (lv_at hl 0 rfl) ?_
        refine lv_iconst (v := nI 4) hx hb d_LW_law_106 (by decide) ?_
        refine ln_iadd hx hb d_LW_law_107 ?_
        refine va_sld hx hb hXs hbl hbA hS (vp_in_nI (by omega) (by omega)) d_LW_law_108 ?_
        refine lv_eqi (y := xs (i + 4)) (by rw [nI_clamp (by omega)]) ?_
        refine lv_aload_n hx hb d_LW_law_109 rfl (lv_at hl 1 rfl) ?_
        refine call_SWi (As := [.ref xo, .int (xs (i + 1)), .int (xs (i + 2)), .int (xs (i + 3)), .int (xs (i + 4)), .ref ot]) (rest := []) (wr := (wM mo r cI row txt.length thr)) C hA ks_LW_37 (c_LW_insert l hfl D cI cZ cL xo al q AL AF u0 txt hu hlen ot OF (xs (i + 1)) (xs (i + 2)) (xs (i + 3)) (xs (i + 4))) hP hD hS [0, 1, 2, 3, 4, 5, 6, 7, 8, 9] [10, 11] rfl rfl ⟨by decide, by decide⟩ (by decide) rfl hl.1 rfl (Nat.le_of_ble_eq_true rfl) ⟨by decide, by decide⟩ ⟨(show 12 + 4 * i + 1 ≤ 601024 by omega), (show 183363 + 6 * i + 2 * AL + 6 ≤ 7293034 by omega)⟩ d_LW_law_110 (fun zz uu H locs hz hP hD hS => ?_)
        obtain ⟨u1, OF1⟩ := uu
        try simp only at hz
        have hP := hP.sub (ws' := wA xo al q cI cZ cL AL AF u1 ot OF1 mo r row txt.length thr) [2, 3, 4, 5, 6, 7, 8, 9, 10, 11, 0, 1] rfl
        have hD := hD.sub (ws' := wA xo al q cI cZ cL AL AF u1 ot OF1 mo r row txt.length thr) [2, 3, 4, 5, 6, 7, 8, 9, 10, 11, 0, 1] (by decide) rfl
        refine W.widen (k := 13 + 4 * i) (n := 183369 + 6 * i + 2 * AL) (show 12 + 4 * i + 1 ≤ 13 + 4 * i by omega) (show 183363 + 6 * i + 2 * AL + 6 ≤ 183369 + 6 * i + 2 * AL by omega) ?_
        refine lv_istore (lv' := [(5, .int zz), (4, .int (nI i)), (3, .ref ot), (2, .ref mo), (1, .ref xo), (0, .ref b)]) hx hb d_LW_law_113 hl (by decide) rfl (fun ls hl => ?_)
        refine lv_aload_n hx hb d_LW_law_115 rfl (lv_at hl 3 rfl) ?_
        refine lv_aload_n hx hb d_LW_law_116 rfl (lv_at hl 5 rfl) ?_
        refine lv_iload hx hb d_LW_law_117 (lv_at hl 1 rfl) ?_
        refine lv_iconst (v := nI 1) hx hb d_LW_law_119 (by decide) ?_
        refine ln_iadd hx hb d_LW_law_120 ?_
        refine va_sld hx hb hXs hbl hbA hS (vp_in_nI (by omega) (by omega)) d_LW_law_121 ?_
        refine lv_eqi (y := xs (i + 1)) (by rw [nI_clamp (by omega)]) ?_
        refine lv_aload_n hx hb d_LW_law_122 rfl (lv_at hl 5 rfl) ?_
        refine lv_iload hx hb d_LW_law_123 (lv_at hl 1 rfl) ?_
        refine lv_iconst (v := nI 2) hx hb d_LW_law_125 (by decide) ?_
        refine ln_iadd hx hb d_LW_law_126 ?_
        refine va_sld hx hb hXs hbl hbA hS (vp_in_nI (by omega) (by omega)) d_LW_law_127 ?_
        refine lv_eqi (y := xs (i + 2)) (by rw [nI_clamp (by omega)]) ?_
        refine lv_aload_n hx hb d_LW_law_128 rfl (lv_at hl 5 rfl) ?_
        refine lv_iload hx hb d_LW_law_129 (lv_at hl 1 rfl) ?_
        refine lv_iconst (v := nI 3) hx hb d_LW_law_131 (by decide) ?_
        refine ln_iadd hx hb d_LW_law_132 ?_
        refine va_sld hx hb hXs hbl hbA hS (vp_in_nI (by omega) (by omega)) d_LW_law_133 ?_
        refine lv_eqi (y := xs (i + 3)) (by rw [nI_clamp (by omega)]) ?_
        refine lv_aload_n hx hb d_LW_law_134 rfl (lv_at hl 5 rfl) ?_
        refine lv_iload hx hb d_LW_law_135 (lv_at hl 1 rfl) ?_
        refine lv_iconst (v := nI 4) hx hb d_LW_law_137 (by decide) ?_
        refine ln_iadd hx hb d_LW_law_138 ?_
        refine va_sld hx hb hXs hbl hbA hS (vp_in_nI (by omega) (by omega)) d_LW_law_139 ?_
        refine lv_eqi (y := xs (i + 4)) (by rw [nI_clamp (by omega)]) ?_
        refine call_VWi (As := [.int (xs (i + 1)), .int (xs (i + 2)), .int (xs (i + 3)), .int (xs (i + 4))]) (rest := []) (ci := 2) (wr := (wO ot cL OF1 (wC xo al q cI cZ AL AF u1))) C hA kv_LW_42 (c_MO_insert l hfl D cI cZ cL mo r row txt thr hM (xs (i + 1)) (xs (i + 2)) (xs (i + 3)) (xs (i + 4))) hP hD hS [10, 11] [0, 1, 2, 3, 4, 5, 6, 7, 8, 9] rfl rfl ⟨by decide, by decide⟩ (by decide) 0 rfl rfl rfl rfl hl.1 rfl (Nat.le_of_ble_eq_true rfl) ⟨by decide, by decide⟩ ⟨(show 13 + 4 * i + 1 ≤ 601024 by omega), (show 183369 + 6 * i + 2 * AL + 6 ≤ 7293034 by omega)⟩ d_LW_law_140 (fun bb vv H locs hv hP hD hS => ?_)
        obtain ⟨row1, many1, thr1⟩ := vv
        try simp only at hv
        obtain ⟨hv1, hv2, hv3, hv4⟩ := hv
        subst hv1
        have hP : va_P D classes (wA xo al q cI cZ cL AL AF u1 ot OF1 mo r row1 ((insT txt (xs (i + 1)) (xs (i + 2)) (xs (i + 3)) (xs (i + 4))).length) thr1) H := hP
        have hD : va_D A (wA xo al q cI cZ cL AL AF u1 ot OF1 mo r row1 ((insT txt (xs (i + 1)) (xs (i + 2)) (xs (i + 3)) (xs (i + 4))).length) thr1) := hD
        refine W.widen (k := 14 + 4 * i) (n := 183375 + 6 * i + 2 * AL) (show 13 + 4 * i + 1 ≤ 14 + 4 * i by omega) (show 183369 + 6 * i + 2 * AL + 6 ≤ 183375 + 6 * i + 2 * AL by omega) ?_
        refine lv_istore (lv' := [(6, .int bb), (5, .int zz), (4, .int (nI i)), (3, .ref ot), (2, .ref mo), (1, .ref xo), (0, .ref b)]) hx hb d_LW_law_143 hl (by decide) rfl (fun ls hl => ?_)
        refine lv_aload_n hx hb d_LW_law_145 rfl (lv_at hl 4 rfl) ?_
        refine call_Ri (As := []) (rest := []) (ci := 2) C hA kv_LW_43 (c_MO_thrown l D cI cZ cL mo r row1 (insT txt (xs (i + 1)) (xs (i + 2)) (xs (i + 3)) (xs (i + 4))) thr1) (hP.sub (ws' := wM mo r cI row1 (insT txt (xs (i + 1)) (xs (i + 2)) (xs (i + 3)) (xs (i + 4))).length thr1) [10, 11] rfl) hS 0 rfl rfl rfl rfl hl.1 rfl (Nat.le_of_ble_eq_true rfl) ⟨by decide, by decide⟩ ⟨rfl, rfl⟩ ⟨(show 14 + 4 * i ≤ 601024 by omega), (show 183375 + 6 * i + 2 * AL ≤ 7293034 by omega)⟩ d_LW_law_146 (fun rr hrr => ?_)
        have hrr := hrr.symm
        subst hrr
        refine lv_iload hx hb d_LW_law_149 (lv_at hl 1 rfl) ?_
        refine lv_icmp_eq (tgt := 156) hx hb d_LW_law_151 (by decide) (fun hc2 => ?_) (fun hc2 => ?_)
        · skip
          refine lv_iload hx hb d_LW_law_156 (lv_at hl 1 rfl) ?_
          refine lv_if_ne (tgt := 173) hx hb d_LW_law_158 (by decide) (fun hc3 => ?_) (fun hc3 => ?_)
          · skip
            refine lv_goto (tgt := 451) hx hb d_LW_law_173 (by decide) ?_
            refine W.widen (k := 12 + 4 * (i + 5)) (n := 183363 + 6 * (i + 5) + 2 * AL) (by omega) (by omega) ?_
            exact next al AL AF u1 (insT txt (xs (i + 1)) (xs (i + 2)) (xs (i + 3)) (xs (i + 4))) OF1 row1 thr1 H locs ls hA64 hA40 (hz.2.1) (hv3) hP hD hS (lv_sub hl [2, 3, 4, 5, 6] rfl)
          · skip
            refine lv_aload_n hx hb d_LW_law_161 rfl (lv_at hl 3 rfl) ?_
            refine lv_iconst (v := nI 0) hx hb d_LW_law_162 (by decide) ?_
            refine va_lald hx hb hK hP 0 2 rfl rfl (vp_in_nI (by omega) (by omega)) d_LW_law_163 ?_
            refine lv_eql (y := OF1 0) (by rw [nI_clamp (by omega)]) ?_
            refine lv_iload hx hb d_LW_law_164 (lv_at hl 0 rfl) ?_
            refine lv_i2l hx hb d_LW_law_166 rfl ?_
            refine W.lcmp hx hb d_LW_law_167 ?_
            have heq : OF1 0 = bb.toInt64 := by
              have hk : insK txt.length (xs (i + 1)) (xs (i + 4)) = 0 := by rw [← hz.1]; exact hc3
              rw [hz.2.2 hk, hv4 hk]
            refine lv_if_eq (tgt := 173) hx hb d_LW_law_168 (by decide) (fun hc4 => ?_) (fun hc4 => ?_)
            · skip
              refine lv_goto (tgt := 451) hx hb d_LW_law_173 (by decide) ?_
              refine W.widen (k := 12 + 4 * (i + 5)) (n := 183363 + 6 * (i + 5) + 2 * AL) (by omega) (by omega) ?_
              exact next al AL AF u1 (insT txt (xs (i + 1)) (xs (i + 2)) (xs (i + 3)) (xs (i + 4))) OF1 row1 thr1 H locs ls hA64 hA40 (hz.2.1) (hv3) hP hD hS (lv_sub hl [2, 3, 4, 5, 6] rfl)
            · skip
              exact absurd ((lg_cmp_eq _ _).mpr heq) hc4
        · skip
          exact absurd (by rw [hv2, hz.1]) hc2
      · skip
        refine lv_tableIn (tgt := 176) hx hb d_LW_law_39 (by decide) (by decide) rfl (by decide) ?_
        refine lv_aload_n hx hb d_LW_law_176 rfl (lv_at hl 3 rfl) ?_
        refine lv_aload_n hx hb d_LW_law_177 rfl (lv_at hl 4 rfl) ?_
        refine lv_iload hx hb d_LW_law_178 (lv_at hl 0 rfl) ?_
        refine lv_iconst (v := nI 1) hx hb d_LW_law_180 (by decide) ?_
        refine ln_iadd hx hb d_LW_law_181 ?_
        refine va_sld hx hb hXs hbl hbA hS (vp_in_nI (by omega) (by omega)) d_LW_law_182 ?_
        refine lv_eqi (y := xs (i + 1)) (by rw [nI_clamp (by omega)]) ?_
        refine lv_aload_n hx hb d_LW_law_183 rfl (lv_at hl 4 rfl) ?_
        refine lv_iload hx hb d_LW_law_184 (lv_at hl 0 rfl) ?_
        refine lv_iconst (v := nI 2) hx hb d_LW_law_186 (by decide) ?_
        refine ln_iadd hx hb d_LW_law_187 ?_
        refine va_sld hx hb hXs hbl hbA hS (vp_in_nI (by omega) (by omega)) d_LW_law_188 ?_
        refine lv_eqi (y := xs (i + 2)) (by rw [nI_clamp (by omega)]) ?_
        refine lv_aload_n hx hb d_LW_law_189 rfl (lv_at hl 1 rfl) ?_
        refine call_SWi (As := [.ref xo, .int (xs (i + 1)), .int (xs (i + 2)), .ref ot]) (rest := []) (wr := (wM mo r cI row txt.length thr)) C hA ks_LW_47 (c_LW_delete l hfl D cI cZ cL xo al q AL AF u0 txt hu hlen ot OF (xs (i + 1)) (xs (i + 2))) hP hD hS [0, 1, 2, 3, 4, 5, 6, 7, 8, 9] [10, 11] rfl rfl ⟨by decide, by decide⟩ (by decide) rfl hl.1 rfl (Nat.le_of_ble_eq_true rfl) ⟨by decide, by decide⟩ ⟨(show 12 + 4 * i + 1 ≤ 601024 by omega), (show 183363 + 6 * i + 2 * AL + 6 ≤ 7293034 by omega)⟩ d_LW_law_190 (fun zz uu H locs hz hP hD hS => ?_)
        obtain ⟨u1, OF1⟩ := uu
        try simp only at hz
        have hP := hP.sub (ws' := wA xo al q cI cZ cL AL AF u1 ot OF1 mo r row txt.length thr) [2, 3, 4, 5, 6, 7, 8, 9, 10, 11, 0, 1] rfl
        have hD := hD.sub (ws' := wA xo al q cI cZ cL AL AF u1 ot OF1 mo r row txt.length thr) [2, 3, 4, 5, 6, 7, 8, 9, 10, 11, 0, 1] (by decide) rfl
        refine W.widen (k := 13 + 4 * i) (n := 183369 + 6 * i + 2 * AL) (show 12 + 4 * i + 1 ≤ 13 + 4 * i by omega) (show 183363 + 6 * i + 2 * AL + 6 ≤ 183369 + 6 * i + 2 * AL by omega) ?_
        refine lv_istore (lv' := [(5, .int zz), (4, .int (nI i)), (3, .ref ot), (2, .ref mo), (1, .ref xo), (0, .ref b)]) hx hb d_LW_law_193 hl (by decide) rfl (fun ls hl => ?_)
        refine lv_aload_n hx hb d_LW_law_195 rfl (lv_at hl 3 rfl) ?_
        refine lv_aload_n hx hb d_LW_law_196 rfl (lv_at hl 5 rfl) ?_
        refine lv_iload hx hb d_LW_law_197 (lv_at hl 1 rfl) ?_
        refine lv_iconst (v := nI 1) hx hb d_LW_law_199 (by decide) ?_
        refine ln_iadd hx hb d_LW_law_200 ?_
        refine va_sld hx hb hXs hbl hbA hS (vp_in_nI (by omega) (by omega)) d_LW_law_201 ?_
        refine lv_eqi (y := xs (i + 1)) (by rw [nI_clamp (by omega)]) ?_
        refine lv_aload_n hx hb d_LW_law_202 rfl (lv_at hl 5 rfl) ?_
        refine lv_iload hx hb d_LW_law_203 (lv_at hl 1 rfl) ?_
        refine lv_iconst (v := nI 2) hx hb d_LW_law_205 (by decide) ?_
        refine ln_iadd hx hb d_LW_law_206 ?_
        refine va_sld hx hb hXs hbl hbA hS (vp_in_nI (by omega) (by omega)) d_LW_law_207 ?_
        refine lv_eqi (y := xs (i + 2)) (by rw [nI_clamp (by omega)]) ?_
        refine call_VWi (As := [.int (xs (i + 1)), .int (xs (i + 2))]) (rest := []) (ci := 2) (wr := (wO ot cL OF1 (wC xo al q cI cZ AL AF u1))) C hA kv_LW_50 (c_MO_delete l hfl D cI cZ cL mo r row txt thr hM (xs (i + 1)) (xs (i + 2))) hP hD hS [10, 11] [0, 1, 2, 3, 4, 5, 6, 7, 8, 9] rfl rfl ⟨by decide, by decide⟩ (by decide) 0 rfl rfl rfl rfl hl.1 rfl (Nat.le_of_ble_eq_true rfl) ⟨by decide, by decide⟩ ⟨(show 13 + 4 * i + 1 ≤ 601024 by omega), (show 183369 + 6 * i + 2 * AL + 6 ≤ 7293034 by omega)⟩ d_LW_law_208 (fun bb vv H locs hv hP hD hS => ?_)
        obtain ⟨row1, many1, thr1⟩ := vv
        try simp only at hv
        obtain ⟨hv1, hv2, hv3, hv4⟩ := hv
        subst hv1
        have hP : va_P D classes (wA xo al q cI cZ cL AL AF u1 ot OF1 mo r row1 ((delT txt (xs (i + 1)) (xs (i + 2))).length) thr1) H := hP
        have hD : va_D A (wA xo al q cI cZ cL AL AF u1 ot OF1 mo r row1 ((delT txt (xs (i + 1)) (xs (i + 2))).length) thr1) := hD
        refine W.widen (k := 14 + 4 * i) (n := 183375 + 6 * i + 2 * AL) (show 13 + 4 * i + 1 ≤ 14 + 4 * i by omega) (show 183369 + 6 * i + 2 * AL + 6 ≤ 183375 + 6 * i + 2 * AL by omega) ?_
        refine lv_istore (lv' := [(6, .int bb), (5, .int zz), (4, .int (nI i)), (3, .ref ot), (2, .ref mo), (1, .ref xo), (0, .ref b)]) hx hb d_LW_law_211 hl (by decide) rfl (fun ls hl => ?_)
        refine lv_aload_n hx hb d_LW_law_213 rfl (lv_at hl 4 rfl) ?_
        refine call_Ri (As := []) (rest := []) (ci := 2) C hA kv_LW_43 (c_MO_thrown l D cI cZ cL mo r row1 (delT txt (xs (i + 1)) (xs (i + 2))) thr1) (hP.sub (ws' := wM mo r cI row1 (delT txt (xs (i + 1)) (xs (i + 2))).length thr1) [10, 11] rfl) hS 0 rfl rfl rfl rfl hl.1 rfl (Nat.le_of_ble_eq_true rfl) ⟨by decide, by decide⟩ ⟨rfl, rfl⟩ ⟨(show 14 + 4 * i ≤ 601024 by omega), (show 183375 + 6 * i + 2 * AL ≤ 7293034 by omega)⟩ d_LW_law_214 (fun rr hrr => ?_)
        have hrr := hrr.symm
        subst hrr
        refine lv_iload hx hb d_LW_law_217 (lv_at hl 1 rfl) ?_
        refine lv_icmp_eq (tgt := 224) hx hb d_LW_law_219 (by decide) (fun hc2 => ?_) (fun hc2 => ?_)
        · skip
          refine lv_iload hx hb d_LW_law_224 (lv_at hl 1 rfl) ?_
          refine lv_if_ne (tgt := 241) hx hb d_LW_law_226 (by decide) (fun hc3 => ?_) (fun hc3 => ?_)
          · skip
            refine lv_goto (tgt := 451) hx hb d_LW_law_241 (by decide) ?_
            refine W.widen (k := 12 + 4 * (i + 5)) (n := 183363 + 6 * (i + 5) + 2 * AL) (by omega) (by omega) ?_
            exact next al AL AF u1 (delT txt (xs (i + 1)) (xs (i + 2))) OF1 row1 thr1 H locs ls hA64 hA40 (hz.2.1) (hv3) hP hD hS (lv_sub hl [2, 3, 4, 5, 6] rfl)
          · skip
            refine lv_aload_n hx hb d_LW_law_229 rfl (lv_at hl 3 rfl) ?_
            refine lv_iconst (v := nI 0) hx hb d_LW_law_230 (by decide) ?_
            refine va_lald hx hb hK hP 0 2 rfl rfl (vp_in_nI (by omega) (by omega)) d_LW_law_231 ?_
            refine lv_eql (y := OF1 0) (by rw [nI_clamp (by omega)]) ?_
            refine lv_iload hx hb d_LW_law_232 (lv_at hl 0 rfl) ?_
            refine lv_i2l hx hb d_LW_law_234 rfl ?_
            refine W.lcmp hx hb d_LW_law_235 ?_
            have heq : OF1 0 = bb.toInt64 := by
              have hk : delK txt.length (xs (i + 1)) (xs (i + 2)) = 0 := by rw [← hz.1]; exact hc3
              rw [hz.2.2 hk, hv4 hk]
            refine lv_if_eq (tgt := 241) hx hb d_LW_law_236 (by decide) (fun hc4 => ?_) (fun hc4 => ?_)
            · skip
              refine lv_goto (tgt := 451) hx hb d_LW_law_241 (by decide) ?_
              refine W.widen (k := 12 + 4 * (i + 5)) (n := 183363 + 6 * (i + 5) + 2 * AL) (by omega) (by omega) ?_
              exact next al AL AF u1 (delT txt (xs (i + 1)) (xs (i + 2))) OF1 row1 thr1 H locs ls hA64 hA40 (hz.2.1) (hv3) hP hD hS (lv_sub hl [2, 3, 4, 5, 6] rfl)
            · skip
              exact absurd ((lg_cmp_eq _ _).mpr heq) hc4
        · skip
          exact absurd (by rw [hv2, hz.1]) hc2
      · skip
        refine lv_tableIn (tgt := 244) hx hb d_LW_law_39 (by decide) (by decide) rfl (by decide) ?_
        refine lv_aload_n hx hb d_LW_law_244 rfl (lv_at hl 3 rfl) ?_
        refine lv_aload_n hx hb d_LW_law_245 rfl (lv_at hl 4 rfl) ?_
        refine lv_iload hx hb d_LW_law_246 (lv_at hl 0 rfl) ?_
        refine lv_iconst (v := nI 1) hx hb d_LW_law_248 (by decide) ?_
        refine ln_iadd hx hb d_LW_law_249 ?_
        refine va_sld hx hb hXs hbl hbA hS (vp_in_nI (by omega) (by omega)) d_LW_law_250 ?_
        refine lv_eqi (y := xs (i + 1)) (by rw [nI_clamp (by omega)]) ?_
        refine lv_aload_n hx hb d_LW_law_251 rfl (lv_at hl 1 rfl) ?_
        refine call_SWi (As := [.ref xo, .int (xs (i + 1)), .ref ot]) (rest := []) (wr := (wM mo r cI row txt.length thr)) C hA ks_LW_51 (c_LW_get l hfl D cI cZ cL xo al q AL AF u0 txt hu hlen ot OF (xs (i + 1))) hP hD hS [0, 1, 2, 3, 4, 5, 6, 7, 8, 9] [10, 11] rfl rfl ⟨by decide, by decide⟩ (by decide) rfl hl.1 rfl (Nat.le_of_ble_eq_true rfl) ⟨by decide, by decide⟩ ⟨(show 12 + 4 * i + 1 ≤ 601024 by omega), (show 183363 + 6 * i + 2 * AL + 6 ≤ 7293034 by omega)⟩ d_LW_law_252 (fun zz uu H locs hz hP hD hS => ?_)
        obtain ⟨u1, OF1⟩ := uu
        try simp only at hz
        have hP := hP.sub (ws' := wA xo al q cI cZ cL AL AF u1 ot OF1 mo r row txt.length thr) [2, 3, 4, 5, 6, 7, 8, 9, 10, 11, 0, 1] rfl
        have hD := hD.sub (ws' := wA xo al q cI cZ cL AL AF u1 ot OF1 mo r row txt.length thr) [2, 3, 4, 5, 6, 7, 8, 9, 10, 11, 0, 1] (by decide) rfl
        refine W.widen (k := 13 + 4 * i) (n := 183369 + 6 * i + 2 * AL) (show 12 + 4 * i + 1 ≤ 13 + 4 * i by omega) (show 183363 + 6 * i + 2 * AL + 6 ≤ 183369 + 6 * i + 2 * AL by omega) ?_
        refine lv_istore (lv' := [(5, .int zz), (4, .int (nI i)), (3, .ref ot), (2, .ref mo), (1, .ref xo), (0, .ref b)]) hx hb d_LW_law_255 hl (by decide) rfl (fun ls hl => ?_)
        refine lv_aload_n hx hb d_LW_law_257 rfl (lv_at hl 3 rfl) ?_
        refine lv_aload_n hx hb d_LW_law_258 rfl (lv_at hl 5 rfl) ?_
        refine lv_iload hx hb d_LW_law_259 (lv_at hl 1 rfl) ?_
        refine lv_iconst (v := nI 1) hx hb d_LW_law_261 (by decide) ?_
        refine ln_iadd hx hb d_LW_law_262 ?_
        refine va_sld hx hb hXs hbl hbA hS (vp_in_nI (by omega) (by omega)) d_LW_law_263 ?_
        refine lv_eqi (y := xs (i + 1)) (by rw [nI_clamp (by omega)]) ?_
        refine call_VWi (As := [.int (xs (i + 1))]) (rest := []) (ci := 2) (wr := (wO ot cL OF1 (wC xo al q cI cZ AL AF u1))) C hA kv_LW_54 (c_MO_get l hfl D cI cZ cL mo r row txt thr hM (xs (i + 1))) hP hD hS [10, 11] [0, 1, 2, 3, 4, 5, 6, 7, 8, 9] rfl rfl ⟨by decide, by decide⟩ (by decide) 0 rfl rfl rfl rfl hl.1 rfl (Nat.le_of_ble_eq_true rfl) ⟨by decide, by decide⟩ ⟨(show 13 + 4 * i + 1 ≤ 601024 by omega), (show 183369 + 6 * i + 2 * AL + 6 ≤ 7293034 by omega)⟩ d_LW_law_264 (fun bb vv H locs hv hP hD hS => ?_)
        obtain ⟨thr1, hthr1⟩ : ∃ z, z = vv := ⟨_, rfl⟩
        subst hthr1
        try simp only at hv
        obtain ⟨hv2, hv4⟩ := hv
        have hP : va_P D classes (wA xo al q cI cZ cL AL AF u1 ot OF1 mo r row txt.length thr1) H := hP
        have hD : va_D A (wA xo al q cI cZ cL AL AF u1 ot OF1 mo r row txt.length thr1) := hD
        refine W.widen (k := 14 + 4 * i) (n := 183375 + 6 * i + 2 * AL) (show 13 + 4 * i + 1 ≤ 14 + 4 * i by omega) (show 183369 + 6 * i + 2 * AL + 6 ≤ 183375 + 6 * i + 2 * AL by omega) ?_
        refine lv_istore (lv' := [(6, .int bb), (5, .int zz), (4, .int (nI i)), (3, .ref ot), (2, .ref mo), (1, .ref xo), (0, .ref b)]) hx hb d_LW_law_267 hl (by decide) rfl (fun ls hl => ?_)
        refine lv_aload_n hx hb d_LW_law_269 rfl (lv_at hl 4 rfl) ?_
        refine call_Ri (As := []) (rest := []) (ci := 2) C hA kv_LW_43 (c_MO_thrown l D cI cZ cL mo r row txt thr1) (hP.sub (ws' := wM mo r cI row txt.length thr1) [10, 11] rfl) hS 0 rfl rfl rfl rfl hl.1 rfl (Nat.le_of_ble_eq_true rfl) ⟨by decide, by decide⟩ ⟨rfl, rfl⟩ ⟨(show 14 + 4 * i ≤ 601024 by omega), (show 183375 + 6 * i + 2 * AL ≤ 7293034 by omega)⟩ d_LW_law_270 (fun rr hrr => ?_)
        have hrr := hrr.symm
        subst hrr
        refine lv_iload hx hb d_LW_law_273 (lv_at hl 1 rfl) ?_
        refine lv_icmp_eq (tgt := 280) hx hb d_LW_law_275 (by decide) (fun hc2 => ?_) (fun hc2 => ?_)
        · skip
          refine lv_iload hx hb d_LW_law_280 (lv_at hl 1 rfl) ?_
          refine lv_if_ne (tgt := 297) hx hb d_LW_law_282 (by decide) (fun hc3 => ?_) (fun hc3 => ?_)
          · skip
            refine lv_goto (tgt := 451) hx hb d_LW_law_297 (by decide) ?_
            refine W.widen (k := 12 + 4 * (i + 5)) (n := 183363 + 6 * (i + 5) + 2 * AL) (by omega) (by omega) ?_
            exact next al AL AF u1 txt OF1 row thr1 H locs ls hA64 hA40 (hz.2.1) (hM) hP hD hS (lv_sub hl [2, 3, 4, 5, 6] rfl)
          · skip
            refine lv_aload_n hx hb d_LW_law_285 rfl (lv_at hl 3 rfl) ?_
            refine lv_iconst (v := nI 0) hx hb d_LW_law_286 (by decide) ?_
            refine va_lald hx hb hK hP 0 2 rfl rfl (vp_in_nI (by omega) (by omega)) d_LW_law_287 ?_
            refine lv_eql (y := OF1 0) (by rw [nI_clamp (by omega)]) ?_
            refine lv_iload hx hb d_LW_law_288 (lv_at hl 0 rfl) ?_
            refine lv_i2l hx hb d_LW_law_290 rfl ?_
            refine W.lcmp hx hb d_LW_law_291 ?_
            have heq : OF1 0 = bb.toInt64 := by
              have hk := if01 (hz.1.symm.trans hc3)
              rw [hz.2.2 hk, hv4 hk]
            refine lv_if_eq (tgt := 297) hx hb d_LW_law_292 (by decide) (fun hc4 => ?_) (fun hc4 => ?_)
            · skip
              refine lv_goto (tgt := 451) hx hb d_LW_law_297 (by decide) ?_
              refine W.widen (k := 12 + 4 * (i + 5)) (n := 183363 + 6 * (i + 5) + 2 * AL) (by omega) (by omega) ?_
              exact next al AL AF u1 txt OF1 row thr1 H locs ls hA64 hA40 (hz.2.1) (hM) hP hD hS (lv_sub hl [2, 3, 4, 5, 6] rfl)
            · skip
              exact absurd ((lg_cmp_eq _ _).mpr heq) hc4
        · skip
          exact absurd (by rw [hv2, hz.1]) hc2
      · skip
        refine lv_tableIn (tgt := 300) hx hb d_LW_law_39 (by decide) (by decide) rfl (by decide) ?_
        refine lv_aload_n hx hb d_LW_law_300 rfl (lv_at hl 3 rfl) ?_
        refine call_Ri (As := []) (rest := []) (ci := 1) C hA kv_LW_55 (c_LC_length l D cI cZ cL xo al q AL AF u0 txt hu) (hP.sub (ws' := wC xo al q cI cZ AL AF u0) [1, 2, 3, 4, 5, 6, 7, 8, 9] rfl) hS 0 rfl rfl rfl rfl hl.1 rfl (Nat.le_of_ble_eq_true rfl) ⟨by decide, by decide⟩ ⟨rfl, rfl⟩ ⟨(show 12 + 4 * i ≤ 601024 by omega), (show 183363 + 6 * i + 2 * AL ≤ 7293034 by omega)⟩ d_LW_law_301 (fun rr hrr => ?_)
        obtain ⟨zz, hzz⟩ : ∃ z, z = rr := ⟨_, rfl⟩
        subst hzz
        refine lv_aload_n hx hb d_LW_law_304 rfl (lv_at hl 2 rfl) ?_
        refine call_Vi (As := []) (rest := [.int zz]) (ci := 2) (wr := (wO ot cL OF (wC xo al q cI cZ AL AF u0))) C hA kv_LW_58 (c_MO_length l D cI cZ cL mo r row txt thr hM) hP hD hS [10, 11] [0, 1, 2, 3, 4, 5, 6, 7, 8, 9] rfl rfl ⟨by decide, by decide⟩ (by decide) 0 rfl rfl rfl rfl hl.1 rfl (Nat.le_of_ble_eq_true rfl) ⟨by decide, by decide⟩ ⟨(show 12 + 4 * i + 0 ≤ 601024 by omega), (show 183363 + 6 * i + 2 * AL + 0 ≤ 7293034 by omega)⟩ d_LW_law_305 (fun bb thr1 H locs hv hP hD hS => ?_)
        have hP : va_P D classes (wA xo al q cI cZ cL AL AF u0 ot OF mo r row txt.length thr1) H := hP
        have hD : va_D A (wA xo al q cI cZ cL AL AF u0 ot OF mo r row txt.length thr1) := hD
        refine W.widen (k := 12 + 4 * (i + 5)) (n := 183363 + 6 * (i + 5) + 2 * AL) (show 12 + 4 * i + 0 ≤ 12 + 4 * (i + 5) by omega) (show 183363 + 6 * i + 2 * AL + 0 ≤ 183363 + 6 * (i + 5) + 2 * AL by omega) ?_
        refine lv_icmp_eq (tgt := 451) hx hb d_LW_law_308 (by decide) (fun hc2 => ?_) (fun hc2 => ?_)
        · skip
          exact next al AL AF u0 txt OF row thr1 H locs ls hA64 hA40 hu hM hP hD hS (lv_sub hl [0, 1, 2, 3, 4] rfl)
        · skip
          exact absurd (by rw [hrr, hv]) hc2
      · skip
        refine lv_tableIn (tgt := 313) hx hb d_LW_law_39 (by decide) (by decide) rfl (by decide) ?_
        refine lv_aload_n hx hb d_LW_law_313 rfl (lv_at hl 3 rfl) ?_
        refine call_Ri (As := []) (rest := []) (ci := 1) C hA kv_LW_59 (c_LC_lines l D cI cZ cL xo al q AL AF u0 txt hu) (hP.sub (ws' := wC xo al q cI cZ AL AF u0) [1, 2, 3, 4, 5, 6, 7, 8, 9] rfl) hS 0 rfl rfl rfl rfl hl.1 rfl (Nat.le_of_ble_eq_true rfl) ⟨by decide, by decide⟩ ⟨rfl, rfl⟩ ⟨(show 12 + 4 * i ≤ 601024 by omega), (show 183363 + 6 * i + 2 * AL ≤ 7293034 by omega)⟩ d_LW_law_314 (fun rr hrr => ?_)
        obtain ⟨zz, hzz⟩ : ∃ z, z = rr := ⟨_, rfl⟩
        subst hzz
        refine lv_aload_n hx hb d_LW_law_317 rfl (lv_at hl 2 rfl) ?_
        refine call_Vi (As := []) (rest := [.int zz]) (ci := 2) (wr := (wO ot cL OF (wC xo al q cI cZ AL AF u0))) C hA kv_LW_62 (c_MO_lines l D cI cZ cL mo r row txt thr hM) hP hD hS [10, 11] [0, 1, 2, 3, 4, 5, 6, 7, 8, 9] rfl rfl ⟨by decide, by decide⟩ (by decide) 0 rfl rfl rfl rfl hl.1 rfl (Nat.le_of_ble_eq_true rfl) ⟨by decide, by decide⟩ ⟨(show 12 + 4 * i + 0 ≤ 601024 by omega), (show 183363 + 6 * i + 2 * AL + 0 ≤ 7293034 by omega)⟩ d_LW_law_318 (fun bb thr1 H locs hv hP hD hS => ?_)
        have hP : va_P D classes (wA xo al q cI cZ cL AL AF u0 ot OF mo r row txt.length thr1) H := hP
        have hD : va_D A (wA xo al q cI cZ cL AL AF u0 ot OF mo r row txt.length thr1) := hD
        refine W.widen (k := 12 + 4 * (i + 5)) (n := 183363 + 6 * (i + 5) + 2 * AL) (show 12 + 4 * i + 0 ≤ 12 + 4 * (i + 5) by omega) (show 183363 + 6 * i + 2 * AL + 0 ≤ 183363 + 6 * (i + 5) + 2 * AL by omega) ?_
        refine lv_icmp_eq (tgt := 451) hx hb d_LW_law_321 (by decide) (fun hc2 => ?_) (fun hc2 => ?_)
        · skip
          exact next al AL AF u0 txt OF row thr1 H locs ls hA64 hA40 hu hM hP hD hS (lv_sub hl [0, 1, 2, 3, 4] rfl)
        · skip
          exact absurd (by rw [hrr, hv]) hc2
      · skip
        refine lv_tableIn (tgt := 326) hx hb d_LW_law_39 (by decide) (by decide) rfl (by decide) ?_
        refine lv_aload_n hx hb d_LW_law_326 rfl (lv_at hl 3 rfl) ?_
        refine lv_aload_n hx hb d_LW_law_327 rfl (lv_at hl 4 rfl) ?_
        refine lv_iload hx hb d_LW_law_328 (lv_at hl 0 rfl) ?_
        refine lv_iconst (v := nI 1) hx hb d_LW_law_330 (by decide) ?_
        refine ln_iadd hx hb d_LW_law_331 ?_
        refine va_sld hx hb hXs hbl hbA hS (vp_in_nI (by omega) (by omega)) d_LW_law_332 ?_
        refine lv_eqi (y := xs (i + 1)) (by rw [nI_clamp (by omega)]) ?_
        refine lv_aload_n hx hb d_LW_law_333 rfl (lv_at hl 1 rfl) ?_
        refine call_SWi (As := [.ref xo, .int (xs (i + 1)), .ref ot]) (rest := []) (wr := (wM mo r cI row txt.length thr)) C hA ks_LW_63 (c_LW_line l hfl D cI cZ cL xo al q AL AF u0 txt hu hlen ot OF (xs (i + 1))) hP hD hS [0, 1, 2, 3, 4, 5, 6, 7, 8, 9] [10, 11] rfl rfl ⟨by decide, by decide⟩ (by decide) rfl hl.1 rfl (Nat.le_of_ble_eq_true rfl) ⟨by decide, by decide⟩ ⟨(show 12 + 4 * i + 1 ≤ 601024 by omega), (show 183363 + 6 * i + 2 * AL + 6 ≤ 7293034 by omega)⟩ d_LW_law_334 (fun zz uu H locs hz hP hD hS => ?_)
        obtain ⟨OF1, hOF1⟩ : ∃ z, z = uu := ⟨_, rfl⟩
        subst hOF1
        try simp only at hz
        have hP := hP.sub (ws' := wA xo al q cI cZ cL AL AF u0 ot OF1 mo r row txt.length thr) [2, 3, 4, 5, 6, 7, 8, 9, 10, 11, 0, 1] rfl
        have hD := hD.sub (ws' := wA xo al q cI cZ cL AL AF u0 ot OF1 mo r row txt.length thr) [2, 3, 4, 5, 6, 7, 8, 9, 10, 11, 0, 1] (by decide) rfl
        refine W.widen (k := 13 + 4 * i) (n := 183369 + 6 * i + 2 * AL) (show 12 + 4 * i + 1 ≤ 13 + 4 * i by omega) (show 183363 + 6 * i + 2 * AL + 6 ≤ 183369 + 6 * i + 2 * AL by omega) ?_
        refine lv_istore (lv' := [(5, .int zz), (4, .int (nI i)), (3, .ref ot), (2, .ref mo), (1, .ref xo), (0, .ref b)]) hx hb d_LW_law_337 hl (by decide) rfl (fun ls hl => ?_)
        refine lv_aload_n hx hb d_LW_law_339 rfl (lv_at hl 3 rfl) ?_
        refine lv_aload_n hx hb d_LW_law_340 rfl (lv_at hl 5 rfl) ?_
        refine lv_iload hx hb d_LW_law_341 (lv_at hl 1 rfl) ?_
        refine lv_iconst (v := nI 1) hx hb d_LW_law_343 (by decide) ?_
        refine ln_iadd hx hb d_LW_law_344 ?_
        refine va_sld hx hb hXs hbl hbA hS (vp_in_nI (by omega) (by omega)) d_LW_law_345 ?_
        refine lv_eqi (y := xs (i + 1)) (by rw [nI_clamp (by omega)]) ?_
        refine call_VWi (As := [.int (xs (i + 1))]) (rest := []) (ci := 2) (wr := (wO ot cL OF1 (wC xo al q cI cZ AL AF u0))) C hA kv_LW_65 (c_MO_line l hfl D cI cZ cL mo r row txt thr hM (xs (i + 1))) hP hD hS [10, 11] [0, 1, 2, 3, 4, 5, 6, 7, 8, 9] rfl rfl ⟨by decide, by decide⟩ (by decide) 0 rfl rfl rfl rfl hl.1 rfl (Nat.le_of_ble_eq_true rfl) ⟨by decide, by decide⟩ ⟨(show 13 + 4 * i + 1 ≤ 601024 by omega), (show 183369 + 6 * i + 2 * AL + 6 ≤ 7293034 by omega)⟩ d_LW_law_346 (fun bb vv H locs hv hP hD hS => ?_)
        obtain ⟨thr1, hthr1⟩ : ∃ z, z = vv := ⟨_, rfl⟩
        subst hthr1
        try simp only at hv
        obtain ⟨hv2, hv4⟩ := hv
        have hP : va_P D classes (wA xo al q cI cZ cL AL AF u0 ot OF1 mo r row txt.length thr1) H := hP
        have hD : va_D A (wA xo al q cI cZ cL AL AF u0 ot OF1 mo r row txt.length thr1) := hD
        refine W.widen (k := 14 + 4 * i) (n := 183375 + 6 * i + 2 * AL) (show 13 + 4 * i + 1 ≤ 14 + 4 * i by omega) (show 183369 + 6 * i + 2 * AL + 6 ≤ 183375 + 6 * i + 2 * AL by omega) ?_
        refine lv_istore (lv' := [(6, .int bb), (5, .int zz), (4, .int (nI i)), (3, .ref ot), (2, .ref mo), (1, .ref xo), (0, .ref b)]) hx hb d_LW_law_349 hl (by decide) rfl (fun ls hl => ?_)
        refine lv_aload_n hx hb d_LW_law_351 rfl (lv_at hl 4 rfl) ?_
        refine call_Ri (As := []) (rest := []) (ci := 2) C hA kv_LW_43 (c_MO_thrown l D cI cZ cL mo r row txt thr1) (hP.sub (ws' := wM mo r cI row txt.length thr1) [10, 11] rfl) hS 0 rfl rfl rfl rfl hl.1 rfl (Nat.le_of_ble_eq_true rfl) ⟨by decide, by decide⟩ ⟨rfl, rfl⟩ ⟨(show 14 + 4 * i ≤ 601024 by omega), (show 183375 + 6 * i + 2 * AL ≤ 7293034 by omega)⟩ d_LW_law_352 (fun rr hrr => ?_)
        have hrr := hrr.symm
        subst hrr
        refine lv_iload hx hb d_LW_law_355 (lv_at hl 1 rfl) ?_
        refine lv_icmp_eq (tgt := 362) hx hb d_LW_law_357 (by decide) (fun hc2 => ?_) (fun hc2 => ?_)
        · skip
          refine lv_iload hx hb d_LW_law_362 (lv_at hl 1 rfl) ?_
          refine lv_if_ne (tgt := 379) hx hb d_LW_law_364 (by decide) (fun hc3 => ?_) (fun hc3 => ?_)
          · skip
            refine lv_goto (tgt := 451) hx hb d_LW_law_379 (by decide) ?_
            refine W.widen (k := 12 + 4 * (i + 5)) (n := 183363 + 6 * (i + 5) + 2 * AL) (by omega) (by omega) ?_
            exact next al AL AF u0 txt OF1 row thr1 H locs ls hA64 hA40 (hu) (hM) hP hD hS (lv_sub hl [2, 3, 4, 5, 6] rfl)
          · skip
            refine lv_aload_n hx hb d_LW_law_367 rfl (lv_at hl 3 rfl) ?_
            refine lv_iconst (v := nI 0) hx hb d_LW_law_368 (by decide) ?_
            refine va_lald hx hb hK hP 0 2 rfl rfl (vp_in_nI (by omega) (by omega)) d_LW_law_369 ?_
            refine lv_eql (y := OF1 0) (by rw [nI_clamp (by omega)]) ?_
            refine lv_iload hx hb d_LW_law_370 (lv_at hl 0 rfl) ?_
            refine lv_i2l hx hb d_LW_law_372 rfl ?_
            refine W.lcmp hx hb d_LW_law_373 ?_
            have heq : OF1 0 = bb.toInt64 := by
              have hk := if01 (hz.1.symm.trans hc3)
              obtain ⟨k1, e1, e2⟩ := hz.2 hk
              obtain ⟨k2, e3, e4⟩ := hv4 hk
              rw [e1, e3, BE_uniq e2 e4]
            refine lv_if_eq (tgt := 379) hx hb d_LW_law_374 (by decide) (fun hc4 => ?_) (fun hc4 => ?_)
            · skip
              refine lv_goto (tgt := 451) hx hb d_LW_law_379 (by decide) ?_
              refine W.widen (k := 12 + 4 * (i + 5)) (n := 183363 + 6 * (i + 5) + 2 * AL) (by omega) (by omega) ?_
              exact next al AL AF u0 txt OF1 row thr1 H locs ls hA64 hA40 (hu) (hM) hP hD hS (lv_sub hl [2, 3, 4, 5, 6] rfl)
            · skip
              exact absurd ((lg_cmp_eq _ _).mpr heq) hc4
        · skip
          exact absurd (by rw [hv2, hz.1]) hc2
      · skip
        refine lv_tableIn (tgt := 382) hx hb d_LW_law_39 (by decide) (by decide) rfl (by decide) ?_
        refine lv_aload_n hx hb d_LW_law_382 rfl (lv_at hl 3 rfl) ?_
        refine lv_aload_n hx hb d_LW_law_383 rfl (lv_at hl 4 rfl) ?_
        refine lv_iload hx hb d_LW_law_384 (lv_at hl 0 rfl) ?_
        refine lv_iconst (v := nI 1) hx hb d_LW_law_386 (by decide) ?_
        refine ln_iadd hx hb d_LW_law_387 ?_
        refine va_sld hx hb hXs hbl hbA hS (vp_in_nI (by omega) (by omega)) d_LW_law_388 ?_
        refine lv_eqi (y := xs (i + 1)) (by rw [nI_clamp (by omega)]) ?_
        refine lv_aload_n hx hb d_LW_law_389 rfl (lv_at hl 1 rfl) ?_
        refine call_SWi (As := [.ref xo, .int (xs (i + 1)), .ref ot]) (rest := []) (wr := (wM mo r cI row txt.length thr)) C hA ks_LW_66 (c_LW_lineOf l hfl D cI cZ cL xo al q AL AF u0 txt hu hlen ot OF (xs (i + 1))) hP hD hS [0, 1, 2, 3, 4, 5, 6, 7, 8, 9] [10, 11] rfl rfl ⟨by decide, by decide⟩ (by decide) rfl hl.1 rfl (Nat.le_of_ble_eq_true rfl) ⟨by decide, by decide⟩ ⟨(show 12 + 4 * i + 1 ≤ 601024 by omega), (show 183363 + 6 * i + 2 * AL + 6 ≤ 7293034 by omega)⟩ d_LW_law_390 (fun zz uu H locs hz hP hD hS => ?_)
        obtain ⟨OF1, hOF1⟩ : ∃ z, z = uu := ⟨_, rfl⟩
        subst hOF1
        try simp only at hz
        have hP := hP.sub (ws' := wA xo al q cI cZ cL AL AF u0 ot OF1 mo r row txt.length thr) [2, 3, 4, 5, 6, 7, 8, 9, 10, 11, 0, 1] rfl
        have hD := hD.sub (ws' := wA xo al q cI cZ cL AL AF u0 ot OF1 mo r row txt.length thr) [2, 3, 4, 5, 6, 7, 8, 9, 10, 11, 0, 1] (by decide) rfl
        refine W.widen (k := 13 + 4 * i) (n := 183369 + 6 * i + 2 * AL) (show 12 + 4 * i + 1 ≤ 13 + 4 * i by omega) (show 183363 + 6 * i + 2 * AL + 6 ≤ 183369 + 6 * i + 2 * AL by omega) ?_
        refine lv_istore (lv' := [(5, .int zz), (4, .int (nI i)), (3, .ref ot), (2, .ref mo), (1, .ref xo), (0, .ref b)]) hx hb d_LW_law_393 hl (by decide) rfl (fun ls hl => ?_)
        refine lv_aload_n hx hb d_LW_law_395 rfl (lv_at hl 3 rfl) ?_
        refine lv_aload_n hx hb d_LW_law_396 rfl (lv_at hl 5 rfl) ?_
        refine lv_iload hx hb d_LW_law_397 (lv_at hl 1 rfl) ?_
        refine lv_iconst (v := nI 1) hx hb d_LW_law_399 (by decide) ?_
        refine ln_iadd hx hb d_LW_law_400 ?_
        refine va_sld hx hb hXs hbl hbA hS (vp_in_nI (by omega) (by omega)) d_LW_law_401 ?_
        refine lv_eqi (y := xs (i + 1)) (by rw [nI_clamp (by omega)]) ?_
        refine call_VWi (As := [.int (xs (i + 1))]) (rest := []) (ci := 2) (wr := (wO ot cL OF1 (wC xo al q cI cZ AL AF u0))) C hA kv_LW_68 (c_MO_lineOf l hfl D cI cZ cL mo r row txt thr hM (xs (i + 1))) hP hD hS [10, 11] [0, 1, 2, 3, 4, 5, 6, 7, 8, 9] rfl rfl ⟨by decide, by decide⟩ (by decide) 0 rfl rfl rfl rfl hl.1 rfl (Nat.le_of_ble_eq_true rfl) ⟨by decide, by decide⟩ ⟨(show 13 + 4 * i + 1 ≤ 601024 by omega), (show 183369 + 6 * i + 2 * AL + 6 ≤ 7293034 by omega)⟩ d_LW_law_402 (fun bb vv H locs hv hP hD hS => ?_)
        obtain ⟨thr1, hthr1⟩ : ∃ z, z = vv := ⟨_, rfl⟩
        subst hthr1
        try simp only at hv
        obtain ⟨hv2, hv4⟩ := hv
        have hP : va_P D classes (wA xo al q cI cZ cL AL AF u0 ot OF1 mo r row txt.length thr1) H := hP
        have hD : va_D A (wA xo al q cI cZ cL AL AF u0 ot OF1 mo r row txt.length thr1) := hD
        refine W.widen (k := 14 + 4 * i) (n := 183375 + 6 * i + 2 * AL) (show 13 + 4 * i + 1 ≤ 14 + 4 * i by omega) (show 183369 + 6 * i + 2 * AL + 6 ≤ 183375 + 6 * i + 2 * AL by omega) ?_
        refine lv_istore (lv' := [(6, .int bb), (5, .int zz), (4, .int (nI i)), (3, .ref ot), (2, .ref mo), (1, .ref xo), (0, .ref b)]) hx hb d_LW_law_405 hl (by decide) rfl (fun ls hl => ?_)
        refine lv_aload_n hx hb d_LW_law_407 rfl (lv_at hl 4 rfl) ?_
        refine call_Ri (As := []) (rest := []) (ci := 2) C hA kv_LW_43 (c_MO_thrown l D cI cZ cL mo r row txt thr1) (hP.sub (ws' := wM mo r cI row txt.length thr1) [10, 11] rfl) hS 0 rfl rfl rfl rfl hl.1 rfl (Nat.le_of_ble_eq_true rfl) ⟨by decide, by decide⟩ ⟨rfl, rfl⟩ ⟨(show 14 + 4 * i ≤ 601024 by omega), (show 183375 + 6 * i + 2 * AL ≤ 7293034 by omega)⟩ d_LW_law_408 (fun rr hrr => ?_)
        have hrr := hrr.symm
        subst hrr
        refine lv_iload hx hb d_LW_law_411 (lv_at hl 1 rfl) ?_
        refine lv_icmp_eq (tgt := 418) hx hb d_LW_law_413 (by decide) (fun hc2 => ?_) (fun hc2 => ?_)
        · skip
          refine lv_iload hx hb d_LW_law_418 (lv_at hl 1 rfl) ?_
          refine lv_if_ne (tgt := 435) hx hb d_LW_law_420 (by decide) (fun hc3 => ?_) (fun hc3 => ?_)
          · skip
            refine lv_goto (tgt := 451) hx hb d_LW_law_435 (by decide) ?_
            refine W.widen (k := 12 + 4 * (i + 5)) (n := 183363 + 6 * (i + 5) + 2 * AL) (by omega) (by omega) ?_
            exact next al AL AF u0 txt OF1 row thr1 H locs ls hA64 hA40 (hu) (hM) hP hD hS (lv_sub hl [2, 3, 4, 5, 6] rfl)
          · skip
            refine lv_aload_n hx hb d_LW_law_423 rfl (lv_at hl 3 rfl) ?_
            refine lv_iconst (v := nI 0) hx hb d_LW_law_424 (by decide) ?_
            refine va_lald hx hb hK hP 0 2 rfl rfl (vp_in_nI (by omega) (by omega)) d_LW_law_425 ?_
            refine lv_eql (y := OF1 0) (by rw [nI_clamp (by omega)]) ?_
            refine lv_iload hx hb d_LW_law_426 (lv_at hl 0 rfl) ?_
            refine lv_i2l hx hb d_LW_law_428 rfl ?_
            refine W.lcmp hx hb d_LW_law_429 ?_
            have heq : OF1 0 = bb.toInt64 := by
              have hk := if01 (hz.1.symm.trans hc3)
              rw [hz.2 hk, hv4 hk]
            refine lv_if_eq (tgt := 435) hx hb d_LW_law_430 (by decide) (fun hc4 => ?_) (fun hc4 => ?_)
            · skip
              refine lv_goto (tgt := 451) hx hb d_LW_law_435 (by decide) ?_
              refine W.widen (k := 12 + 4 * (i + 5)) (n := 183363 + 6 * (i + 5) + 2 * AL) (by omega) (by omega) ?_
              exact next al AL AF u0 txt OF1 row thr1 H locs ls hA64 hA40 (hu) (hM) hP hD hS (lv_sub hl [2, 3, 4, 5, 6] rfl)
            · skip
              exact absurd ((lg_cmp_eq _ _).mpr heq) hc4
        · skip
          exact absurd (by rw [hv2, hz.1]) hc2
      · skip
        refine lv_tableIn (tgt := 438) hx hb d_LW_law_39 (by decide) (by decide) rfl (by decide) ?_
        refine lv_aload_n hx hb d_LW_law_438 rfl (lv_at hl 3 rfl) ?_
        obtain ⟨g, hg9, hg1, hg2⟩ := grows AL txt.length hA64 hlen
        have hg40 : AL * 2 ^ g ≤ 40000 := by
          cases g with
          | zero => simpa using hA40
          | succ g => have h9 := hg2 g (by omega); rw [pw_s]; omega
        have hg64 := pw_1 AL g
        refine call_Vi (As := []) (rest := []) (ci := 1) (wr := ((ot, .inl (cL, 1, .inr (.inl OF))) :: wM mo r cI row txt.length thr)) C hA kv_LW_69 (c_LC_digest l D cI cZ cL xo al q AL AF u0 txt hu hlen hA40 g hg1 hg2) hP hD hS [1, 2, 3, 4, 5, 6, 7, 8, 9] [0, 10, 11] rfl rfl ⟨by decide, by decide⟩ (by decide) 0 rfl rfl rfl rfl hl.1 rfl (Nat.le_of_ble_eq_true rfl) ⟨(Nat.le_of_ble_eq_true rfl), (Nat.le_of_ble_eq_true rfl)⟩ ⟨(show 12 + 4 * i + g ≤ 601024 by omega), (show 183363 + 6 * i + 2 * AL + (2 * (AL * 2 ^ g) - 2 * AL) ≤ 7293034 by omega)⟩ d_LW_law_439 (fun zz uu H locs hz hP hD hS => ?_)
        obtain ⟨al1, AF1⟩ := uu
        try simp only at hz
        have hP := hP.sub (ws' := wA xo al1 q cI cZ cL (AL * 2 ^ g) AF1 u0 ot OF mo r row txt.length thr) [0, 3, 4, 5, 6, 7, 8, 9, 10, 11, 1, 2] rfl
        have hD := hD.sub (ws' := wA xo al1 q cI cZ cL (AL * 2 ^ g) AF1 u0 ot OF mo r row txt.length thr) [0, 3, 4, 5, 6, 7, 8, 9, 10, 11, 1, 2] (by decide) rfl
        refine W.widen (k := 21 + 4 * i) (n := 183363 + 6 * i + 2 * (AL * 2 ^ g)) (show 12 + 4 * i + g ≤ 21 + 4 * i by omega) (show 183363 + 6 * i + 2 * AL + (2 * (AL * 2 ^ g) - 2 * AL) ≤ 183363 + 6 * i + 2 * (AL * 2 ^ g) by omega) ?_
        refine lv_aload_n hx hb d_LW_law_442 rfl (lv_at hl 2 rfl) ?_
        refine call_Vi (As := []) (rest := [.int zz]) (ci := 2) (wr := (wO ot cL OF (wC xo al1 q cI cZ (AL * 2 ^ g) AF1 u0))) C hA kv_LW_72 (c_MO_digest l D cI cZ cL mo r row txt thr hM) hP hD hS [10, 11] [0, 1, 2, 3, 4, 5, 6, 7, 8, 9] rfl rfl ⟨by decide, by decide⟩ (by decide) 0 rfl rfl rfl rfl hl.1 rfl (Nat.le_of_ble_eq_true rfl) ⟨by decide, by decide⟩ ⟨(show 21 + 4 * i + 0 ≤ 601024 by omega), (show 183363 + 6 * i + 2 * (AL * 2 ^ g) + 0 ≤ 7293034 by omega)⟩ d_LW_law_443 (fun bb thr1 H locs hv hP hD hS => ?_)
        have hP : va_P D classes (wA xo al1 q cI cZ cL (AL * 2 ^ g) AF1 u0 ot OF mo r row txt.length thr1) H := hP
        have hD : va_D A (wA xo al1 q cI cZ cL (AL * 2 ^ g) AF1 u0 ot OF mo r row txt.length thr1) := hD
        refine W.widen (k := 12 + 4 * (i + 5)) (n := 183363 + 6 * (i + 5) + 2 * (AL * 2 ^ g)) (show 21 + 4 * i + 0 ≤ 12 + 4 * (i + 5) by omega) (show 183363 + 6 * i + 2 * (AL * 2 ^ g) + 0 ≤ 183363 + 6 * (i + 5) + 2 * (AL * 2 ^ g) by omega) ?_
        refine lv_icmp_eq (tgt := 451) hx hb d_LW_law_446 (by decide) (fun hc2 => ?_) (fun hc2 => ?_)
        · skip
          exact next al1 (AL * 2 ^ g) AF1 u0 txt OF row thr1 H locs ls (by omega) hg40 hu hM hP hD hS (lv_sub hl [0, 1, 2, 3, 4] rfl)
        · skip
          exact absurd (by rw [hz, hv]) hc2
end
section
set_option maxHeartbeats 4000000 in
set_option maxRecDepth 100000 in
/-- the law, from its entry -/
theorem whole_start {p : Program} {e : Env} {s : State} {m : MethodId} {below : List Frame} {meth : Method} {c : Code} (l : Launch) (hfl : l.flags = pinnedFlags ++ [noTraceFlag]) {b L : Nat} {xs : Nat → Int32} (hL : L ≤ 2560) (C0 : lw_At p s m meth c b L xs) : W p l e room_1 s m #[Value.ref b] below meth c s.heap [] 0 0 (lw_Z below #[Value.ref b] s) (entryFrame m ([Value.ref b] : List Value).toArray 7) := by
  obtain ⟨hx, hb, hr, hml, hown, hts, hXs, hbl, hlocks, hgv⟩ := id C0
  have hB := bs_tbl hts
  have hX : xk s := xk_start hts hgv
  obtain ⟨D, cI, cZ, cL, hK⟩ := K_start hts
  have C : Cx p s m #[Value.ref b] meth c R_law code 7 ret c.exceptionTable.toList D (TY cI cZ cL) := ⟨hx, hb, hml, hown, hB, hlocks, hr, rfl, hK, hX⟩
  obtain ⟨A, hAe⟩ : ∃ A : Nat → Prop, A = fun q => s.heap.size ≤ q := ⟨_, rfl⟩
  have hA : Aok s A := by rw [hAe]; exact Aok_new s
  have hS : va_S A s.heap s.heap [] := va_S.rf
  have hP : va_P D classes [] s.heap := fun k q h => by simp at h
  have hD : va_D A [] := ⟨fun i j p q h => by simp at h, fun k q h => by simp at h⟩
  have hl := lv_entry ([.ref b]) (n := 7) (Nat.le_of_ble_eq_true rfl)
  rw [lg_entry_eq]
  generalize (lg_sl ([.ref b]) ++ List.replicate (7 - (lg_sl ([.ref b])).length) Slot.unset).toArray = ls at hl ⊢
  have hl : lv_has ls 7 [(0, .ref b)] := hl
  refine va_new (ci := 1) (fs := [.null, .null]) (C := R_LC) (T := F_LC) (N := 2) hx hb hB i_LC t_LC t_LC_ok hown (hB _ k_10) (hB _ k_11) (hB _ k_1) hK hP hD hS hA.1 rfl df_LC (by decide) (by decide) d_LW_law_0 (fun xo H hP hD hS => ?_)
  have hP : va_P D classes [(xo, .inr (1, [.null, .null]))] H := hP
  have hD : va_D A [(xo, .inr (1, [.null, .null]))] := hD
  refine lv_dup hx hb d_LW_law_3 rfl ?_
  refine call_Nv (As := []) (rest := [.ref xo]) (wr := []) C hA kn_LW_33 (c_LC_init l D cI cZ cL xo) hP hD hS [0] [] rfl rfl ⟨by decide, by decide⟩ (by decide) rfl hl.1 rfl (Nat.le_of_ble_eq_true rfl) ⟨by decide, by decide⟩ ⟨by decide, by decide⟩ d_LW_law_4 (fun uu H locs hz hP hD hS => ?_)
  obtain ⟨q, al⟩ := uu
  have hP : va_P D classes (wC xo al q cI cZ 64 (fun _ => 0) tx0) H := hP
  have hD : va_D A (wC xo al q cI cZ 64 (fun _ => 0) tx0) := hD
  refine lv_astore_n (lv' := [(1, .ref xo), (0, .ref b)]) hx hb d_LW_law_7 rfl hl (by decide) rfl (fun ls hl => ?_)
  refine va_new (ci := 2) (fs := [.null, .int 0, .int 0]) (C := R_MO) (T := F_MO) (N := 3) hx hb hB i_MO t_MO t_MO_ok hown (hB _ k_264) (hB _ k_265) (hB _ k_3) hK hP hD hS hA.1 rfl df_MO (by decide) (by decide) d_LW_law_8 (fun mo H hP hD hS => ?_)
  have hP : va_P D classes (wC xo al q cI cZ 64 (fun _ => 0) tx0 ++ [(mo, .inr (2, [.null, .int 0, .int 0]))]) H := hP
  have hD : va_D A (wC xo al q cI cZ 64 (fun _ => 0) tx0 ++ [(mo, .inr (2, [.null, .int 0, .int 0]))]) := hD
  refine lv_dup hx hb d_LW_law_11 rfl ?_
  refine call_Nv (As := []) (rest := [.ref mo]) (wr := (wC xo al q cI cZ 64 (fun _ => 0) tx0)) C hA kn_LW_36 (c_MO_init l D cI cZ cL mo) hP hD hS [9] [0, 1, 2, 3, 4, 5, 6, 7, 8] rfl rfl ⟨by decide, by decide⟩ (by decide) rfl hl.1 rfl (Nat.le_of_ble_eq_true rfl) ⟨by decide, by decide⟩ ⟨by decide, by decide⟩ d_LW_law_12 (fun r H locs hz2 hP hD hS => ?_)
  have hP : va_P D classes (wC xo al q cI cZ 64 (fun _ => 0) tx0 ++ wM mo r cI (fun _ => 0) 0 0) H := hP
  have hD : va_D A (wC xo al q cI cZ 64 (fun _ => 0) tx0 ++ wM mo r cI (fun _ => 0) 0 0) := hD
  refine lv_astore_n (lv' := [(2, .ref mo), (1, .ref xo), (0, .ref b)]) hx hb d_LW_law_15 rfl hl (by decide) rfl (fun ls hl => ?_)
  refine lv_iconst (v := nI 1) hx hb d_LW_law_16 (by decide) ?_
  refine va_newa (atype := .long) (ty := .long) (a0 := (1, .inr (.inl (fun _ => 0)))) (N' := 1) hx hb (hB _ k_361) rfl hK hP hD hS hA.1 (fun cA => rfl) (nI_pos (by omega)) (nI_clamp (by omega)) (by decide) (by decide) (by decide) d_LW_law_17 (fun ot cA H hK2 hP hD hS => ?_)
  obtain rfl := (xcA_long hK2 2 rfl).symm
  have hP : va_P D classes (wC xo al q cI cZ 64 (fun _ => 0) tx0 ++ wM mo r cI (fun _ => 0) 0 0 ++ [(ot, .inl (cL, 1, .inr (.inl (fun _ => 0))))]) H := hP
  have hD : va_D A (wC xo al q cI cZ 64 (fun _ => 0) tx0 ++ wM mo r cI (fun _ => 0) 0 0 ++ [(ot, .inl (cL, 1, .inr (.inl (fun _ => 0))))]) := hD
  refine lv_astore_n (lv' := [(3, .ref ot), (2, .ref mo), (1, .ref xo), (0, .ref b)]) hx hb d_LW_law_19 rfl hl (by decide) rfl (fun ls hl => ?_)
  refine lv_iconst (v := nI 0) hx hb d_LW_law_20 (by decide) ?_
  refine lv_istore (lv' := [(4, .int (nI 0)), (3, .ref ot), (2, .ref mo), (1, .ref xo), (0, .ref b)]) hx hb d_LW_law_21 hl (by decide) rfl (fun ls hl => ?_)
  have hP := hP.sub (ws' := wA xo al q cI cZ cL 64 (fun _ => 0) tx0 ot (fun _ => 0) mo r (fun _ => 0) ([] : List Int32).length 0) [11, 0, 1, 2, 3, 4, 5, 6, 7, 8, 9, 10] rfl
  have hD := hD.sub (ws' := wA xo al q cI cZ cL 64 (fun _ => 0) tx0 ot (fun _ => 0) mo r (fun _ => 0) ([] : List Int32).length 0) [11, 0, 1, 2, 3, 4, 5, 6, 7, 8, 9, 10] (by decide) rfl
  refine W.widen (k := 12 + 4 * 0) (n := 183363 + 6 * 0 + 2 * 64) (by decide) (by decide) ?_
  exact law_loop hfl hL C0 hK hAe xo ot mo r q (L + 6) 0 al 64 (fun _ => 0) tx0 [] (fun _ => 0) (fun _ => 0) 0 H _ ls (by omega) (by omega) (by omega) (by omega) (OKS_0 0 0) ⟨by simp, fun j h => absurd h (by simp)⟩ hP hD hS (lv_sub hl [0, 1, 2, 3, 4] rfl)
end
section
set_option maxHeartbeats 4000000 in
theorem lw_walk (l : Launch) (hfl : l.flags = pinnedFlags ++ [noTraceFlag]) (b : Addr) (xs : List Int32) : MetFree l x (headSpec (Jvm.Cond.code x code maxLocals ret :: tables_1) room_1) (lw_P b xs) (fun _ _ _ _ _ => True) lw_Q := by
  refine MetFree.of_bodyS (code := code) (maxLocals := maxLocals) (ret := ret) (by decide) ?_ ?_
  · intro args s m h hn
    obtain ⟨meth, c, h1, h2, h3, h4, h5, h6, -, -⟩ := Cond.code_spec hn (atoms_spec (ws := Jvm.Cond.code x code maxLocals ret :: tables_1) h _ List.mem_cons_self)
    exact ⟨meth, c, h1, h2, h3, h4, h5, h6⟩
  · intro p e s m args below meth c s₁ B hml0 hP _
    obtain ⟨rfl, hx, hbd, hgv⟩ := hP
    obtain ⟨scr, harrAt, hlist, hof, hsmall⟩ := hx
    obtain ⟨hcb, hkn, -, -⟩ := State.arrayAt?_spec harrAt
    have hown : s.vm.findClass R_law = some m.cls := findClass_of_methodNamed B.named
    have hts0 : ∀ c ∈ (Jvm.Cond.code x code maxLocals ret :: tables_1), c.before #[Value.ref b] s = true := atoms_spec (ws := Jvm.Cond.code x code maxLocals ret :: tables_1) B.pre
    have hts : ∀ w ∈ lw_tbl, w.before #[Value.ref b] s = true := k2_hts_sels lw_privs (fun w hw => hts0 w (List.mem_cons_of_mem _ hw)) lw_privs_ok
    have hml : c.maxLocals = 7 := B.maxLocals_eq (hts0 _ List.mem_cons_self)
    have X₀ : Stand p l e room_1 s m #[Value.ref b] below meth c s₁ [] 0 0 := Stand.of_body B
    have hh0 : s₁.heap = s.heap := by rw [B.state]; rfl
    have hsz : scr.slots.size = xs.length := by rw [← Array.length_toList, hlist, List.length_map]
    have hval : ∀ j : Nat, j < xs.length → scr.slots[j]? = some (.int (xs.getD j 0)) := fun j hj => by
      rw [← Array.getElem?_toList, hlist]
      simp [hj]
    have hbl : b < s.heap.size := (Array.getElem?_eq_some_iff.mp hcb).1
    have hX : va_X b xs.length (fun j => xs.getD j 0) s s.heap := ⟨scr, hcb, hof, hkn, hsz, hval⟩
    have K : W p l e room_1 s m #[Value.ref b] below meth c s₁.heap [] 0 0 (lw_Z below #[Value.ref b] s) (entryFrame m ([Value.ref b] : List Value).toArray 7) := by
      rw [hh0]
      exact whole_start l hfl hbd ⟨B.exec, B.bytes, B.returns, hml, hown, hts, hX, hbl, B.notSynchronized, hgv⟩
    obtain ⟨t, a1, o, b1, b2, b3⟩ := K s₁ rfl X₀
    exact ⟨t, o, a1, b1, b2, b3⟩
theorem lw_pre_spec {args : Array Value} {s : State} (h : (Jvm.Cond.and given_1 narrow_1).before args s = true) (hr : rest_1_c.before args s = true) : ∃ (b : Addr) (xs : List Int32), lw_P b xs args s := by
  have hs := flat_of_before _ h
  have hq := flat_of_before _ hr
  have hc : (Cond.count 1).before args s = true := hs _ (by decide +kernel)
  have harr : (Cond.arrayOf (.arg 0) .int).before args s = true := hs _ (by decide +kernel)
  have hle : (Cond.le (.length (.arg 0)) (.int 2560)).before args s = true := hs _ (by decide +kernel)
  have hlen : (Cond.isInt (.length (.arg 0))).before args s = true := hq _ (by decide +kernel)
  have hall : (Cond.all (.arg 0) (.isInt (.elem (.arg 0) (.index 0)))).before args s = true := hq _ (by decide +kernel)
  obtain ⟨b, xs, hb, hx⟩ := State.ints_of_pre rfl harr hlen hall
  have hsm : xs.length < 2 ^ 31 := hx.choose_spec.2.2.2
  have hev : (Term.length (.arg 0)).eval args s none [] s = some (.int xs.length.toInt32) := hx.length_eval hb
  have hv := Cond.le_ints hev (show (Term.int 2560).eval args s none [] s = some (.int 2560) from rfl)
  have hd : xs.length.toInt32 ≤ 2560 := by
    simpa [Cond.before, Cond.holds, hv] using hle
  have hN : xs.length ≤ 2560 := (Int32.ofNat_le_ofNat hsm (by decide)).mp (show Int32.ofNat xs.length ≤ Int32.ofNat 2560 from hd)
  exact ⟨b, xs, Cond.one_arg hc (show args[0]? = some (.ref b) from hb), hx, hN, h⟩
theorem lw_comes (l : Launch) (hfl : l.flags = pinnedFlags ++ [noTraceFlag]) : Comes l x (Jvm.Cond.code x code maxLocals ret :: tables_1) room_1 (fun tb e args s => Calls_1 tb e args s ∧ rest_1 tb e args s ∧ Pre_1 tb e args s)
    (fun _ _ args s o t => lw_Q args s o t) := by
  intro p e ha hc hk s m args below hf hfit hheap happ hpre
  obtain ⟨b, xs, hP⟩ := lw_pre_spec hpre.2.2 hpre.2.1
  obtain ⟨k, o, h1, h2, h3, hQ⟩ := lw_walk l hfl b xs p e ha hc hk s m args below hf ((Spec.applies_iff_loose hf).mp happ).1 hP trivial
  exact ⟨k, o, h1, h2, h3, hQ⟩
theorem lw_frame {s t : State} {o : Outcome} {args : Array Value} (h : Framed s o t [] 601024 7293034) :
    Framed s o t (fieldLocs frame_1_writes args s ++ arrayLocs frame_1_arrays args s ++ staticLocs frame_1_statics s) 601024 7293034 := h
theorem lw_limb (L : Cond) (hL : ∀ (args : Array Value) (s t : State), L.after args s (.returned (some (.int 1))) t = true) :
    ArmFor flags0 classFile x code maxLocals ret World_1 tables_1 room_1 Calls_1 rest_1 Pre_1
      (fun tb e a s o t => postC L tb e a s o t ∧ Framed s o t (fieldLocs frame_1_writes a s ++ arrayLocs frame_1_arrays a s ++ staticLocs frame_1_statics s) 601024 7293034) := by
  intro l hfl _ _ p e ha hc hk s m args below hf hfit hheap happ hpre
  obtain ⟨k, o, h1, h2, h3, rfl, hF⟩ := lw_comes l hfl p e ha hc hk s m args below hf hfit hheap happ hpre
  exact ⟨k, _, h1, h2, h3, hL args s _, lw_frame hF⟩
theorem i_vc : Claimed_1_1 ∧ Claimed_1_2 := ⟨lw_limb limb_1_1 (fun args s t => by simp [limb_1_1, Cond.after, Cond.holds, Cond.value]), lw_limb limb_1_2 (fun args s t => Cond.after_iff.mpr (by
  first | (rw [show limb_1_2 = Cond.eq .result (.int 1) from rfl, Cond.eq_ints (x := 1) (y := 1) rfl rfl]; simp; done) | (simp [limb_1_2, Cond.value, Term.eval]; done)))⟩
end
