section
/-! part 01: PART A of the skeleton (starting text), names, words -/
/-- a private method of a class that the tables say can be made, by its rows of tables_1 -/
def lw_okq (q : MethodName × Nat) : Prop := (q.1.cls ≠ "java/lang/invoke/MethodHandle" ∧ q.1.cls ≠ "java/lang/invoke/VarHandle") ∧ Cond.instantiable q.1.cls q.2 ∈ tables_1 ∧ Cond.privateMethod q.1 ∈ tables_1 ∧ Cond.instanceMethod q.1 ∈ tables_1
theorem lw_p0 : lw_okq (⟨"java/lang/Throwable", "fillInStackTrace", "(I)Ljava/lang/Throwable;"⟩, 6) := ⟨⟨by decide +kernel, by decide +kernel⟩, List.mem_of_getElem? (i := 80) (by decide +kernel), List.mem_of_getElem? (i := 78) (by decide +kernel), List.mem_of_getElem? (i := 79) (by decide +kernel)⟩
theorem lw_p1 : lw_okq (⟨"PackedBits", "bits", "(JI)I"⟩, 3) := ⟨⟨by decide +kernel, by decide +kernel⟩, List.mem_of_getElem? (i := 11) (by decide +kernel), List.mem_of_getElem? (i := 124) (by decide +kernel), List.mem_of_getElem? (i := 125) (by decide +kernel)⟩
theorem lw_p2 : lw_okq (⟨"PackedBits", "bit", "(Z)V"⟩, 3) := ⟨⟨by decide +kernel, by decide +kernel⟩, List.mem_of_getElem? (i := 11) (by decide +kernel), List.mem_of_getElem? (i := 128) (by decide +kernel), List.mem_of_getElem? (i := 129) (by decide +kernel)⟩
theorem lw_p3 : lw_okq (⟨"PackedBits", "read", "(I)J"⟩, 3) := ⟨⟨by decide +kernel, by decide +kernel⟩, List.mem_of_getElem? (i := 11) (by decide +kernel), List.mem_of_getElem? (i := 177) (by decide +kernel), List.mem_of_getElem? (i := 178) (by decide +kernel)⟩
theorem lw_p4 : lw_okq (⟨"PackedBits", "length", "()I"⟩, 3) := ⟨⟨by decide +kernel, by decide +kernel⟩, List.mem_of_getElem? (i := 11) (by decide +kernel), List.mem_of_getElem? (i := 214) (by decide +kernel), List.mem_of_getElem? (i := 215) (by decide +kernel)⟩
theorem lw_p5 : lw_okq (⟨"PackedBits", "number", "(I)J"⟩, 3) := ⟨⟨by decide +kernel, by decide +kernel⟩, List.mem_of_getElem? (i := 11) (by decide +kernel), List.mem_of_getElem? (i := 225) (by decide +kernel), List.mem_of_getElem? (i := 226) (by decide +kernel)⟩
theorem lw_p6 : lw_okq (⟨"PackedBitsModel", "fail", "(I)I"⟩, 6) := ⟨⟨by decide +kernel, by decide +kernel⟩, List.mem_of_getElem? (i := 258) (by decide +kernel), List.mem_of_getElem? (i := 293) (by decide +kernel), List.mem_of_getElem? (i := 294) (by decide +kernel)⟩
theorem lw_p7 : lw_okq (⟨"PackedBitsModel", "write", "(JII)I"⟩, 6) := ⟨⟨by decide +kernel, by decide +kernel⟩, List.mem_of_getElem? (i := 258) (by decide +kernel), List.mem_of_getElem? (i := 297) (by decide +kernel), List.mem_of_getElem? (i := 298) (by decide +kernel)⟩
theorem lw_p8 : lw_okq (⟨"PackedBitsModel", "append", "(JI)V"⟩, 6) := ⟨⟨by decide +kernel, by decide +kernel⟩, List.mem_of_getElem? (i := 258) (by decide +kernel), List.mem_of_getElem? (i := 301) (by decide +kernel), List.mem_of_getElem? (i := 302) (by decide +kernel)⟩
theorem lw_p9 : lw_okq (⟨"PackedBitsModel", "width", "(J)I"⟩, 6) := ⟨⟨by decide +kernel, by decide +kernel⟩, List.mem_of_getElem? (i := 258) (by decide +kernel), List.mem_of_getElem? (i := 309) (by decide +kernel), List.mem_of_getElem? (i := 310) (by decide +kernel)⟩
theorem lw_p10 : lw_okq (⟨"PackedBitsModel", "complement", "(J)I"⟩, 6) := ⟨⟨by decide +kernel, by decide +kernel⟩, List.mem_of_getElem? (i := 258) (by decide +kernel), List.mem_of_getElem? (i := 327) (by decide +kernel), List.mem_of_getElem? (i := 328) (by decide +kernel)⟩
theorem lw_p11 : lw_okq (⟨"PackedBitsModel", "bytesOf", "(J)I"⟩, 6) := ⟨⟨by decide +kernel, by decide +kernel⟩, List.mem_of_getElem? (i := 258) (by decide +kernel), List.mem_of_getElem? (i := 332) (by decide +kernel), List.mem_of_getElem? (i := 333) (by decide +kernel)⟩
theorem lw_p12 : lw_okq (⟨"PackedBitsModel", "begin", "()V"⟩, 6) := ⟨⟨by decide +kernel, by decide +kernel⟩, List.mem_of_getElem? (i := 258) (by decide +kernel), List.mem_of_getElem? (i := 344) (by decide +kernel), List.mem_of_getElem? (i := 345) (by decide +kernel)⟩
theorem lw_p13 : lw_okq (⟨"PackedBitsModel", "get", "(I)J"⟩, 6) := ⟨⟨by decide +kernel, by decide +kernel⟩, List.mem_of_getElem? (i := 258) (by decide +kernel), List.mem_of_getElem? (i := 348) (by decide +kernel), List.mem_of_getElem? (i := 349) (by decide +kernel)⟩
theorem lw_p14 : lw_okq (⟨"PackedBitsModel", "done", "(JI)J"⟩, 6) := ⟨⟨by decide +kernel, by decide +kernel⟩, List.mem_of_getElem? (i := 258) (by decide +kernel), List.mem_of_getElem? (i := 352) (by decide +kernel), List.mem_of_getElem? (i := 353) (by decide +kernel)⟩
theorem lw_p15 : lw_okq (⟨"PackedBitsModel", "length", "()I"⟩, 6) := ⟨⟨by decide +kernel, by decide +kernel⟩, List.mem_of_getElem? (i := 258) (by decide +kernel), List.mem_of_getElem? (i := 364) (by decide +kernel), List.mem_of_getElem? (i := 365) (by decide +kernel)⟩
def lw_privs_1 : List (MethodName × Nat) := [(⟨"java/lang/Throwable", "fillInStackTrace", "(I)Ljava/lang/Throwable;"⟩, 6), (⟨"PackedBits", "bits", "(JI)I"⟩, 3), (⟨"PackedBits", "bit", "(Z)V"⟩, 3), (⟨"PackedBits", "read", "(I)J"⟩, 3), (⟨"PackedBits", "length", "()I"⟩, 3), (⟨"PackedBits", "number", "(I)J"⟩, 3), (⟨"PackedBitsModel", "fail", "(I)I"⟩, 6), (⟨"PackedBitsModel", "write", "(JII)I"⟩, 6), (⟨"PackedBitsModel", "append", "(JI)V"⟩, 6), (⟨"PackedBitsModel", "width", "(J)I"⟩, 6), (⟨"PackedBitsModel", "complement", "(J)I"⟩, 6), (⟨"PackedBitsModel", "bytesOf", "(J)I"⟩, 6), (⟨"PackedBitsModel", "begin", "()V"⟩, 6), (⟨"PackedBitsModel", "get", "(I)J"⟩, 6), (⟨"PackedBitsModel", "done", "(JI)J"⟩, 6), (⟨"PackedBitsModel", "length", "()I"⟩, 6)]
theorem lw_r1 : ∀ q ∈ lw_privs_1, lw_okq q := List.forall_mem_cons.mpr ⟨lw_p0, List.forall_mem_cons.mpr ⟨lw_p1, List.forall_mem_cons.mpr ⟨lw_p2, List.forall_mem_cons.mpr ⟨lw_p3, List.forall_mem_cons.mpr ⟨lw_p4, List.forall_mem_cons.mpr ⟨lw_p5, List.forall_mem_cons.mpr ⟨lw_p6, List.forall_mem_cons.mpr ⟨lw_p7, List.forall_mem_cons.mpr ⟨lw_p8, List.forall_mem_cons.mpr ⟨lw_p9, List.forall_mem_cons.mpr ⟨lw_p10, List.forall_mem_cons.mpr ⟨lw_p11, List.forall_mem_cons.mpr ⟨lw_p12, List.forall_mem_cons.mpr ⟨lw_p13, List.forall_mem_cons.mpr ⟨lw_p14, List.forall_mem_cons.mpr ⟨lw_p15, fun _ h => absurd h List.not_mem_nil⟩⟩⟩⟩⟩⟩⟩⟩⟩⟩⟩⟩⟩⟩⟩⟩
def lw_privs : List (MethodName × Nat) := lw_privs_1
def lw_tbl : List Cond := k2_sels lw_privs ++ tables_1
theorem lw_privs_ok : ∀ q ∈ lw_privs, lw_okq q := lw_r1
def y_X_init : MethodName := ⟨"PackedBits", "<init>", "()V"⟩
def y_Obj_init : MethodName := ⟨"java/lang/Object", "<init>", "()V"⟩
def y_L_put : MethodName := ⟨"PackedBitsLaw", "put", "(LPackedBits;JI[J)I"⟩
def y_X_put : MethodName := ⟨"PackedBits", "put", "(JI)I"⟩
def y_X_in : MethodName := ⟨"PackedBits", "in", "(Z)V"⟩
def y_RTE_init : MethodName := ⟨"java/lang/RuntimeException", "<init>", "()V"⟩
def y_RTE_initS : MethodName := ⟨"java/lang/RuntimeException", "<init>", "(Ljava/lang/String;)V"⟩
def y_Exc_init : MethodName := ⟨"java/lang/Exception", "<init>", "()V"⟩
def y_Exc_initS : MethodName := ⟨"java/lang/Exception", "<init>", "(Ljava/lang/String;)V"⟩
def y_Thr_init : MethodName := ⟨"java/lang/Throwable", "<init>", "()V"⟩
def y_Thr_initS : MethodName := ⟨"java/lang/Throwable", "<init>", "(Ljava/lang/String;)V"⟩
def y_Thr_fill0 : MethodName := ⟨"java/lang/Throwable", "fillInStackTrace", "(I)Ljava/lang/Throwable;"⟩
def y_Thr_fill : MethodName := ⟨"java/lang/Throwable", "fillInStackTrace", "()Ljava/lang/Throwable;"⟩
def y_IAE_init : MethodName := ⟨"java/lang/IllegalArgumentException", "<init>", "()V"⟩
def y_X_room : MethodName := ⟨"PackedBits", "room", "(Z)V"⟩
def y_IOB_init : MethodName := ⟨"java/lang/IndexOutOfBoundsException", "<init>", "()V"⟩
def y_X_bits : MethodName := ⟨"PackedBits", "bits", "(JI)I"⟩
def y_X_bit : MethodName := ⟨"PackedBits", "bit", "(Z)V"⟩
def y_L_putRange : MethodName := ⟨"PackedBitsLaw", "putRange", "(LPackedBits;JJJ[J)I"⟩
def y_X_putRange : MethodName := ⟨"PackedBits", "putRange", "(JJJ)I"⟩
def y_X_fieldBits : MethodName := ⟨"PackedBits", "fieldBits", "(J)I"⟩
def y_L_putLength : MethodName := ⟨"PackedBitsLaw", "putLength", "(LPackedBits;I[J)I"⟩
def y_X_putLength : MethodName := ⟨"PackedBits", "putLength", "(I)I"⟩
def y_L_putNumber : MethodName := ⟨"PackedBitsLaw", "putNumber", "(LPackedBits;IJ[J)I"⟩
def y_X_putNumber : MethodName := ⟨"PackedBits", "putNumber", "(IJ)I"⟩
def y_X_bytes : MethodName := ⟨"PackedBits", "bytes", "(ZJ)I"⟩
def y_L_fill : MethodName := ⟨"PackedBitsLaw", "fill", "(LPackedBits;[J)I"⟩
def y_X_fill : MethodName := ⟨"PackedBits", "fill", "()I"⟩
def y_L_take : MethodName := ⟨"PackedBitsLaw", "take", "(LPackedBits;I[J)I"⟩
def y_X_take : MethodName := ⟨"PackedBits", "take", "(I)J"⟩
def y_X_read : MethodName := ⟨"PackedBits", "read", "(I)J"⟩
def y_X_need : MethodName := ⟨"PackedBits", "need", "(Z)V"⟩
def y_UOE_init : MethodName := ⟨"java/lang/UnsupportedOperationException", "<init>", "()V"⟩
def y_L_takeRange : MethodName := ⟨"PackedBitsLaw", "takeRange", "(LPackedBits;JJ[J)I"⟩
def y_X_takeRange : MethodName := ⟨"PackedBits", "takeRange", "(JJ)J"⟩
def y_L_takeLength : MethodName := ⟨"PackedBitsLaw", "takeLength", "(LPackedBits;[J)I"⟩
def y_X_takeLength : MethodName := ⟨"PackedBits", "takeLength", "()I"⟩
def y_X_length : MethodName := ⟨"PackedBits", "length", "()I"⟩
def y_L_takeNumber : MethodName := ⟨"PackedBitsLaw", "takeNumber", "(LPackedBits;I[J)I"⟩
def y_X_takeNumber : MethodName := ⟨"PackedBits", "takeNumber", "(I)J"⟩
def y_X_number : MethodName := ⟨"PackedBits", "number", "(I)J"⟩
def y_L_go : MethodName := ⟨"PackedBitsLaw", "go", "(LPackedBits;I[J)I"⟩
def y_X_go : MethodName := ⟨"PackedBits", "go", "(I)I"⟩
def y_L_turn : MethodName := ⟨"PackedBitsLaw", "turn", "(LPackedBits;I[J)I"⟩
def y_X_turn : MethodName := ⟨"PackedBits", "turn", "(I)Z"⟩
def y_L_cut : MethodName := ⟨"PackedBitsLaw", "cut", "(LPackedBits;I[J)I"⟩
def y_X_cut : MethodName := ⟨"PackedBits", "cut", "(I)I"⟩
def y_L_count : MethodName := ⟨"PackedBitsLaw", "count", "(LPackedBits;I[J)I"⟩
def y_X_count : MethodName := ⟨"PackedBits", "count", "(I)I"⟩
def y_M_init : MethodName := ⟨"PackedBitsModel", "<init>", "()V"⟩
def y_M_thrown : MethodName := ⟨"PackedBitsModel", "thrown", "()I"⟩
def y_M_put : MethodName := ⟨"PackedBitsModel", "put", "(JI)I"⟩
def y_M_fail : MethodName := ⟨"PackedBitsModel", "fail", "(I)I"⟩
def y_M_write : MethodName := ⟨"PackedBitsModel", "write", "(JII)I"⟩
def y_M_append : MethodName := ⟨"PackedBitsModel", "append", "(JI)V"⟩
def y_M_putRange : MethodName := ⟨"PackedBitsModel", "putRange", "(JJJ)I"⟩
def y_M_width : MethodName := ⟨"PackedBitsModel", "width", "(J)I"⟩
def y_M_putLength : MethodName := ⟨"PackedBitsModel", "putLength", "(I)I"⟩
def y_Math_min : MethodName := ⟨"java/lang/Math", "min", "(II)I"⟩
def y_M_putNumber : MethodName := ⟨"PackedBitsModel", "putNumber", "(IJ)I"⟩
def y_M_complement : MethodName := ⟨"PackedBitsModel", "complement", "(J)I"⟩
def y_M_bytesOf : MethodName := ⟨"PackedBitsModel", "bytesOf", "(J)I"⟩
def y_M_fill : MethodName := ⟨"PackedBitsModel", "fill", "()I"⟩
def y_M_take : MethodName := ⟨"PackedBitsModel", "take", "(I)J"⟩
def y_M_begin : MethodName := ⟨"PackedBitsModel", "begin", "()V"⟩
def y_M_get : MethodName := ⟨"PackedBitsModel", "get", "(I)J"⟩
def y_M_done : MethodName := ⟨"PackedBitsModel", "done", "(JI)J"⟩
def y_M_takeRange : MethodName := ⟨"PackedBitsModel", "takeRange", "(JJ)J"⟩
def y_M_takeLength : MethodName := ⟨"PackedBitsModel", "takeLength", "()I"⟩
def y_M_length : MethodName := ⟨"PackedBitsModel", "length", "()I"⟩
def y_M_takeNumber : MethodName := ⟨"PackedBitsModel", "takeNumber", "(I)J"⟩
def y_M_go : MethodName := ⟨"PackedBitsModel", "go", "(I)I"⟩
def y_M_turn : MethodName := ⟨"PackedBitsModel", "turn", "(I)Z"⟩
def y_M_cut : MethodName := ⟨"PackedBitsModel", "cut", "(I)I"⟩
def y_M_count : MethodName := ⟨"PackedBitsModel", "count", "(I)I"⟩
/-- every good word of the tables: the one list of words of every contract here -/
def pb_gw : Cond → Bool
  | .arrayClass _ => true
  | w => w.onTables && w.keepsFace
def pb_ws : List Cond := lw_tbl.filter pb_gw
theorem pb_in {w : Cond} {i : Nat} (h : lw_tbl[i]? = some w) (hg : pb_gw w = true) : w ∈ pb_ws := List.mem_filter.mpr ⟨List.mem_of_getElem? h, hg⟩
theorem pb_p0 : Cond.selects "java/lang/Throwable" y_Thr_fill0 y_Thr_fill0 ∈ pb_ws := pb_in (i := 0) rfl rfl
theorem pb_p1 : Cond.selects "PackedBits" y_X_bits y_X_bits ∈ pb_ws := pb_in (i := 1) rfl rfl
theorem pb_p2 : Cond.selects "PackedBits" y_X_bit y_X_bit ∈ pb_ws := pb_in (i := 2) rfl rfl
theorem pb_p3 : Cond.selects "PackedBits" y_X_read y_X_read ∈ pb_ws := pb_in (i := 3) rfl rfl
theorem pb_p4 : Cond.selects "PackedBits" y_X_length y_X_length ∈ pb_ws := pb_in (i := 4) rfl rfl
theorem pb_p5 : Cond.selects "PackedBits" y_X_number y_X_number ∈ pb_ws := pb_in (i := 5) rfl rfl
theorem pb_p6 : Cond.selects "PackedBitsModel" y_M_fail y_M_fail ∈ pb_ws := pb_in (i := 6) rfl rfl
theorem pb_p7 : Cond.selects "PackedBitsModel" y_M_write y_M_write ∈ pb_ws := pb_in (i := 7) rfl rfl
theorem pb_p8 : Cond.selects "PackedBitsModel" y_M_append y_M_append ∈ pb_ws := pb_in (i := 8) rfl rfl
theorem pb_p9 : Cond.selects "PackedBitsModel" y_M_width y_M_width ∈ pb_ws := pb_in (i := 9) rfl rfl
theorem pb_p10 : Cond.selects "PackedBitsModel" y_M_complement y_M_complement ∈ pb_ws := pb_in (i := 10) rfl rfl
theorem pb_p11 : Cond.selects "PackedBitsModel" y_M_bytesOf y_M_bytesOf ∈ pb_ws := pb_in (i := 11) rfl rfl
theorem pb_p12 : Cond.selects "PackedBitsModel" y_M_begin y_M_begin ∈ pb_ws := pb_in (i := 12) rfl rfl
theorem pb_p13 : Cond.selects "PackedBitsModel" y_M_get y_M_get ∈ pb_ws := pb_in (i := 13) rfl rfl
theorem pb_p14 : Cond.selects "PackedBitsModel" y_M_done y_M_done ∈ pb_ws := pb_in (i := 14) rfl rfl
theorem pb_p15 : Cond.selects "PackedBitsModel" y_M_length y_M_length ∈ pb_ws := pb_in (i := 15) rfl rfl
theorem pb_k0 : Cond.initialized "PackedBitsLaw" ∈ pb_ws := pb_in (i := 16) rfl rfl
theorem pb_k1 : Cond.initialized "PackedBits" ∈ pb_ws := pb_in (i := 17) rfl rfl
theorem pb_k2 : Cond.initialized "PackedBitsModel" ∈ pb_ws := pb_in (i := 18) rfl rfl
theorem pb_k3 : Cond.initialized "java/lang/Throwable" ∈ pb_ws := pb_in (i := 19) rfl rfl
theorem pb_k4 : Cond.initialized "java/lang/Exception" ∈ pb_ws := pb_in (i := 20) rfl rfl
theorem pb_k5 : Cond.initialized "java/lang/RuntimeException" ∈ pb_ws := pb_in (i := 21) rfl rfl
theorem pb_k6 : Cond.initialized "java/lang/IllegalArgumentException" ∈ pb_ws := pb_in (i := 22) rfl rfl
theorem pb_k7 : Cond.initialized "java/lang/IndexOutOfBoundsException" ∈ pb_ws := pb_in (i := 23) rfl rfl
theorem pb_k8 : Cond.initialized "java/lang/Math" ∈ pb_ws := pb_in (i := 24) rfl rfl
theorem pb_k9 : Cond.initialized "java/lang/UnsupportedOperationException" ∈ pb_ws := pb_in (i := 25) rfl rfl
theorem pb_k10 : Cond.classLink "PackedBitsLaw" (8 : Nat) "PackedBits" ∈ pb_ws := pb_in (i := 26) rfl rfl
theorem pb_k11 : Cond.instantiable "PackedBits" (3 : Nat) ∈ pb_ws := pb_in (i := 27) rfl rfl
theorem pb_k12 : Cond.methodLink "PackedBitsLaw" (62 : Nat) y_X_init ∈ pb_ws := pb_in (i := 28) rfl rfl
theorem pb_k13 : Cond.instanceMethod y_X_init ∈ pb_ws := pb_in (i := 29) rfl rfl
theorem pb_k14 : Cond.code y_X_init prog_1_method_1_code (1 : Nat) (Option.none : Option Jvm.ClassFile.FieldType) ∈ pb_ws := pb_in (i := 30) rfl rfl
theorem pb_k15 : Cond.methodLink "PackedBits" (1 : Nat) y_Obj_init ∈ pb_ws := pb_in (i := 31) rfl rfl
theorem pb_k16 : Cond.instanceMethod y_Obj_init ∈ pb_ws := pb_in (i := 32) rfl rfl
theorem pb_k17 : Cond.code y_Obj_init object_method_1_code (1 : Nat) (Option.none : Option Jvm.ClassFile.FieldType) ∈ pb_ws := pb_in (i := 33) rfl rfl
theorem pb_k18 : Cond.fieldLink "PackedBits" (9 : Nat) "PackedBits" "out" "[B" ∈ pb_ws := pb_in (i := 34) rfl rfl
theorem pb_k19 : Cond.fieldLink "PackedBits" (54 : Nat) "PackedBits" "at" "I" ∈ pb_ws := pb_in (i := 35) rfl rfl
theorem pb_k20 : Cond.fieldLink "PackedBits" (22 : Nat) "PackedBits" "end" "I" ∈ pb_ws := pb_in (i := 36) rfl rfl
theorem pb_k21 : Cond.laysFinal "PackedBits" "PackedBits" "out" "[B" ∈ pb_ws := pb_in (i := 37) rfl rfl
theorem pb_k22 : Cond.soleField "PackedBits" "out" ∈ pb_ws := pb_in (i := 38) rfl rfl
theorem pb_k23 : Cond.lays "PackedBits" "PackedBits" "at" "I" ∈ pb_ws := pb_in (i := 39) rfl rfl
theorem pb_k24 : Cond.soleField "PackedBits" "at" ∈ pb_ws := pb_in (i := 40) rfl rfl
theorem pb_k25 : Cond.lays "PackedBits" "PackedBits" "end" "I" ∈ pb_ws := pb_in (i := 41) rfl rfl
theorem pb_k26 : Cond.soleField "PackedBits" "end" ∈ pb_ws := pb_in (i := 42) rfl rfl
theorem pb_k27 : Cond.superclass "PackedBits" "java/lang/Object" ∈ pb_ws := pb_in (i := 43) rfl rfl
theorem pb_k28 : Cond.arrayClass Jvm.ClassFile.FieldType.byte ∈ pb_ws := pb_in (i := 44) rfl rfl
theorem pb_k29 : Cond.methodLink "PackedBitsLaw" (68 : Nat) y_L_put ∈ pb_ws := pb_in (i := 45) rfl rfl
theorem pb_k30 : Cond.static y_L_put ∈ pb_ws := pb_in (i := 46) rfl rfl
theorem pb_k31 : Cond.codeWith y_L_put method_3_code (6 : Nat) (Option.some Jvm.ClassFile.FieldType.int) [((0 : Nat), (11 : Nat), (14 : Nat), (13 : Nat)), ((0 : Nat), (11 : Nat), (18 : Nat), (15 : Nat))] ∈ pb_ws := pb_in (i := 47) rfl rfl
theorem pb_k32 : Cond.classLink "PackedBitsLaw" (13 : Nat) "java/lang/IllegalArgumentException" ∈ pb_ws := pb_in (i := 48) rfl rfl
theorem pb_k33 : Cond.classLink "PackedBitsLaw" (15 : Nat) "java/lang/IndexOutOfBoundsException" ∈ pb_ws := pb_in (i := 49) rfl rfl
theorem pb_k34 : Cond.methodLink "PackedBitsLaw" (7 : Nat) y_X_put ∈ pb_ws := pb_in (i := 50) rfl rfl
theorem pb_k35 : Cond.instanceMethod y_X_put ∈ pb_ws := pb_in (i := 51) rfl rfl
theorem pb_k36 : Cond.selects "PackedBits" y_X_put y_X_put ∈ pb_ws := pb_in (i := 52) rfl rfl
theorem pb_k37 : Cond.code y_X_put prog_1_method_8_code (4 : Nat) (Option.some Jvm.ClassFile.FieldType.int) ∈ pb_ws := pb_in (i := 53) rfl rfl
theorem pb_k38 : Cond.methodLink "PackedBits" (30 : Nat) y_X_in ∈ pb_ws := pb_in (i := 54) rfl rfl
theorem pb_k39 : Cond.static y_X_in ∈ pb_ws := pb_in (i := 55) rfl rfl
theorem pb_k40 : Cond.code y_X_in prog_1_method_2_code (1 : Nat) (Option.none : Option Jvm.ClassFile.FieldType) ∈ pb_ws := pb_in (i := 56) rfl rfl
theorem pb_k41 : Cond.classLink "PackedBits" (13 : Nat) "java/lang/IllegalArgumentException" ∈ pb_ws := pb_in (i := 57) rfl rfl
theorem pb_k42 : Cond.instantiable "java/lang/IllegalArgumentException" (6 : Nat) ∈ pb_ws := pb_in (i := 58) rfl rfl
theorem pb_k43 : Cond.castable "java/lang/IllegalArgumentException" "java/lang/IllegalArgumentException" ∈ pb_ws := pb_in (i := 59) rfl rfl
theorem pb_k44 : Cond.declares y_RTE_init ∈ pb_ws := pb_in (i := 60) rfl rfl
theorem pb_k45 : Cond.declares y_RTE_initS ∈ pb_ws := pb_in (i := 61) rfl rfl
theorem pb_k46 : Cond.declares y_Exc_init ∈ pb_ws := pb_in (i := 62) rfl rfl
theorem pb_k47 : Cond.declares y_Exc_initS ∈ pb_ws := pb_in (i := 63) rfl rfl
theorem pb_k48 : Cond.declares y_Thr_init ∈ pb_ws := pb_in (i := 64) rfl rfl
theorem pb_k49 : Cond.declares y_Thr_initS ∈ pb_ws := pb_in (i := 65) rfl rfl
theorem pb_k50 : Cond.selects "java/lang/IllegalArgumentException" y_Thr_fill0 y_Thr_fill0 ∈ pb_ws := pb_in (i := 66) rfl rfl
theorem pb_k51 : Cond.selects "java/lang/IllegalArgumentException" y_Thr_fill y_Thr_fill ∈ pb_ws := pb_in (i := 67) rfl rfl
theorem pb_k52 : Cond.lays "java/lang/IllegalArgumentException" "java/lang/Throwable" "cause" "Ljava/lang/Throwable;" ∈ pb_ws := pb_in (i := 68) rfl rfl
theorem pb_k53 : Cond.lays "java/lang/Throwable" "java/lang/Throwable" "cause" "Ljava/lang/Throwable;" ∈ pb_ws := pb_in (i := 69) rfl rfl
theorem pb_k54 : Cond.lays "java/lang/IllegalArgumentException" "java/lang/Throwable" "stackTrace" "[Ljava/lang/StackTraceElement;" ∈ pb_ws := pb_in (i := 70) rfl rfl
theorem pb_k55 : Cond.lays "java/lang/Throwable" "java/lang/Throwable" "stackTrace" "[Ljava/lang/StackTraceElement;" ∈ pb_ws := pb_in (i := 71) rfl rfl
theorem pb_k56 : Cond.lays "java/lang/IllegalArgumentException" "java/lang/Throwable" "suppressedExceptions" "Ljava/util/List;" ∈ pb_ws := pb_in (i := 72) rfl rfl
theorem pb_k57 : Cond.lays "java/lang/Throwable" "java/lang/Throwable" "suppressedExceptions" "Ljava/util/List;" ∈ pb_ws := pb_in (i := 73) rfl rfl
theorem pb_k58 : Cond.lays "java/lang/IllegalArgumentException" "java/lang/Throwable" "detailMessage" "Ljava/lang/String;" ∈ pb_ws := pb_in (i := 74) rfl rfl
theorem pb_k59 : Cond.lays "java/lang/Throwable" "java/lang/Throwable" "detailMessage" "Ljava/lang/String;" ∈ pb_ws := pb_in (i := 75) rfl rfl
theorem pb_k60 : Cond.lays "java/lang/IllegalArgumentException" "java/lang/Throwable" "backtrace" "Ljava/lang/Object;" ∈ pb_ws := pb_in (i := 76) rfl rfl
theorem pb_k61 : Cond.lays "java/lang/Throwable" "java/lang/Throwable" "backtrace" "Ljava/lang/Object;" ∈ pb_ws := pb_in (i := 77) rfl rfl
theorem pb_k62 : Cond.fieldLink "java/lang/Throwable" (198 : Nat) "java/lang/Throwable" "backtrace" "Ljava/lang/Object;" ∈ pb_ws := pb_in (i := 78) rfl rfl
theorem pb_k63 : Cond.superclass "java/lang/Throwable" "java/lang/Object" ∈ pb_ws := pb_in (i := 79) rfl rfl
theorem pb_k64 : Cond.instanceMethod y_Thr_init ∈ pb_ws := pb_in (i := 80) rfl rfl
theorem pb_k65 : Cond.code y_Thr_init prog_9_method_1_code (1 : Nat) (Option.none : Option Jvm.ClassFile.FieldType) ∈ pb_ws := pb_in (i := 81) rfl rfl
theorem pb_k66 : Cond.methodLink "java/lang/Throwable" (1 : Nat) y_Obj_init ∈ pb_ws := pb_in (i := 82) rfl rfl
theorem pb_k67 : Cond.fieldLink "java/lang/Throwable" (13 : Nat) "java/lang/Throwable" "UNASSIGNED_STACK" "[Ljava/lang/StackTraceElement;" ∈ pb_ws := pb_in (i := 83) rfl rfl
theorem pb_k69 : Cond.fieldLink "java/lang/Throwable" (20 : Nat) "java/lang/Throwable" "SUPPRESSED_SENTINEL" "Ljava/util/List;" ∈ pb_ws := pb_in (i := 85) rfl rfl
theorem pb_k71 : Cond.methodLink "java/lang/Throwable" (27 : Nat) y_Thr_fill ∈ pb_ws := pb_in (i := 87) rfl rfl
theorem pb_k72 : Cond.instanceMethod y_Thr_fill ∈ pb_ws := pb_in (i := 88) rfl rfl
theorem pb_k73 : Cond.sameMethod "java/lang/Throwable" "java/lang/Throwable" "fillInStackTrace" "()Ljava/lang/Throwable;" ∈ pb_ws := pb_in (i := 89) rfl rfl
theorem pb_k74 : Cond.selects "java/lang/IndexOutOfBoundsException" y_Thr_fill y_Thr_fill ∈ pb_ws := pb_in (i := 90) rfl rfl
theorem pb_k75 : Cond.selects "java/lang/UnsupportedOperationException" y_Thr_fill y_Thr_fill ∈ pb_ws := pb_in (i := 91) rfl rfl
theorem pb_k76 : Cond.codeSync y_Thr_fill prog_9_method_18_code (1 : Nat) (Option.some (Jvm.ClassFile.FieldType.object "java/lang/Throwable")) ∈ pb_ws := pb_in (i := 92) rfl rfl
theorem pb_k77 : Cond.methodLink "java/lang/Throwable" (202 : Nat) y_Thr_fill0 ∈ pb_ws := pb_in (i := 93) rfl rfl
theorem pb_k78 : Cond.privateMethod y_Thr_fill0 ∈ pb_ws := pb_in (i := 94) rfl rfl
theorem pb_k79 : Cond.instanceMethod y_Thr_fill0 ∈ pb_ws := pb_in (i := 95) rfl rfl
theorem pb_k80 : Cond.instantiable "java/lang/Throwable" (6 : Nat) ∈ pb_ws := pb_in (i := 96) rfl rfl
theorem pb_k81 : Cond.native y_Thr_fill0 ∈ pb_ws := pb_in (i := 97) rfl rfl
theorem pb_k82 : Cond.methodLink "PackedBits" (15 : Nat) y_IAE_init ∈ pb_ws := pb_in (i := 98) rfl rfl
theorem pb_k83 : Cond.instanceMethod y_IAE_init ∈ pb_ws := pb_in (i := 99) rfl rfl
theorem pb_k84 : Cond.code y_IAE_init prog_5_method_1_code (1 : Nat) (Option.none : Option Jvm.ClassFile.FieldType) ∈ pb_ws := pb_in (i := 100) rfl rfl
theorem pb_k85 : Cond.methodLink "java/lang/IllegalArgumentException" (1 : Nat) y_RTE_init ∈ pb_ws := pb_in (i := 101) rfl rfl
theorem pb_k86 : Cond.instanceMethod y_RTE_init ∈ pb_ws := pb_in (i := 102) rfl rfl
theorem pb_k87 : Cond.code y_RTE_init prog_8_method_1_code (1 : Nat) (Option.none : Option Jvm.ClassFile.FieldType) ∈ pb_ws := pb_in (i := 103) rfl rfl
theorem pb_k88 : Cond.methodLink "java/lang/RuntimeException" (1 : Nat) y_Exc_init ∈ pb_ws := pb_in (i := 104) rfl rfl
theorem pb_k89 : Cond.instanceMethod y_Exc_init ∈ pb_ws := pb_in (i := 105) rfl rfl
theorem pb_k90 : Cond.code y_Exc_init prog_4_method_1_code (1 : Nat) (Option.none : Option Jvm.ClassFile.FieldType) ∈ pb_ws := pb_in (i := 106) rfl rfl
theorem pb_k91 : Cond.methodLink "java/lang/Exception" (1 : Nat) y_Thr_init ∈ pb_ws := pb_in (i := 107) rfl rfl
theorem pb_k93 : Cond.fieldLink "java/lang/Throwable" (7 : Nat) "java/lang/Throwable" "cause" "Ljava/lang/Throwable;" ∈ pb_ws := pb_in (i := 109) rfl rfl
theorem pb_k94 : Cond.fieldLink "java/lang/Throwable" (17 : Nat) "java/lang/Throwable" "stackTrace" "[Ljava/lang/StackTraceElement;" ∈ pb_ws := pb_in (i := 110) rfl rfl
theorem pb_k95 : Cond.fieldLink "java/lang/Throwable" (24 : Nat) "java/lang/Throwable" "suppressedExceptions" "Ljava/util/List;" ∈ pb_ws := pb_in (i := 111) rfl rfl
theorem pb_k96 : Cond.soleField "java/lang/Throwable" "backtrace" ∈ pb_ws := pb_in (i := 112) rfl rfl
theorem pb_k97 : Cond.soleField "java/lang/Throwable" "detailMessage" ∈ pb_ws := pb_in (i := 113) rfl rfl
theorem pb_k98 : Cond.soleField "java/lang/Throwable" "cause" ∈ pb_ws := pb_in (i := 114) rfl rfl
theorem pb_k99 : Cond.soleField "java/lang/Throwable" "stackTrace" ∈ pb_ws := pb_in (i := 115) rfl rfl
theorem pb_k100 : Cond.lays "java/lang/IllegalArgumentException" "java/lang/Throwable" "depth" "I" ∈ pb_ws := pb_in (i := 116) rfl rfl
theorem pb_k101 : Cond.soleField "java/lang/Throwable" "depth" ∈ pb_ws := pb_in (i := 117) rfl rfl
theorem pb_k102 : Cond.soleField "java/lang/Throwable" "suppressedExceptions" ∈ pb_ws := pb_in (i := 118) rfl rfl
theorem pb_k103 : Cond.superclass "java/lang/IllegalArgumentException" "java/lang/RuntimeException" ∈ pb_ws := pb_in (i := 119) rfl rfl
theorem pb_k104 : Cond.constant "PackedBits" (33 : Nat) (65536 : Int32) ∈ pb_ws := pb_in (i := 120) rfl rfl
theorem pb_k105 : Cond.methodLink "PackedBits" (34 : Nat) y_X_room ∈ pb_ws := pb_in (i := 121) rfl rfl
theorem pb_k106 : Cond.static y_X_room ∈ pb_ws := pb_in (i := 122) rfl rfl
theorem pb_k107 : Cond.code y_X_room prog_1_method_4_code (1 : Nat) (Option.none : Option Jvm.ClassFile.FieldType) ∈ pb_ws := pb_in (i := 123) rfl rfl
theorem pb_k108 : Cond.classLink "PackedBits" (19 : Nat) "java/lang/IndexOutOfBoundsException" ∈ pb_ws := pb_in (i := 124) rfl rfl
theorem pb_k109 : Cond.instantiable "java/lang/IndexOutOfBoundsException" (6 : Nat) ∈ pb_ws := pb_in (i := 125) rfl rfl
theorem pb_k110 : Cond.castable "java/lang/IndexOutOfBoundsException" "java/lang/IndexOutOfBoundsException" ∈ pb_ws := pb_in (i := 126) rfl rfl
theorem pb_k111 : Cond.selects "java/lang/IndexOutOfBoundsException" y_Thr_fill0 y_Thr_fill0 ∈ pb_ws := pb_in (i := 127) rfl rfl
theorem pb_k112 : Cond.lays "java/lang/IndexOutOfBoundsException" "java/lang/Throwable" "cause" "Ljava/lang/Throwable;" ∈ pb_ws := pb_in (i := 128) rfl rfl
theorem pb_k113 : Cond.lays "java/lang/IndexOutOfBoundsException" "java/lang/Throwable" "stackTrace" "[Ljava/lang/StackTraceElement;" ∈ pb_ws := pb_in (i := 129) rfl rfl
theorem pb_k114 : Cond.lays "java/lang/IndexOutOfBoundsException" "java/lang/Throwable" "suppressedExceptions" "Ljava/util/List;" ∈ pb_ws := pb_in (i := 130) rfl rfl
theorem pb_k115 : Cond.lays "java/lang/IndexOutOfBoundsException" "java/lang/Throwable" "detailMessage" "Ljava/lang/String;" ∈ pb_ws := pb_in (i := 131) rfl rfl
theorem pb_k116 : Cond.lays "java/lang/IndexOutOfBoundsException" "java/lang/Throwable" "backtrace" "Ljava/lang/Object;" ∈ pb_ws := pb_in (i := 132) rfl rfl
theorem pb_k117 : Cond.methodLink "PackedBits" (21 : Nat) y_IOB_init ∈ pb_ws := pb_in (i := 133) rfl rfl
theorem pb_k118 : Cond.instanceMethod y_IOB_init ∈ pb_ws := pb_in (i := 134) rfl rfl
theorem pb_k119 : Cond.code y_IOB_init prog_6_method_1_code (1 : Nat) (Option.none : Option Jvm.ClassFile.FieldType) ∈ pb_ws := pb_in (i := 135) rfl rfl
theorem pb_k120 : Cond.methodLink "java/lang/IndexOutOfBoundsException" (1 : Nat) y_RTE_init ∈ pb_ws := pb_in (i := 136) rfl rfl
theorem pb_k121 : Cond.lays "java/lang/IndexOutOfBoundsException" "java/lang/Throwable" "depth" "I" ∈ pb_ws := pb_in (i := 137) rfl rfl
theorem pb_k122 : Cond.superclass "java/lang/IndexOutOfBoundsException" "java/lang/RuntimeException" ∈ pb_ws := pb_in (i := 138) rfl rfl
theorem pb_k123 : Cond.methodLink "PackedBits" (37 : Nat) y_X_bits ∈ pb_ws := pb_in (i := 139) rfl rfl
theorem pb_k124 : Cond.privateMethod y_X_bits ∈ pb_ws := pb_in (i := 140) rfl rfl
theorem pb_k125 : Cond.instanceMethod y_X_bits ∈ pb_ws := pb_in (i := 141) rfl rfl
theorem pb_k126 : Cond.code y_X_bits prog_1_method_7_code (5 : Nat) (Option.some Jvm.ClassFile.FieldType.int) ∈ pb_ws := pb_in (i := 142) rfl rfl
theorem pb_k127 : Cond.methodLink "PackedBits" (26 : Nat) y_X_bit ∈ pb_ws := pb_in (i := 143) rfl rfl
theorem pb_k128 : Cond.privateMethod y_X_bit ∈ pb_ws := pb_in (i := 144) rfl rfl
theorem pb_k129 : Cond.instanceMethod y_X_bit ∈ pb_ws := pb_in (i := 145) rfl rfl
theorem pb_k130 : Cond.code y_X_bit prog_1_method_6_code (3 : Nat) (Option.none : Option Jvm.ClassFile.FieldType) ∈ pb_ws := pb_in (i := 146) rfl rfl
theorem pb_k131 : Cond.methodLink "PackedBitsLaw" (77 : Nat) y_L_putRange ∈ pb_ws := pb_in (i := 147) rfl rfl
theorem pb_k132 : Cond.static y_L_putRange ∈ pb_ws := pb_in (i := 148) rfl rfl
theorem pb_k133 : Cond.codeWith y_L_putRange method_4_code (9 : Nat) (Option.some Jvm.ClassFile.FieldType.int) [((0 : Nat), (13 : Nat), (16 : Nat), (13 : Nat)), ((0 : Nat), (13 : Nat), (20 : Nat), (15 : Nat))] ∈ pb_ws := pb_in (i := 149) rfl rfl
theorem pb_k134 : Cond.methodLink "PackedBitsLaw" (17 : Nat) y_X_putRange ∈ pb_ws := pb_in (i := 150) rfl rfl
theorem pb_k135 : Cond.instanceMethod y_X_putRange ∈ pb_ws := pb_in (i := 151) rfl rfl
theorem pb_k136 : Cond.selects "PackedBits" y_X_putRange y_X_putRange ∈ pb_ws := pb_in (i := 152) rfl rfl
theorem pb_k137 : Cond.code y_X_putRange prog_1_method_9_code (8 : Nat) (Option.some Jvm.ClassFile.FieldType.int) ∈ pb_ws := pb_in (i := 153) rfl rfl
theorem pb_k138 : Cond.methodLink "PackedBits" (41 : Nat) y_X_fieldBits ∈ pb_ws := pb_in (i := 154) rfl rfl
theorem pb_k139 : Cond.static y_X_fieldBits ∈ pb_ws := pb_in (i := 155) rfl rfl
theorem pb_k140 : Cond.code y_X_fieldBits prog_1_method_5_code (3 : Nat) (Option.some Jvm.ClassFile.FieldType.int) ∈ pb_ws := pb_in (i := 156) rfl rfl
theorem pb_k141 : Cond.methodLink "PackedBitsLaw" (81 : Nat) y_L_putLength ∈ pb_ws := pb_in (i := 157) rfl rfl
theorem pb_k142 : Cond.static y_L_putLength ∈ pb_ws := pb_in (i := 158) rfl rfl
theorem pb_k143 : Cond.codeWith y_L_putLength method_5_code (4 : Nat) (Option.some Jvm.ClassFile.FieldType.int) [((0 : Nat), (9 : Nat), (12 : Nat), (13 : Nat)), ((0 : Nat), (9 : Nat), (15 : Nat), (15 : Nat))] ∈ pb_ws := pb_in (i := 159) rfl rfl
theorem pb_k144 : Cond.methodLink "PackedBitsLaw" (21 : Nat) y_X_putLength ∈ pb_ws := pb_in (i := 160) rfl rfl
theorem pb_k145 : Cond.instanceMethod y_X_putLength ∈ pb_ws := pb_in (i := 161) rfl rfl
theorem pb_k146 : Cond.selects "PackedBits" y_X_putLength y_X_putLength ∈ pb_ws := pb_in (i := 162) rfl rfl
theorem pb_k147 : Cond.code y_X_putLength prog_1_method_10_code (3 : Nat) (Option.some Jvm.ClassFile.FieldType.int) ∈ pb_ws := pb_in (i := 163) rfl rfl
theorem pb_k148 : Cond.constant "PackedBits" (45 : Nat) (32768 : Int32) ∈ pb_ws := pb_in (i := 164) rfl rfl
theorem pb_k149 : Cond.methodLink "PackedBitsLaw" (85 : Nat) y_L_putNumber ∈ pb_ws := pb_in (i := 165) rfl rfl
theorem pb_k150 : Cond.static y_L_putNumber ∈ pb_ws := pb_in (i := 166) rfl rfl
theorem pb_k151 : Cond.codeWith y_L_putNumber method_6_code (6 : Nat) (Option.some Jvm.ClassFile.FieldType.int) [((0 : Nat), (11 : Nat), (14 : Nat), (13 : Nat)), ((0 : Nat), (11 : Nat), (18 : Nat), (15 : Nat))] ∈ pb_ws := pb_in (i := 167) rfl rfl
theorem pb_k152 : Cond.methodLink "PackedBitsLaw" (25 : Nat) y_X_putNumber ∈ pb_ws := pb_in (i := 168) rfl rfl
theorem pb_k153 : Cond.instanceMethod y_X_putNumber ∈ pb_ws := pb_in (i := 169) rfl rfl
theorem pb_k154 : Cond.selects "PackedBits" y_X_putNumber y_X_putNumber ∈ pb_ws := pb_in (i := 170) rfl rfl
theorem pb_k155 : Cond.code y_X_putNumber prog_1_method_12_code (5 : Nat) (Option.some Jvm.ClassFile.FieldType.int) ∈ pb_ws := pb_in (i := 171) rfl rfl
theorem pb_k156 : Cond.constantLong "PackedBits" (48 : Nat) (64 : Int64) ∈ pb_ws := pb_in (i := 172) rfl rfl
theorem pb_k157 : Cond.methodLink "PackedBits" (50 : Nat) y_X_bytes ∈ pb_ws := pb_in (i := 173) rfl rfl
theorem pb_k158 : Cond.static y_X_bytes ∈ pb_ws := pb_in (i := 174) rfl rfl
theorem pb_k159 : Cond.code y_X_bytes prog_1_method_11_code (4 : Nat) (Option.some Jvm.ClassFile.FieldType.int) ∈ pb_ws := pb_in (i := 175) rfl rfl
theorem pb_k160 : Cond.constantLong "PackedBits" (46 : Nat) (-1 : Int64) ∈ pb_ws := pb_in (i := 176) rfl rfl
theorem pb_k161 : Cond.methodLink "PackedBitsLaw" (89 : Nat) y_L_fill ∈ pb_ws := pb_in (i := 177) rfl rfl
theorem pb_k162 : Cond.static y_L_fill ∈ pb_ws := pb_in (i := 178) rfl rfl
theorem pb_k163 : Cond.codeWith y_L_fill method_7_code (3 : Nat) (Option.some Jvm.ClassFile.FieldType.int) [((0 : Nat), (8 : Nat), (11 : Nat), (15 : Nat))] ∈ pb_ws := pb_in (i := 179) rfl rfl
theorem pb_k164 : Cond.methodLink "PackedBitsLaw" (29 : Nat) y_X_fill ∈ pb_ws := pb_in (i := 180) rfl rfl
theorem pb_k165 : Cond.instanceMethod y_X_fill ∈ pb_ws := pb_in (i := 181) rfl rfl
theorem pb_k166 : Cond.selects "PackedBits" y_X_fill y_X_fill ∈ pb_ws := pb_in (i := 182) rfl rfl
theorem pb_k167 : Cond.code y_X_fill prog_1_method_13_code (1 : Nat) (Option.some Jvm.ClassFile.FieldType.int) ∈ pb_ws := pb_in (i := 183) rfl rfl
theorem pb_k168 : Cond.methodLink "PackedBitsLaw" (93 : Nat) y_L_take ∈ pb_ws := pb_in (i := 184) rfl rfl
theorem pb_k169 : Cond.static y_L_take ∈ pb_ws := pb_in (i := 185) rfl rfl
theorem pb_k170 : Cond.codeWith y_L_take method_8_code (4 : Nat) (Option.some Jvm.ClassFile.FieldType.int) [((0 : Nat), (8 : Nat), (11 : Nat), (13 : Nat)), ((0 : Nat), (8 : Nat), (14 : Nat), (37 : Nat))] ∈ pb_ws := pb_in (i := 186) rfl rfl
theorem pb_k171 : Cond.classLink "PackedBitsLaw" (37 : Nat) "java/lang/UnsupportedOperationException" ∈ pb_ws := pb_in (i := 187) rfl rfl
theorem pb_k172 : Cond.methodLink "PackedBitsLaw" (33 : Nat) y_X_take ∈ pb_ws := pb_in (i := 188) rfl rfl
theorem pb_k173 : Cond.instanceMethod y_X_take ∈ pb_ws := pb_in (i := 189) rfl rfl
theorem pb_k174 : Cond.selects "PackedBits" y_X_take y_X_take ∈ pb_ws := pb_in (i := 190) rfl rfl
theorem pb_k175 : Cond.code y_X_take prog_1_method_15_code (2 : Nat) (Option.some Jvm.ClassFile.FieldType.long) ∈ pb_ws := pb_in (i := 191) rfl rfl
theorem pb_k176 : Cond.methodLink "PackedBits" (60 : Nat) y_X_read ∈ pb_ws := pb_in (i := 192) rfl rfl
theorem pb_k177 : Cond.privateMethod y_X_read ∈ pb_ws := pb_in (i := 193) rfl rfl
theorem pb_k178 : Cond.instanceMethod y_X_read ∈ pb_ws := pb_in (i := 194) rfl rfl
theorem pb_k179 : Cond.code y_X_read prog_1_method_14_code (5 : Nat) (Option.some Jvm.ClassFile.FieldType.long) ∈ pb_ws := pb_in (i := 195) rfl rfl
theorem pb_k180 : Cond.methodLink "PackedBits" (57 : Nat) y_X_need ∈ pb_ws := pb_in (i := 196) rfl rfl
theorem pb_k181 : Cond.static y_X_need ∈ pb_ws := pb_in (i := 197) rfl rfl
theorem pb_k182 : Cond.code y_X_need prog_1_method_3_code (1 : Nat) (Option.none : Option Jvm.ClassFile.FieldType) ∈ pb_ws := pb_in (i := 198) rfl rfl
theorem pb_k183 : Cond.classLink "PackedBits" (16 : Nat) "java/lang/UnsupportedOperationException" ∈ pb_ws := pb_in (i := 199) rfl rfl
theorem pb_k184 : Cond.instantiable "java/lang/UnsupportedOperationException" (6 : Nat) ∈ pb_ws := pb_in (i := 200) rfl rfl
theorem pb_k185 : Cond.castable "java/lang/UnsupportedOperationException" "java/lang/UnsupportedOperationException" ∈ pb_ws := pb_in (i := 201) rfl rfl
theorem pb_k186 : Cond.selects "java/lang/UnsupportedOperationException" y_Thr_fill0 y_Thr_fill0 ∈ pb_ws := pb_in (i := 202) rfl rfl
theorem pb_k187 : Cond.lays "java/lang/UnsupportedOperationException" "java/lang/Throwable" "cause" "Ljava/lang/Throwable;" ∈ pb_ws := pb_in (i := 203) rfl rfl
theorem pb_k188 : Cond.lays "java/lang/UnsupportedOperationException" "java/lang/Throwable" "stackTrace" "[Ljava/lang/StackTraceElement;" ∈ pb_ws := pb_in (i := 204) rfl rfl
theorem pb_k189 : Cond.lays "java/lang/UnsupportedOperationException" "java/lang/Throwable" "suppressedExceptions" "Ljava/util/List;" ∈ pb_ws := pb_in (i := 205) rfl rfl
theorem pb_k190 : Cond.lays "java/lang/UnsupportedOperationException" "java/lang/Throwable" "detailMessage" "Ljava/lang/String;" ∈ pb_ws := pb_in (i := 206) rfl rfl
theorem pb_k191 : Cond.lays "java/lang/UnsupportedOperationException" "java/lang/Throwable" "backtrace" "Ljava/lang/Object;" ∈ pb_ws := pb_in (i := 207) rfl rfl
theorem pb_k192 : Cond.methodLink "PackedBits" (18 : Nat) y_UOE_init ∈ pb_ws := pb_in (i := 208) rfl rfl
theorem pb_k193 : Cond.instanceMethod y_UOE_init ∈ pb_ws := pb_in (i := 209) rfl rfl
theorem pb_k194 : Cond.code y_UOE_init prog_10_method_1_code (1 : Nat) (Option.none : Option Jvm.ClassFile.FieldType) ∈ pb_ws := pb_in (i := 210) rfl rfl
theorem pb_k195 : Cond.methodLink "java/lang/UnsupportedOperationException" (1 : Nat) y_RTE_init ∈ pb_ws := pb_in (i := 211) rfl rfl
theorem pb_k196 : Cond.lays "java/lang/UnsupportedOperationException" "java/lang/Throwable" "depth" "I" ∈ pb_ws := pb_in (i := 212) rfl rfl
theorem pb_k197 : Cond.superclass "java/lang/UnsupportedOperationException" "java/lang/RuntimeException" ∈ pb_ws := pb_in (i := 213) rfl rfl
theorem pb_k198 : Cond.methodLink "PackedBitsLaw" (96 : Nat) y_L_takeRange ∈ pb_ws := pb_in (i := 214) rfl rfl
theorem pb_k199 : Cond.static y_L_takeRange ∈ pb_ws := pb_in (i := 215) rfl rfl
theorem pb_k200 : Cond.codeWith y_L_takeRange method_9_code (7 : Nat) (Option.some Jvm.ClassFile.FieldType.int) [((0 : Nat), (10 : Nat), (13 : Nat), (13 : Nat)), ((0 : Nat), (10 : Nat), (17 : Nat), (37 : Nat))] ∈ pb_ws := pb_in (i := 216) rfl rfl
theorem pb_k201 : Cond.methodLink "PackedBitsLaw" (39 : Nat) y_X_takeRange ∈ pb_ws := pb_in (i := 217) rfl rfl
theorem pb_k202 : Cond.instanceMethod y_X_takeRange ∈ pb_ws := pb_in (i := 218) rfl rfl
theorem pb_k203 : Cond.selects "PackedBits" y_X_takeRange y_X_takeRange ∈ pb_ws := pb_in (i := 219) rfl rfl
theorem pb_k204 : Cond.code y_X_takeRange prog_1_method_16_code (10 : Nat) (Option.some Jvm.ClassFile.FieldType.long) ∈ pb_ws := pb_in (i := 220) rfl rfl
theorem pb_k205 : Cond.constantLong "PackedBits" (66 : Nat) (-9223372036854775808 : Int64) ∈ pb_ws := pb_in (i := 221) rfl rfl
theorem pb_k206 : Cond.methodLink "PackedBitsLaw" (100 : Nat) y_L_takeLength ∈ pb_ws := pb_in (i := 222) rfl rfl
theorem pb_k207 : Cond.static y_L_takeLength ∈ pb_ws := pb_in (i := 223) rfl rfl
theorem pb_k208 : Cond.codeWith y_L_takeLength method_10_code (3 : Nat) (Option.some Jvm.ClassFile.FieldType.int) [((0 : Nat), (8 : Nat), (11 : Nat), (37 : Nat))] ∈ pb_ws := pb_in (i := 224) rfl rfl
theorem pb_k209 : Cond.methodLink "PackedBitsLaw" (43 : Nat) y_X_takeLength ∈ pb_ws := pb_in (i := 225) rfl rfl
theorem pb_k210 : Cond.instanceMethod y_X_takeLength ∈ pb_ws := pb_in (i := 226) rfl rfl
theorem pb_k211 : Cond.selects "PackedBits" y_X_takeLength y_X_takeLength ∈ pb_ws := pb_in (i := 227) rfl rfl
theorem pb_k212 : Cond.codeWith y_X_takeLength prog_1_method_18_code (3 : Nat) (Option.some Jvm.ClassFile.FieldType.int) [((5 : Nat), (9 : Nat), (10 : Nat), (16 : Nat))] ∈ pb_ws := pb_in (i := 228) rfl rfl
theorem pb_k213 : Cond.methodLink "PackedBits" (68 : Nat) y_X_length ∈ pb_ws := pb_in (i := 229) rfl rfl
theorem pb_k214 : Cond.privateMethod y_X_length ∈ pb_ws := pb_in (i := 230) rfl rfl
theorem pb_k215 : Cond.instanceMethod y_X_length ∈ pb_ws := pb_in (i := 231) rfl rfl
theorem pb_k216 : Cond.code y_X_length prog_1_method_17_code (2 : Nat) (Option.some Jvm.ClassFile.FieldType.int) ∈ pb_ws := pb_in (i := 232) rfl rfl
theorem pb_k217 : Cond.methodLink "PackedBitsLaw" (103 : Nat) y_L_takeNumber ∈ pb_ws := pb_in (i := 233) rfl rfl
theorem pb_k218 : Cond.static y_L_takeNumber ∈ pb_ws := pb_in (i := 234) rfl rfl
theorem pb_k219 : Cond.codeWith y_L_takeNumber method_11_code (4 : Nat) (Option.some Jvm.ClassFile.FieldType.int) [((0 : Nat), (8 : Nat), (11 : Nat), (13 : Nat)), ((0 : Nat), (8 : Nat), (14 : Nat), (37 : Nat))] ∈ pb_ws := pb_in (i := 235) rfl rfl
theorem pb_k220 : Cond.methodLink "PackedBitsLaw" (46 : Nat) y_X_takeNumber ∈ pb_ws := pb_in (i := 236) rfl rfl
theorem pb_k221 : Cond.instanceMethod y_X_takeNumber ∈ pb_ws := pb_in (i := 237) rfl rfl
theorem pb_k222 : Cond.selects "PackedBits" y_X_takeNumber y_X_takeNumber ∈ pb_ws := pb_in (i := 238) rfl rfl
theorem pb_k223 : Cond.codeWith y_X_takeNumber prog_1_method_20_code (4 : Nat) (Option.some Jvm.ClassFile.FieldType.long) [((22 : Nat), (27 : Nat), (28 : Nat), (16 : Nat))] ∈ pb_ws := pb_in (i := 239) rfl rfl
theorem pb_k224 : Cond.methodLink "PackedBits" (74 : Nat) y_X_number ∈ pb_ws := pb_in (i := 240) rfl rfl
theorem pb_k225 : Cond.privateMethod y_X_number ∈ pb_ws := pb_in (i := 241) rfl rfl
theorem pb_k226 : Cond.instanceMethod y_X_number ∈ pb_ws := pb_in (i := 242) rfl rfl
theorem pb_k227 : Cond.code y_X_number prog_1_method_19_code (5 : Nat) (Option.some Jvm.ClassFile.FieldType.long) ∈ pb_ws := pb_in (i := 243) rfl rfl
theorem pb_k228 : Cond.constantLong "PackedBits" (72 : Nat) (63 : Int64) ∈ pb_ws := pb_in (i := 244) rfl rfl
theorem pb_k229 : Cond.methodLink "PackedBitsLaw" (106 : Nat) y_L_go ∈ pb_ws := pb_in (i := 245) rfl rfl
theorem pb_k230 : Cond.static y_L_go ∈ pb_ws := pb_in (i := 246) rfl rfl
theorem pb_k231 : Cond.codeWith y_L_go method_12_code (4 : Nat) (Option.some Jvm.ClassFile.FieldType.int) [((0 : Nat), (9 : Nat), (12 : Nat), (13 : Nat))] ∈ pb_ws := pb_in (i := 247) rfl rfl
theorem pb_k232 : Cond.methodLink "PackedBitsLaw" (49 : Nat) y_X_go ∈ pb_ws := pb_in (i := 248) rfl rfl
theorem pb_k233 : Cond.instanceMethod y_X_go ∈ pb_ws := pb_in (i := 249) rfl rfl
theorem pb_k234 : Cond.selects "PackedBits" y_X_go y_X_go ∈ pb_ws := pb_in (i := 250) rfl rfl
theorem pb_k235 : Cond.code y_X_go prog_1_method_21_code (3 : Nat) (Option.some Jvm.ClassFile.FieldType.int) ∈ pb_ws := pb_in (i := 251) rfl rfl
theorem pb_k236 : Cond.methodLink "PackedBitsLaw" (109 : Nat) y_L_turn ∈ pb_ws := pb_in (i := 252) rfl rfl
theorem pb_k237 : Cond.static y_L_turn ∈ pb_ws := pb_in (i := 253) rfl rfl
theorem pb_k238 : Cond.codeWith y_L_turn method_13_code (4 : Nat) (Option.some Jvm.ClassFile.FieldType.int) [((0 : Nat), (16 : Nat), (19 : Nat), (13 : Nat))] ∈ pb_ws := pb_in (i := 254) rfl rfl
theorem pb_k239 : Cond.methodLink "PackedBitsLaw" (52 : Nat) y_X_turn ∈ pb_ws := pb_in (i := 255) rfl rfl
theorem pb_k240 : Cond.instanceMethod y_X_turn ∈ pb_ws := pb_in (i := 256) rfl rfl
theorem pb_k241 : Cond.selects "PackedBits" y_X_turn y_X_turn ∈ pb_ws := pb_in (i := 257) rfl rfl
theorem pb_k242 : Cond.code y_X_turn prog_1_method_22_code (2 : Nat) (Option.some Jvm.ClassFile.FieldType.boolean) ∈ pb_ws := pb_in (i := 258) rfl rfl
theorem pb_k243 : Cond.methodLink "PackedBitsLaw" (112 : Nat) y_L_cut ∈ pb_ws := pb_in (i := 259) rfl rfl
theorem pb_k244 : Cond.static y_L_cut ∈ pb_ws := pb_in (i := 260) rfl rfl
theorem pb_k245 : Cond.codeWith y_L_cut method_14_code (4 : Nat) (Option.some Jvm.ClassFile.FieldType.int) [((0 : Nat), (9 : Nat), (12 : Nat), (13 : Nat))] ∈ pb_ws := pb_in (i := 261) rfl rfl
theorem pb_k246 : Cond.methodLink "PackedBitsLaw" (56 : Nat) y_X_cut ∈ pb_ws := pb_in (i := 262) rfl rfl
theorem pb_k247 : Cond.instanceMethod y_X_cut ∈ pb_ws := pb_in (i := 263) rfl rfl
theorem pb_k248 : Cond.selects "PackedBits" y_X_cut y_X_cut ∈ pb_ws := pb_in (i := 264) rfl rfl
theorem pb_k249 : Cond.code y_X_cut prog_1_method_23_code (3 : Nat) (Option.some Jvm.ClassFile.FieldType.int) ∈ pb_ws := pb_in (i := 265) rfl rfl
theorem pb_k250 : Cond.methodLink "PackedBitsLaw" (115 : Nat) y_L_count ∈ pb_ws := pb_in (i := 266) rfl rfl
theorem pb_k251 : Cond.static y_L_count ∈ pb_ws := pb_in (i := 267) rfl rfl
theorem pb_k252 : Cond.codeWith y_L_count method_15_code (4 : Nat) (Option.some Jvm.ClassFile.FieldType.int) [((0 : Nat), (9 : Nat), (12 : Nat), (13 : Nat))] ∈ pb_ws := pb_in (i := 268) rfl rfl
theorem pb_k253 : Cond.methodLink "PackedBitsLaw" (59 : Nat) y_X_count ∈ pb_ws := pb_in (i := 269) rfl rfl
theorem pb_k254 : Cond.instanceMethod y_X_count ∈ pb_ws := pb_in (i := 270) rfl rfl
theorem pb_k255 : Cond.selects "PackedBits" y_X_count y_X_count ∈ pb_ws := pb_in (i := 271) rfl rfl
theorem pb_k256 : Cond.code y_X_count prog_1_method_24_code (2 : Nat) (Option.some Jvm.ClassFile.FieldType.int) ∈ pb_ws := pb_in (i := 272) rfl rfl
theorem pb_k257 : Cond.classLink "PackedBitsLaw" (63 : Nat) "PackedBitsModel" ∈ pb_ws := pb_in (i := 273) rfl rfl
theorem pb_k258 : Cond.instantiable "PackedBitsModel" (6 : Nat) ∈ pb_ws := pb_in (i := 274) rfl rfl
theorem pb_k259 : Cond.methodLink "PackedBitsLaw" (65 : Nat) y_M_init ∈ pb_ws := pb_in (i := 275) rfl rfl
theorem pb_k260 : Cond.instanceMethod y_M_init ∈ pb_ws := pb_in (i := 276) rfl rfl
theorem pb_k261 : Cond.code y_M_init prog_3_method_1_code (1 : Nat) (Option.none : Option Jvm.ClassFile.FieldType) ∈ pb_ws := pb_in (i := 277) rfl rfl
theorem pb_k262 : Cond.methodLink "PackedBitsModel" (1 : Nat) y_Obj_init ∈ pb_ws := pb_in (i := 278) rfl rfl
theorem pb_k263 : Cond.constant "PackedBitsModel" (7 : Nat) (65536 : Int32) ∈ pb_ws := pb_in (i := 279) rfl rfl
theorem pb_k264 : Cond.fieldLink "PackedBitsModel" (14 : Nat) "PackedBitsModel" "failed" "I" ∈ pb_ws := pb_in (i := 280) rfl rfl
theorem pb_k265 : Cond.fieldLink "PackedBitsModel" (8 : Nat) "PackedBitsModel" "row" "[Z" ∈ pb_ws := pb_in (i := 281) rfl rfl
theorem pb_k266 : Cond.fieldLink "PackedBitsModel" (24 : Nat) "PackedBitsModel" "size" "I" ∈ pb_ws := pb_in (i := 282) rfl rfl
theorem pb_k267 : Cond.fieldLink "PackedBitsModel" (64 : Nat) "PackedBitsModel" "place" "I" ∈ pb_ws := pb_in (i := 283) rfl rfl
theorem pb_k268 : Cond.fieldLink "PackedBitsModel" (57 : Nat) "PackedBitsModel" "reading" "I" ∈ pb_ws := pb_in (i := 284) rfl rfl
theorem pb_k269 : Cond.fieldLink "PackedBitsModel" (60 : Nat) "PackedBitsModel" "good" "Z" ∈ pb_ws := pb_in (i := 285) rfl rfl
theorem pb_k270 : Cond.lays "PackedBitsModel" "PackedBitsModel" "failed" "I" ∈ pb_ws := pb_in (i := 286) rfl rfl
theorem pb_k271 : Cond.soleField "PackedBitsModel" "failed" ∈ pb_ws := pb_in (i := 287) rfl rfl
theorem pb_k272 : Cond.laysFinal "PackedBitsModel" "PackedBitsModel" "row" "[Z" ∈ pb_ws := pb_in (i := 288) rfl rfl
theorem pb_k273 : Cond.soleField "PackedBitsModel" "row" ∈ pb_ws := pb_in (i := 289) rfl rfl
theorem pb_k274 : Cond.lays "PackedBitsModel" "PackedBitsModel" "size" "I" ∈ pb_ws := pb_in (i := 290) rfl rfl
theorem pb_k275 : Cond.soleField "PackedBitsModel" "size" ∈ pb_ws := pb_in (i := 291) rfl rfl
theorem pb_k276 : Cond.lays "PackedBitsModel" "PackedBitsModel" "place" "I" ∈ pb_ws := pb_in (i := 292) rfl rfl
theorem pb_k277 : Cond.soleField "PackedBitsModel" "place" ∈ pb_ws := pb_in (i := 293) rfl rfl
theorem pb_k278 : Cond.lays "PackedBitsModel" "PackedBitsModel" "reading" "I" ∈ pb_ws := pb_in (i := 294) rfl rfl
theorem pb_k279 : Cond.soleField "PackedBitsModel" "reading" ∈ pb_ws := pb_in (i := 295) rfl rfl
theorem pb_k280 : Cond.lays "PackedBitsModel" "PackedBitsModel" "good" "Z" ∈ pb_ws := pb_in (i := 296) rfl rfl
theorem pb_k281 : Cond.soleField "PackedBitsModel" "good" ∈ pb_ws := pb_in (i := 297) rfl rfl
theorem pb_k282 : Cond.superclass "PackedBitsModel" "java/lang/Object" ∈ pb_ws := pb_in (i := 298) rfl rfl
theorem pb_k283 : Cond.arrayClass Jvm.ClassFile.FieldType.boolean ∈ pb_ws := pb_in (i := 299) rfl rfl
theorem pb_k284 : Cond.methodLink "PackedBitsLaw" (74 : Nat) y_M_thrown ∈ pb_ws := pb_in (i := 300) rfl rfl
theorem pb_k285 : Cond.instanceMethod y_M_thrown ∈ pb_ws := pb_in (i := 301) rfl rfl
theorem pb_k286 : Cond.selects "PackedBitsModel" y_M_thrown y_M_thrown ∈ pb_ws := pb_in (i := 302) rfl rfl
theorem pb_k287 : Cond.code y_M_thrown prog_3_method_2_code (1 : Nat) (Option.some Jvm.ClassFile.FieldType.int) ∈ pb_ws := pb_in (i := 303) rfl rfl
theorem pb_k288 : Cond.methodLink "PackedBitsLaw" (73 : Nat) y_M_put ∈ pb_ws := pb_in (i := 304) rfl rfl
theorem pb_k289 : Cond.instanceMethod y_M_put ∈ pb_ws := pb_in (i := 305) rfl rfl
theorem pb_k290 : Cond.selects "PackedBitsModel" y_M_put y_M_put ∈ pb_ws := pb_in (i := 306) rfl rfl
theorem pb_k291 : Cond.code y_M_put prog_3_method_9_code (4 : Nat) (Option.some Jvm.ClassFile.FieldType.int) ∈ pb_ws := pb_in (i := 307) rfl rfl
theorem pb_k292 : Cond.methodLink "PackedBitsModel" (27 : Nat) y_M_fail ∈ pb_ws := pb_in (i := 308) rfl rfl
theorem pb_k293 : Cond.privateMethod y_M_fail ∈ pb_ws := pb_in (i := 309) rfl rfl
theorem pb_k294 : Cond.instanceMethod y_M_fail ∈ pb_ws := pb_in (i := 310) rfl rfl
theorem pb_k295 : Cond.code y_M_fail prog_3_method_3_code (2 : Nat) (Option.some Jvm.ClassFile.FieldType.int) ∈ pb_ws := pb_in (i := 311) rfl rfl
theorem pb_k296 : Cond.methodLink "PackedBitsModel" (35 : Nat) y_M_write ∈ pb_ws := pb_in (i := 312) rfl rfl
theorem pb_k297 : Cond.privateMethod y_M_write ∈ pb_ws := pb_in (i := 313) rfl rfl
theorem pb_k298 : Cond.instanceMethod y_M_write ∈ pb_ws := pb_in (i := 314) rfl rfl
theorem pb_k299 : Cond.code y_M_write prog_3_method_8_code (5 : Nat) (Option.some Jvm.ClassFile.FieldType.int) ∈ pb_ws := pb_in (i := 315) rfl rfl
theorem pb_k300 : Cond.methodLink "PackedBitsModel" (31 : Nat) y_M_append ∈ pb_ws := pb_in (i := 316) rfl rfl
theorem pb_k301 : Cond.privateMethod y_M_append ∈ pb_ws := pb_in (i := 317) rfl rfl
theorem pb_k302 : Cond.instanceMethod y_M_append ∈ pb_ws := pb_in (i := 318) rfl rfl
theorem pb_k303 : Cond.code y_M_append prog_3_method_7_code (5 : Nat) (Option.none : Option Jvm.ClassFile.FieldType) ∈ pb_ws := pb_in (i := 319) rfl rfl
theorem pb_k304 : Cond.methodLink "PackedBitsLaw" (80 : Nat) y_M_putRange ∈ pb_ws := pb_in (i := 320) rfl rfl
theorem pb_k305 : Cond.instanceMethod y_M_putRange ∈ pb_ws := pb_in (i := 321) rfl rfl
theorem pb_k306 : Cond.selects "PackedBitsModel" y_M_putRange y_M_putRange ∈ pb_ws := pb_in (i := 322) rfl rfl
theorem pb_k307 : Cond.code y_M_putRange prog_3_method_10_code (7 : Nat) (Option.some Jvm.ClassFile.FieldType.int) ∈ pb_ws := pb_in (i := 323) rfl rfl
theorem pb_k308 : Cond.methodLink "PackedBitsModel" (18 : Nat) y_M_width ∈ pb_ws := pb_in (i := 324) rfl rfl
theorem pb_k309 : Cond.privateMethod y_M_width ∈ pb_ws := pb_in (i := 325) rfl rfl
theorem pb_k310 : Cond.instanceMethod y_M_width ∈ pb_ws := pb_in (i := 326) rfl rfl
theorem pb_k311 : Cond.code y_M_width prog_3_method_4_code (4 : Nat) (Option.some Jvm.ClassFile.FieldType.int) ∈ pb_ws := pb_in (i := 327) rfl rfl
theorem pb_k312 : Cond.methodLink "PackedBitsLaw" (84 : Nat) y_M_putLength ∈ pb_ws := pb_in (i := 328) rfl rfl
theorem pb_k313 : Cond.instanceMethod y_M_putLength ∈ pb_ws := pb_in (i := 329) rfl rfl
theorem pb_k314 : Cond.selects "PackedBitsModel" y_M_putLength y_M_putLength ∈ pb_ws := pb_in (i := 330) rfl rfl
theorem pb_k315 : Cond.code y_M_putLength prog_3_method_11_code (4 : Nat) (Option.some Jvm.ClassFile.FieldType.int) ∈ pb_ws := pb_in (i := 331) rfl rfl
theorem pb_k316 : Cond.methodLink "PackedBitsModel" (39 : Nat) y_Math_min ∈ pb_ws := pb_in (i := 332) rfl rfl
theorem pb_k317 : Cond.static y_Math_min ∈ pb_ws := pb_in (i := 333) rfl rfl
theorem pb_k318 : Cond.code y_Math_min prog_7_method_69_code (2 : Nat) (Option.some Jvm.ClassFile.FieldType.int) ∈ pb_ws := pb_in (i := 334) rfl rfl
theorem pb_k319 : Cond.constantLong "PackedBitsModel" (45 : Nat) (32768 : Int64) ∈ pb_ws := pb_in (i := 335) rfl rfl
theorem pb_k320 : Cond.constantLong "PackedBitsModel" (47 : Nat) (192 : Int64) ∈ pb_ws := pb_in (i := 336) rfl rfl
theorem pb_k321 : Cond.methodLink "PackedBitsLaw" (88 : Nat) y_M_putNumber ∈ pb_ws := pb_in (i := 337) rfl rfl
theorem pb_k322 : Cond.instanceMethod y_M_putNumber ∈ pb_ws := pb_in (i := 338) rfl rfl
theorem pb_k323 : Cond.selects "PackedBitsModel" y_M_putNumber y_M_putNumber ∈ pb_ws := pb_in (i := 339) rfl rfl
theorem pb_k324 : Cond.code y_M_putNumber prog_3_method_12_code (7 : Nat) (Option.some Jvm.ClassFile.FieldType.int) ∈ pb_ws := pb_in (i := 340) rfl rfl
theorem pb_k325 : Cond.constantLong "PackedBitsModel" (49 : Nat) (64 : Int64) ∈ pb_ws := pb_in (i := 341) rfl rfl
theorem pb_k326 : Cond.methodLink "PackedBitsModel" (51 : Nat) y_M_complement ∈ pb_ws := pb_in (i := 342) rfl rfl
theorem pb_k327 : Cond.privateMethod y_M_complement ∈ pb_ws := pb_in (i := 343) rfl rfl
theorem pb_k328 : Cond.instanceMethod y_M_complement ∈ pb_ws := pb_in (i := 344) rfl rfl
theorem pb_k329 : Cond.code y_M_complement prog_3_method_6_code (4 : Nat) (Option.some Jvm.ClassFile.FieldType.int) ∈ pb_ws := pb_in (i := 345) rfl rfl
theorem pb_k330 : Cond.constantLong "PackedBitsModel" (22 : Nat) (-1 : Int64) ∈ pb_ws := pb_in (i := 346) rfl rfl
theorem pb_k331 : Cond.methodLink "PackedBitsModel" (54 : Nat) y_M_bytesOf ∈ pb_ws := pb_in (i := 347) rfl rfl
theorem pb_k332 : Cond.privateMethod y_M_bytesOf ∈ pb_ws := pb_in (i := 348) rfl rfl
theorem pb_k333 : Cond.instanceMethod y_M_bytesOf ∈ pb_ws := pb_in (i := 349) rfl rfl
theorem pb_k334 : Cond.code y_M_bytesOf prog_3_method_5_code (3 : Nat) (Option.some Jvm.ClassFile.FieldType.int) ∈ pb_ws := pb_in (i := 350) rfl rfl
theorem pb_k335 : Cond.methodLink "PackedBitsLaw" (92 : Nat) y_M_fill ∈ pb_ws := pb_in (i := 351) rfl rfl
theorem pb_k336 : Cond.instanceMethod y_M_fill ∈ pb_ws := pb_in (i := 352) rfl rfl
theorem pb_k337 : Cond.selects "PackedBitsModel" y_M_fill y_M_fill ∈ pb_ws := pb_in (i := 353) rfl rfl
theorem pb_k338 : Cond.code y_M_fill prog_3_method_13_code (2 : Nat) (Option.some Jvm.ClassFile.FieldType.int) ∈ pb_ws := pb_in (i := 354) rfl rfl
theorem pb_k339 : Cond.methodLink "PackedBitsLaw" (95 : Nat) y_M_take ∈ pb_ws := pb_in (i := 355) rfl rfl
theorem pb_k340 : Cond.instanceMethod y_M_take ∈ pb_ws := pb_in (i := 356) rfl rfl
theorem pb_k341 : Cond.selects "PackedBitsModel" y_M_take y_M_take ∈ pb_ws := pb_in (i := 357) rfl rfl
theorem pb_k342 : Cond.code y_M_take prog_3_method_17_code (2 : Nat) (Option.some Jvm.ClassFile.FieldType.long) ∈ pb_ws := pb_in (i := 358) rfl rfl
theorem pb_k343 : Cond.methodLink "PackedBitsModel" (67 : Nat) y_M_begin ∈ pb_ws := pb_in (i := 359) rfl rfl
theorem pb_k344 : Cond.privateMethod y_M_begin ∈ pb_ws := pb_in (i := 360) rfl rfl
theorem pb_k345 : Cond.instanceMethod y_M_begin ∈ pb_ws := pb_in (i := 361) rfl rfl
theorem pb_k346 : Cond.code y_M_begin prog_3_method_15_code (1 : Nat) (Option.none : Option Jvm.ClassFile.FieldType) ∈ pb_ws := pb_in (i := 362) rfl rfl
theorem pb_k347 : Cond.methodLink "PackedBitsModel" (70 : Nat) y_M_get ∈ pb_ws := pb_in (i := 363) rfl rfl
theorem pb_k348 : Cond.privateMethod y_M_get ∈ pb_ws := pb_in (i := 364) rfl rfl
theorem pb_k349 : Cond.instanceMethod y_M_get ∈ pb_ws := pb_in (i := 365) rfl rfl
theorem pb_k350 : Cond.code y_M_get prog_3_method_14_code (5 : Nat) (Option.some Jvm.ClassFile.FieldType.long) ∈ pb_ws := pb_in (i := 366) rfl rfl
theorem pb_k351 : Cond.methodLink "PackedBitsModel" (74 : Nat) y_M_done ∈ pb_ws := pb_in (i := 367) rfl rfl
theorem pb_k352 : Cond.privateMethod y_M_done ∈ pb_ws := pb_in (i := 368) rfl rfl
theorem pb_k353 : Cond.instanceMethod y_M_done ∈ pb_ws := pb_in (i := 369) rfl rfl
theorem pb_k354 : Cond.code y_M_done prog_3_method_16_code (4 : Nat) (Option.some Jvm.ClassFile.FieldType.long) ∈ pb_ws := pb_in (i := 370) rfl rfl
theorem pb_k355 : Cond.methodLink "PackedBitsLaw" (99 : Nat) y_M_takeRange ∈ pb_ws := pb_in (i := 371) rfl rfl
theorem pb_k356 : Cond.instanceMethod y_M_takeRange ∈ pb_ws := pb_in (i := 372) rfl rfl
theorem pb_k357 : Cond.selects "PackedBitsModel" y_M_takeRange y_M_takeRange ∈ pb_ws := pb_in (i := 373) rfl rfl
theorem pb_k358 : Cond.code y_M_takeRange prog_3_method_18_code (9 : Nat) (Option.some Jvm.ClassFile.FieldType.long) ∈ pb_ws := pb_in (i := 374) rfl rfl
theorem pb_k359 : Cond.methodLink "PackedBitsLaw" (102 : Nat) y_M_takeLength ∈ pb_ws := pb_in (i := 375) rfl rfl
theorem pb_k360 : Cond.instanceMethod y_M_takeLength ∈ pb_ws := pb_in (i := 376) rfl rfl
theorem pb_k361 : Cond.selects "PackedBitsModel" y_M_takeLength y_M_takeLength ∈ pb_ws := pb_in (i := 377) rfl rfl
theorem pb_k362 : Cond.code y_M_takeLength prog_3_method_20_code (1 : Nat) (Option.some Jvm.ClassFile.FieldType.int) ∈ pb_ws := pb_in (i := 378) rfl rfl
theorem pb_k363 : Cond.methodLink "PackedBitsModel" (78 : Nat) y_M_length ∈ pb_ws := pb_in (i := 379) rfl rfl
theorem pb_k364 : Cond.privateMethod y_M_length ∈ pb_ws := pb_in (i := 380) rfl rfl
theorem pb_k365 : Cond.instanceMethod y_M_length ∈ pb_ws := pb_in (i := 381) rfl rfl
theorem pb_k366 : Cond.code y_M_length prog_3_method_19_code (2 : Nat) (Option.some Jvm.ClassFile.FieldType.int) ∈ pb_ws := pb_in (i := 382) rfl rfl
theorem pb_k367 : Cond.methodLink "PackedBitsLaw" (105 : Nat) y_M_takeNumber ∈ pb_ws := pb_in (i := 383) rfl rfl
theorem pb_k368 : Cond.instanceMethod y_M_takeNumber ∈ pb_ws := pb_in (i := 384) rfl rfl
theorem pb_k369 : Cond.selects "PackedBitsModel" y_M_takeNumber y_M_takeNumber ∈ pb_ws := pb_in (i := 385) rfl rfl
theorem pb_k370 : Cond.code y_M_takeNumber prog_3_method_21_code (5 : Nat) (Option.some Jvm.ClassFile.FieldType.long) ∈ pb_ws := pb_in (i := 386) rfl rfl
theorem pb_k371 : Cond.methodLink "PackedBitsLaw" (108 : Nat) y_M_go ∈ pb_ws := pb_in (i := 387) rfl rfl
theorem pb_k372 : Cond.instanceMethod y_M_go ∈ pb_ws := pb_in (i := 388) rfl rfl
theorem pb_k373 : Cond.selects "PackedBitsModel" y_M_go y_M_go ∈ pb_ws := pb_in (i := 389) rfl rfl
theorem pb_k374 : Cond.code y_M_go prog_3_method_22_code (3 : Nat) (Option.some Jvm.ClassFile.FieldType.int) ∈ pb_ws := pb_in (i := 390) rfl rfl
theorem pb_k375 : Cond.methodLink "PackedBitsLaw" (111 : Nat) y_M_turn ∈ pb_ws := pb_in (i := 391) rfl rfl
theorem pb_k376 : Cond.instanceMethod y_M_turn ∈ pb_ws := pb_in (i := 392) rfl rfl
theorem pb_k377 : Cond.selects "PackedBitsModel" y_M_turn y_M_turn ∈ pb_ws := pb_in (i := 393) rfl rfl
theorem pb_k378 : Cond.code y_M_turn prog_3_method_23_code (2 : Nat) (Option.some Jvm.ClassFile.FieldType.boolean) ∈ pb_ws := pb_in (i := 394) rfl rfl
theorem pb_k379 : Cond.methodLink "PackedBitsLaw" (114 : Nat) y_M_cut ∈ pb_ws := pb_in (i := 395) rfl rfl
theorem pb_k380 : Cond.instanceMethod y_M_cut ∈ pb_ws := pb_in (i := 396) rfl rfl
theorem pb_k381 : Cond.selects "PackedBitsModel" y_M_cut y_M_cut ∈ pb_ws := pb_in (i := 397) rfl rfl
theorem pb_k382 : Cond.code y_M_cut prog_3_method_24_code (3 : Nat) (Option.some Jvm.ClassFile.FieldType.int) ∈ pb_ws := pb_in (i := 398) rfl rfl
theorem pb_k383 : Cond.methodLink "PackedBitsLaw" (117 : Nat) y_M_count ∈ pb_ws := pb_in (i := 399) rfl rfl
theorem pb_k384 : Cond.instanceMethod y_M_count ∈ pb_ws := pb_in (i := 400) rfl rfl
theorem pb_k385 : Cond.selects "PackedBitsModel" y_M_count y_M_count ∈ pb_ws := pb_in (i := 401) rfl rfl
theorem pb_k386 : Cond.code y_M_count prog_3_method_25_code (2 : Nat) (Option.some Jvm.ClassFile.FieldType.int) ∈ pb_ws := pb_in (i := 402) rfl rfl
theorem pb_k387 : Cond.constantLong "PackedBitsLaw" (66 : Nat) (4294967295 : Int64) ∈ pb_ws := pb_in (i := 403) rfl rfl
theorem pb_k388 : Cond.arrayClass Jvm.ClassFile.FieldType.long ∈ pb_ws := pb_in (i := 404) rfl rfl
theorem pb_k389 : Cond.sameMethod "java/lang/Throwable" "java/lang/Throwable" "fillInStackTrace" "(I)Ljava/lang/Throwable;" ∈ pb_ws := pb_in (i := 405) rfl rfl
end
section
/-! part 02: contracts whose outcome may be an exception: the call, the throw, the catch. One word list (pb_ws) for every contract. -/
theorem pb_good {w : Cond} (h : w ∈ pb_ws) : pb_gw w = true := (List.mem_filter.mp h).2
/-- a good word holds wherever the tables are as warm -/
theorem pb_word {args a' : Array Value} {s U : State} (hW : s.WarmedH U.vm) {w : Cond} (hw : pb_gw w = true) (h : w.before args s = true) : w.before a' U = true := by
  have key : w.onTables = true → w.keepsFace = true → w.before a' U = true := by
    intro h1 h2
    have h3 : w.before args (s.setVm U.vm) = true := Cond.before_shiftedFace (State.Shifted.of_warmed hW) _ h2 h
    have h4 : w.before a' (U.setVm U.vm) = true := by
      rw [Cond.onTables_vm (A' := args) (U' := s) U.vm w h1]
      exact h3
    rwa [State.setVm_self] at h4
  cases w
  case arrayClass ty =>
    have h1 : (Cond.arrayClass ty).before args (s.setVm U.vm) = true := Cond.before_shiftedFace (State.Shifted.of_warmed hW) _ rfl h
    exact h1
  all_goals
    have h1 := hw
    simp only [pb_gw, Bool.and_eq_true] at h1
    exact key h1.1 h1.2
theorem pb_sub {w : Cond} (h : w ∈ pb_ws) : w ∈ lw_tbl := (List.mem_filter.mp h).1
abbrev pb_HT (args : Array Value) (s : State) : Prop := ∀ w ∈ pb_ws, w.before args s = true
theorem pb_HT_moved {args a' : Array Value} {s U : State} (h : pb_HT args s) (hW : s.WarmedH U.vm) : pb_HT a' U := fun w hw => pb_word hW (pb_good hw) (h w hw)
/-- a contract: returned or thrown -/
def pb_MetA (l : Launch) (y : MethodName) (rm : Room) (Pc : Array Value → State → Prop) (Qc : Array Value → State → Outcome → State → Prop) (free : Addr → Prop) : Prop :=
  MetFree l y (headSpec pb_ws rm) Pc (fun _ _ _ _ _ => True) (fun a st o t => Qc a st o t ∧ ∃ L, st.WarmedH t.vm ∧ st.sameButNew ({ t with vm := st.vm } : State) L rm.cells rm.slots ∧ ∀ q ∈ L, free q.base)
/-- what a call needs of the callee's code -/
def pb_code (y : MethodName) (maxL : Nat) : Prop := ∀ (a : Array Value) (U : State), pb_HT a U → ∃ (mk : MethodId) (methY : Method) (cY : Code), U.methodNamed? y = some mk ∧ U.vm.method? mk = some methY ∧ methY.code = some cY ∧ cY.maxLocals = maxL ∧ parseMethodDescriptor y.desc = some methY.sig
theorem pb_code_of {y : MethodName} {b : ByteArray} {maxL : Nat} {ret : Option FieldType} (h : Cond.code y b maxL ret ∈ pb_ws) : pb_code y maxL := by
  intro a U hU
  obtain ⟨mk, hn⟩ := Cond.code_named (hU _ h)
  obtain ⟨meth, c, h1, h2, -, h3, -, -, -, h4⟩ := Cond.code_spec hn (hU _ h)
  exact ⟨mk, meth, c, hn, h1, h2, h3, h4⟩
theorem pb_code_ofW {y : MethodName} {b : ByteArray} {maxL : Nat} {ret : Option FieldType} {hs : List (Nat × Nat × Nat × Nat)} (h : Cond.codeWith y b maxL ret hs ∈ pb_ws) : pb_code y maxL := by
  intro a U hU
  obtain ⟨mk, meth, c, hn, h1, h2, -, h3, -, -, -, h4⟩ := Cond.codeWith_spec (hU _ h)
  exact ⟨mk, meth, c, hn, h1, h2, h3, h4⟩
/-- where a call lands -/
def pb_land (g : JFrame) (len : Nat) (U : State) : Outcome → State
  | .returned v => U.setTop { g with pc := g.pc + len, stack := v.toList ++ g.stack }
  | .threw a => (U.setTop g).pushFrame (.throwing a)
section PBA
variable {l : Launch} {R rm : Room} {p : Program} {e : Env} {below : List Frame} {s U : State} {sargs a : Array Value} {y : MethodName} {len Wd maxL : Nat} {m mk : MethodId} {meth : Method} {c : Code} {locs : List Loc} {cells slots : Nat} {Pc : Array Value → State → Prop} {Qc : Array Value → State → Outcome → State → Prop} {free : Addr → Prop}
theorem pb_back (hM : pb_MetA l y rm Pc Qc free) (hcd : pb_code y maxL) (hini : Cond.initialized y.cls ∈ pb_ws)
    (X : Stand p l e R s m sargs below meth c U locs cells slots) (hts : pb_HT sargs s) {g : JFrame} (hg : g.method = m) (hsize : g.locals.size = c.maxLocals) {ig : Instr} (hdg : decode c.code g.pc = .ok (ig, len))
    (hW : 2 * g.monitorRoom + (g.stack.map fun v => v.category).sum ≤ Wd) (hn : U.methodNamed? y = some mk) (hframes : rm.frames + 1 ≤ R.frames) (hlocals : Wd + (maxL + 11) + rm.locals ≤ R.locals) (hcells : cells + rm.cells ≤ R.cells) (hslots : slots + rm.slots ≤ R.slots)
    (hP : Pc a (U.calling g mk a)) :
    ∃ (o : Outcome) (t U' : State) (L : List Loc), Stand p l e R s m sargs below meth c U' (locs ++ L) (cells + rm.cells) (slots + rm.slots) ∧ U'.heap = t.heap ∧ U'.vm = t.vm ∧ (∀ q ∈ L, free q.base) ∧ Qc a (U.calling g mk a) o t ∧
      Steps p.tables e below (doInvoke e (U.setTop g) [] mk a).1 (pb_land g len U' o) := by
  have hU : pb_HT a U := pb_HT_moved hts X.warmed
  obtain ⟨mk', methY, cY, hn', hmY, hcY, hlY, -⟩ := hcd a U hU
  cases hn.symm.trans hn'
  obtain ⟨kY, hkY, -⟩ := className_of_methodNamed hn
  have hinitY : kY.init = .initialized := Cond.initialized_spec (findClass_of_methodNamed hn) hkY (hU _ hini)
  have h : At U g.method c below := by rw [hg]; exact X.here
  have happ : (headSpec pb_ws rm).appliesLoose y e.platform (U.calling g mk a) = true :=
    Spec.appliesLoose_calling (g := g) h hdg hn hkY hinitY
      (X.room_calling (g := g) (R' := rm) hsize hmY hcY hframes (by rw [hlY]; omega) hcells hslots) (atoms_intro hU)
  obtain ⟨mid, hmid⟩ := h.above
  have hfr : (U.setTop g).frames = (.java g :: mid) ++ below := by rw [State.frames_setTop' g h.top, hmid]; rfl
  obtain ⟨o, s₂, hsteps, -, hend, hq⟩ := Steps.callFree hM p X.admits X.cas X.clock (acts := []) hfr happ hP trivial
  rw [State.frames_setTop' g h.top] at hend
  obtain ⟨hq', L, hW₂, ⟨e2, q2, q3, q4, q5, q6⟩, hL⟩ := hq
  have hW' : U.WarmedH s₂.vm := hW₂
  have e3 : s₂ = ({ (U.calling g mk a).setFrames s₂.frames with heap := s₂.heap, slotsUsed := s₂.slotsUsed } : State).setVm s₂.vm := by
    have this : s₂ = ({ s₂ with vm := (U.calling g mk a).vm } : State).setVm s₂.vm := rfl
    rw [show ({ s₂ with vm := (U.calling g mk a).vm } : State) = _ from e2] at this
    exact this
  obtain ⟨g₀, hg0⟩ := Option.isSome_iff_exists.mp h.top
  obtain ⟨r, hr⟩ := State.topJava?_eq_some.mp hg0
  have hsame : U.sameButNew ({ U with heap := s₂.heap, slotsUsed := s₂.slotsUsed } : State) L rm.cells rm.slots := by
    refine ⟨?_, q2, q3, q4, q5, q6⟩
    obtain ⟨t, ht, -⟩ := State.frames_cons hr
    show ({ U with heap := s₂.heap, slotsUsed := s₂.slotsUsed } : State) = { U.setFrames U.frames with heap := s₂.heap, slotsUsed := s₂.slotsUsed }
    rw [State.setFrames_self ht]
  have hr' : (({ U with heap := s₂.heap, slotsUsed := s₂.slotsUsed } : State).setVm s₂.vm).frames = .java g₀ :: r := hr
  have hs₂ : s₂ = pb_land g len (({ U with heap := s₂.heap, slotsUsed := s₂.slotsUsed } : State).setVm s₂.vm) o := by
    cases o with
    | returned v =>
      obtain ⟨c₂, i₂, len₂, hc₂, hd₂, hf₂⟩ := hend
      have hcc : c₂ = c := by
        have h1 : s₂.code? g.method = U.code? g.method := by
          rw [State.code?_eq, State.code?_eq, hW'.alike.method?]
        exact Option.some.inj (hc₂.symm.trans (h1.trans h.code))
      subst hcc
      have hlen : len₂ = len := by rw [hdg] at hd₂; cases hd₂; rfl
      subst hlen
      refine e3.trans ?_
      rw [hf₂, State.calling_eq h.top, State.setFrames_setFrames]
      show _ = (({ U with heap := s₂.heap, slotsUsed := s₂.slotsUsed } : State).setVm s₂.vm).setTop _
      rw [State.setTop_of_frames _ hr', hr]
      rfl
    | threw x =>
      have hf₂ : s₂.frames = .throwing x :: .java g :: U.frames.tail := hend
      refine e3.trans ?_
      rw [hf₂, State.calling_eq h.top, State.setFrames_setFrames]
      show _ = ((({ U with heap := s₂.heap, slotsUsed := s₂.slotsUsed } : State).setVm s₂.vm).setTop g).pushFrame (.throwing x)
      rw [State.pushFrame, State.frames_setTop _ hr', State.setTop_of_frames _ hr', State.setFrames_setFrames, hr]
      rfl
  subst hg
  refine ⟨o, s₂, (({ U with heap := s₂.heap, slotsUsed := s₂.slotsUsed } : State).setVm s₂.vm), L,
    ⟨X.admits, X.cas, X.clock, X.frames, X.room, X.hears, X.method, X.code, (X.here.setHeapUsed s₂.heap s₂.slotsUsed).setVm hW'.alike, X.tail, State.WarmedH.trans X.warmed hW', X.limits, X.bytes, X.same.trans (hsame.setVm s.vm)⟩, rfl, rfl, hL, hq', ?_⟩
  rw [← hs₂]
  exact hsteps
end PBA
section PBC
variable {p : Program} {l : Launch} {e : Env} {R rm : Room} {s : State} {m : MethodId} {args : Array Value} {below : List Frame} {meth : Method} {c : Code} {T : State} {locs : List Loc} {cells slots : Nat} {y : MethodName} {maxL : Nat} {Pc : Array Value → State → Prop} {Qc : Array Value → State → Outcome → State → Prop} {free : Addr → Prop}
/-- what stands behind a call, at the machine -/
def pb_Post (p : Program) (l : Launch) (e : Env) (R rm : Room) (s : State) (m : MethodId) (args : Array Value) (below : List Frame) (meth : Method) (c : Code) (T : State) (locs : List Loc) (cells slots : Nat) (g : JFrame) (rest : List Value) (Qa : State → Outcome → State → Prop) (free : Addr → Prop) : Prop :=
  ∃ (o : Outcome) (st₀ t T' : State) (L : List Loc), st₀.heap = T.heap ∧ Stand p l e R s m args below meth c T' (locs ++ L) (cells + rm.cells) (slots + rm.slots) ∧ T'.heap = t.heap ∧ T'.vm = t.vm ∧ (∀ q ∈ L, free q.base) ∧ Qa st₀ o t ∧
    ∀ target, Steps p.tables e below (pb_land { g with stack := rest } 3 T' o) target → Steps p.tables e below (T.setTop g) target
theorem pb_callS (X : Stand p l e R s m args below meth c T locs cells slots) (hexec : p.tables.exec = Jvm.exec) (hts : pb_HT args s) {own : String} {index : Nat} (hown : s.vm.findClass own = some m.cls)
    (hlink : Cond.methodLink own index y ∈ pb_ws) (hstat : Cond.static y ∈ pb_ws) (hini : Cond.initialized y.cls ∈ pb_ws) (hcd : pb_code y maxL) (hy : y.cls ≠ "java/lang/invoke/MethodHandle" ∧ y.cls ≠ "java/lang/invoke/VarHandle")
    (hM : pb_MetA l y rm Pc Qc free) (hframes : rm.frames + 1 ≤ R.frames) (hlocals : 8 + (maxL + 11) + rm.locals ≤ R.locals) (hcells : cells + rm.cells ≤ R.cells) (hslots : slots + rm.slots ≤ R.slots)
    {g : JFrame} (hg : g.method = m) (hsize : g.locals.size = c.maxLocals) {argsL rest : List Value} {n : Nat} (hn : (parseMethodDescriptor y.desc).map (fun d => d.parameters.length) = some n) (hlen : argsL.length = n) (hstack : g.stack = argsL.reverse ++ rest)
    (hW : 2 * g.monitorRoom + (rest.map fun v => v.category).sum ≤ 8) (hdg : decode c.code g.pc = .ok (.invokestatic index, 3)) (hpre : ∀ (U : State), U.heap = T.heap → s.WarmedH U.vm → Pc argsL.toArray U) :
    pb_Post p l e R rm s m args below meth c T locs cells slots g rest (Qc argsL.toArray) free := by
  obtain ⟨mk, methM, cM, hnamed, hmethM, -, -, hsigM⟩ := hcd args s hts
  have hstatic : methM.isStatic = true := Cond.static_spec hnamed hmethM (hts _ hstat)
  obtain ⟨kP, hkP, -⟩ := className_of_methodNamed hnamed
  have hinitP : kP.init = .initialized := Cond.initialized_spec (findClass_of_methodNamed hnamed) hkP (hts _ hini)
  have hl2 : argsL.length = methM.sig.parameters.length := by
    rw [hsigM] at hn
    exact hlen.trans (Option.some.inj hn).symm
  obtain ⟨vm₁, X₁, hstep₁⟩ := X.invokestatic hexec hown (hts _ hlink) hnamed hmethM hstatic hkP hinitP hy (g := g) hg (argsL := argsL) (rest := rest) hl2 hstack hdg
  obtain ⟨o, t, U', L, X', e1, e2, hL, hq, st⟩ := pb_back (a := argsL.toArray) hM hcd hini X₁ hts (g := { g with stack := rest }) hg hsize hdg hW (X₁.named hnamed) hframes hlocals hcells hslots (hpre _ rfl X₁.warmed)
  exact ⟨o, (T.setVm vm₁).calling { g with stack := rest } mk argsL.toArray, t, U', L, rfl, X', e1, e2, hL, hq, fun target h => hstep₁ _ fun acts => by rw [doInvoke_state]; exact st.trans h⟩
theorem pb_callV (X : Stand p l e R s m args below meth c T locs cells slots) (hexec : p.tables.exec = Jvm.exec) (hts : pb_HT args s) {own C : String} {index : Nat} (hown : s.vm.findClass own = some m.cls)
    (hlink : Cond.methodLink own index y ∈ pb_ws) (hinst : Cond.instanceMethod y ∈ pb_ws) (hsel : Cond.selects C y y ∈ pb_ws) (hini : Cond.initialized y.cls ∈ pb_ws) (hcd : pb_code y maxL) (hy : y.cls ≠ "java/lang/invoke/MethodHandle" ∧ y.cls ≠ "java/lang/invoke/VarHandle")
    (hM : pb_MetA l y rm Pc Qc free) (hframes : rm.frames + 1 ≤ R.frames) (hlocals : 8 + (maxL + 11) + rm.locals ≤ R.locals) (hcells : cells + rm.cells ≤ R.cells) (hslots : slots + rm.slots ≤ R.slots)
    {b : Addr} (hrecv : ∃ cell : Cell, T.heap[b]? = some cell ∧ cell.vm.isStatics = false ∧ s.vm.findClass C = some cell.cls)
    {g : JFrame} (hg : g.method = m) (hsize : g.locals.size = c.maxLocals) {argsL rest : List Value} {n : Nat} (hn : (parseMethodDescriptor y.desc).map (fun d => d.parameters.length) = some n) (hlen : argsL.length = n) (hstack : g.stack = argsL.reverse ++ .ref b :: rest)
    (hW : 2 * g.monitorRoom + (rest.map fun v => v.category).sum ≤ 8) (hdg : decode c.code g.pc = .ok (.invokevirtual index, 3)) (hpre : ∀ (U : State), U.heap = T.heap → s.WarmedH U.vm → Pc (Value.ref b :: argsL).toArray U) :
    pb_Post p l e R rm s m args below meth c T locs cells slots g rest (Qc (Value.ref b :: argsL).toArray) free := by
  obtain ⟨cellB, hcell, hobj, hcls⟩ := hrecv
  obtain ⟨mk, methM, hnamed, hmethM, hstM, habM⟩ := Cond.instanceMethod_spec (hts _ hinst)
  obtain ⟨mk', methM', cM, hnamed', hmethM', -, -, hsigM⟩ := hcd args s hts
  cases hnamed.symm.trans hnamed'
  cases hmethM.symm.trans hmethM'
  obtain ⟨c2, r2, m2, q1, q2, q3, q4, kP, hkP, hkPi⟩ := Cond.selects_spec (hts _ hsel)
  cases hcls.symm.trans q1
  cases (State.methodFound?_of_named hnamed hy).symm.trans q2
  cases hnamed.symm.trans q3
  have hselP : selectMethod e.platform s.vm cellB.cls mk = .method mk := by rw [Launch.admits_selectMethod X.admits]; exact q4
  have hl2 : argsL.length = methM.sig.parameters.length := by
    rw [hsigM] at hn
    exact hlen.trans (Option.some.inj hn).symm
  obtain ⟨vm₁, X₁, hstep₁⟩ := X.invokevirtual hexec hown (hts _ hlink) hnamed hmethM hstM hkP hkPi hy (a := b) (cell := cellB) hcell
    (fun z h => by rw [h] at hobj; cases hobj) hselP hmethM habM hkP hkPi (g := g) hg (argsL := argsL) (rest := rest) hl2 hstack hdg
  obtain ⟨o, t, U', L, X', e1, e2, hL, hq, st⟩ := pb_back (a := (Value.ref b :: argsL).toArray) hM hcd hini X₁ hts (g := { g with stack := rest }) hg hsize hdg hW (X₁.named hnamed) hframes hlocals hcells hslots (hpre _ rfl X₁.warmed)
  exact ⟨o, (T.setVm vm₁).calling { g with stack := rest } mk (Value.ref b :: argsL).toArray, t, U', L, rfl, X', e1, e2, hL, hq, fun target h => hstep₁ _ fun acts => by rw [doInvoke_state]; exact st.trans h⟩
end PBC
/-- a method's end -/
def pb_MQA (below : List Frame) (Qc : Array Value → State → Outcome → State → Prop) (a : Array Value) (s : State) (mc ms : Nat) (free : Addr → Prop) : State → Prop := fun t =>
  ∃ o, t.status = .running ∧ Ended t below o ∧ Qc a s o t ∧ ∃ L, s.WarmedH t.vm ∧ s.sameButNew ({ t with vm := s.vm } : State) L mc ms ∧ ∀ q ∈ L, free q.base
theorem pb_ofW {l : Launch} {y : MethodName} {rm : Room} {Pc : Array Value → State → Prop} {Qc : Array Value → State → Outcome → State → Prop} {free : Addr → Prop} {cc : ByteArray} {maxL : Nat} {ret : Option FieldType}
    (hy : plainName y.cls = true) (hw : Cond.code y cc maxL ret ∈ pb_ws)
    (body : ∀ p e s m args below meth c, p.tables.exec = Jvm.exec → c.code = cc → c.maxLocals = maxL → s.vm.findClass y.cls = some m.cls → pb_HT args s → meth.sig.returnType = ret → meth.locks = false → c.exceptionTable.toList = [] → Pc args s →
      W p l e rm s m args below meth c s.heap [] 0 0 (pb_MQA below Qc args s rm.cells rm.slots free) (entryFrame m args maxL)) : pb_MetA l y rm Pc Qc free := by
  refine MetFree.of_bodyS (code := cc) (maxLocals := maxL) (ret := ret) hy ?_ ?_
  · intro args s m h hn
    obtain ⟨meth, c, h1, h2, h3, h4, h5, h6, -, -⟩ := Cond.code_spec hn (atoms_spec (ws := pb_ws) h _ hw)
    exact ⟨meth, c, h1, h2, h3, h4, h5, h6⟩
  · intro p e s m args below meth c s₁ B hml hP _
    have hts : pb_HT args s := atoms_spec (ws := pb_ws) B.pre
    have hh0 : s₁.heap = s.heap := by rw [B.state]; rfl
    have hno : c.exceptionTable.toList = [] := by
      have h9 := B.noHandlers (hts _ hw)
      simpa using h9
    obtain ⟨t, a1, o, b1, b2, b3, b4⟩ := body p e s m args below meth c B.exec B.bytes hml (findClass_of_methodNamed B.named) hts B.returns B.notSynchronized hno hP s₁ hh0 (Stand.of_body B)
    exact ⟨t, o, a1, b1, b2, b3, b4⟩
theorem pb_ofWW {l : Launch} {y : MethodName} {rm : Room} {Pc : Array Value → State → Prop} {Qc : Array Value → State → Outcome → State → Prop} {free : Addr → Prop} {cc : ByteArray} {maxL : Nat} {ret : Option FieldType} {hs : List (Nat × Nat × Nat × Nat)}
    (hy : plainName y.cls = true) (hw : Cond.codeWith y cc maxL ret hs ∈ pb_ws)
    (body : ∀ p e s m args below meth c, p.tables.exec = Jvm.exec → c.code = cc → c.maxLocals = maxL → s.vm.findClass y.cls = some m.cls → pb_HT args s → meth.sig.returnType = ret → meth.locks = false → c.exceptionTable.toList = tableOf hs → Pc args s →
      W p l e rm s m args below meth c s.heap [] 0 0 (pb_MQA below Qc args s rm.cells rm.slots free) (entryFrame m args maxL)) : pb_MetA l y rm Pc Qc free := by
  refine MetFree.of_bodyS (code := cc) (maxLocals := maxL) (ret := ret) hy ?_ ?_
  · intro args s m h hn
    obtain ⟨m', meth, c, h0, h1, h2, h3, h4, -, h5, h6, -⟩ := Cond.codeWith_spec (atoms_spec (ws := pb_ws) h _ hw)
    cases hn.symm.trans h0
    exact ⟨meth, c, h1, h2, h3, h4, h5, h6⟩
  · intro p e s m args below meth c s₁ B hml hP _
    have hts : pb_HT args s := atoms_spec (ws := pb_ws) B.pre
    have hh0 : s₁.heap = s.heap := by rw [B.state]; rfl
    have X := Stand.of_body B
    have htab : c.exceptionTable.toList = tableOf hs := by
      obtain ⟨m', meth', c', h0, h1, h2, -, -, h5, -⟩ := Cond.codeWith_spec (hts _ hw)
      cases B.named.symm.trans h0
      cases B.method.symm.trans h1
      cases X.code.symm.trans h2
      rw [← h5, table_eq]
    obtain ⟨t, a1, o, b1, b2, b3, b4⟩ := body p e s m args below meth c B.exec B.bytes hml (findClass_of_methodNamed B.named) hts B.returns B.notSynchronized htab hP s₁ hh0 X
    exact ⟨t, o, a1, b1, b2, b3, b4⟩
section PBW
variable {p : Program} {l : Launch} {e : Env} {R : Room} {s : State} {m : MethodId} {args : Array Value} {below : List Frame} {meth : Method} {c : Code} {H : Heap} {locs : List Loc} {cells slots : Nat} {Q : State → Prop}
theorem pb_mono {Q' : State → Prop} {g : JFrame} (h : ∀ t, Q t → Q' t) (k : W p l e R s m args below meth c H locs cells slots Q g) : W p l e R s m args below meth c H locs cells slots Q' g := by
  intro T hT X
  obtain ⟨t, a, b⟩ := k T hT X
  exact ⟨t, a, h t b⟩
theorem pb_MQ {Qc : Array Value → State → Outcome → State → Prop} {mc ms : Nat} {free : Addr → Prop} (t : State) (h : MQ below Qc args s mc ms free t) : pb_MQA below Qc args s mc ms free t := by
  obtain ⟨o, h1, h2, h3, L, ⟨-, h4, h5⟩, h6⟩ := h
  exact ⟨o, h1, h2, h3, L, h4, h5, h6⟩
/-- the machine, with the note that a is being thrown over the frame g, comes to a state with Q -/
def pb_WT (p : Program) (l : Launch) (e : Env) (R : Room) (s : State) (m : MethodId) (args : Array Value) (below : List Frame) (meth : Method) (c : Code) (H : Heap) (locs : List Loc) (cells slots : Nat) (Q : State → Prop) (g : JFrame) (a : Addr) : Prop :=
  ∀ T : State, T.heap = H → Stand p l e R s m args below meth c T locs cells slots → ∃ t, Steps p.tables e below ((T.setTop g).pushFrame (.throwing a)) t ∧ Q t
theorem pb_WTwiden {g : JFrame} {a : Addr} {k n : Nat} (h1 : cells ≤ k) (h2 : slots ≤ n) (kk : pb_WT p l e R s m args below meth c H locs k n Q g a) : pb_WT p l e R s m args below meth c H locs cells slots Q g a := fun T hT X => kk T hT (stand_widen X h1 h2)
/-- no handler: the method throws -/
theorem pb_leave {Qc : Array Value → State → Outcome → State → Prop} {free : Addr → Prop} {a : Addr} {pc : Nat} {ls : Array Slot} {st : List Value} (hlocks : meth.locks = false) (hout : ∀ x ∈ c.exceptionTable.toList, covers x pc = false)
    (hq : ∀ t : State, t.heap = H → s.WarmedH t.vm → Qc args s (.threw a) t) (hf : ∀ q ∈ locs, free q.base) : pb_WT p l e R s m args below meth c H locs cells slots (pb_MQA below Qc args s cells slots free) (F0 m pc ls st) a := by
  intro T hT X
  obtain ⟨h1, h2, h3, h4, h5⟩ := X.leaveThrown a (g := F0 m pc ls st) rfl rfl rfl hout hlocks
  exact ⟨_, h1, .threw a, h2, h3, hq _ hT h4, locs, h4, h5, hf⟩
/-- resolving a class entry, cold or warm -/
theorem pb_res {T : State} (X : Stand p l e R s m args below meth c T locs cells slots) {own C : String} {index : Nat} (hown : s.vm.findClass own = some m.cls) (hlink : (Cond.classLink own index C).before args s = true) :
    ∃ (cT : ClassId) (kt : Class), s.vm.findClass C = some cT ∧ s.vm.classes[cT]? = some kt ∧ s.WarmedH (T.vm.noted m.cls index (.cls cT)) ∧ (Jvm.resolveClass m.cls index).Gives e.toSetting T.vm (.ok cT) (T.vm.noted m.cls index (.cls cT)) ∧ (T.vm.noted m.cls index (.cls cT)).classReady m.cls index cT := by
  have hpl : e.platform.magicAccessors = ({} : Platform).magicAccessors := by rw [X.admits.platform]
  obtain ⟨c', hc', hcl⟩ := Cond.classLink_spec hown hlink e.platform hpl
  obtain ⟨dk, _, _, kt, hd, _, _, _, _, hkt, _, hopen⟩ := hcl.here
  have hcl₀ := X.warmed.classLinks hcl
  have hW' : s.WarmedH (T.vm.noted m.cls index (.cls c')) := X.warmed.noted hd hopen (State.rightAt_cls hcl)
  exact ⟨c', kt, hc', hkt, hW', resolveClass_links e.toSetting hcl₀, hcl₀.ready⟩
theorem pb_go {E : CtlPost} {d : Bool} {acts : List Action} {U : State} {f : JFrame} {a : Addr} {Qh : Handler → Pre} {x : ExceptionTableEntry} {t : List ExceptionTableEntry} {cT : ClassId} {cell : Cell} {vm' : Vm} (hx : covers x f.pc = true) (h0 : x.catchType ≠ 0)
    (hg : (Jvm.resolveClass f.method.cls x.catchType).Gives e.toSetting U.vm (.ok cT) vm') (hr : vm'.classReady f.method.cls x.catchType cT) (hsz : vm'.classes.size ≤ U.vm.classes.size)
    (hcell : U.heap[a]? = some cell) (hobj : ∀ k, cell.vm ≠ .statics k) (hk : ∃ k, vm'.classes[cell.cls]? = some k) (hcl : ∃ k, vm'.classes[cT]? = some k) :
    wp (findHandler.go f a (x :: t)) Qh E e d acts U ↔ if vm'.assignable cell.cls cT = true then Qh (.found x.handlerPc) d acts (U.setVm vm') else wp (findHandler.go f a t) Qh E e d acts (U.setVm vm') := by
  refine Iff.trans ?_ (W.findHandler_go_class (s := U.setVm vm') hx h0 hr hcell hobj hk hcl)
  obtain ⟨ha, ht⟩ := hg.op (op := VmOp.resolveClass f.method.cls x.catchType) rfl
  obtain ⟨k, hkd, hres⟩ := hr
  have hm := resolveClass_memo e hkd hres
  simp only [covers] at hx
  simp [findHandler.go, hx, h0, ha, ht, hsz, hm.1, hm.2, VmOp.dirties, VmOp.acts]
  exact Iff.rfl
def pb_Finds (e : Env) (U : State) (f : JFrame) (a : Addr) (h : Handler) (U' : State) : Prop :=
  ∀ (Q : Handler → Pre) (E : CtlPost) (d : Bool) (acts : List Action), wp (findHandler f a) Q E e d acts U ↔ Q h d acts U'
theorem pb_stepCatch {U U' : State} {a : Addr} {f : JFrame} {r : List Frame} {pc : Nat} (hfind : pb_Finds e U f a (.found pc) U') :
    (stepThrowing e U a (.java f :: r)).1 = U'.setFrames (.java { f with pc := pc, stack := [.ref a] } :: r) := by
  simp only [stepThrowing, searchFrame, vmDo]
  generalize hr : Sem.go _ e false [] U = res
  obtain ⟨as, rfl, ha⟩ := Sem.eq_ok_of hr (a := Handler.found pc) (s' := U') (acts' := []) (by simp [hfind _ _ _ _])
  rfl
/-- into a handler of the method's own, the tables warmed by the search -/
theorem pb_caught {T : State} {vm' : Vm} {g : JFrame} {a : Addr} {pc : Nat} {target : State} (X : Stand p l e R s m args below meth c T locs cells slots) (hg : g.method = m)
    (hfind : pb_Finds e ((T.setTop g).pushFrame (.throwing a)) g a (.found pc) (((T.setTop g).pushFrame (.throwing a)).setVm vm'))
    (hrest : Steps p.tables e below ((T.setVm vm').setTop { g with pc := pc, stack := [.ref a] }) target) : Steps p.tables e below ((T.setTop g).pushFrame (.throwing a)) target := by
  have h : At T g.method c below := by rw [hg]; exact X.here
  obtain ⟨hgo, hw⟩ := h.throwing a
  refine Steps.head hgo hw ?_
  rw [stepThread_throwing (frames_entered h.top _), pb_stepCatch hfind]
  obtain ⟨g₀, hg0⟩ := Option.isSome_iff_exists.mp h.top
  obtain ⟨r, hr⟩ := State.topJava?_eq_some.mp hg0
  have hr' : (T.setVm vm').frames = .java g₀ :: r := hr
  have e1 : (((T.setTop g).pushFrame (.throwing a)).setVm vm').setFrames (.java { g with pc := pc, stack := [.ref a] } :: T.frames.tail) = (T.setVm vm').setTop { g with pc := pc, stack := [.ref a] } := by
    rw [State.setTop_of_frames _ hr', State.pushFrame, State.setTop_of_frames _ hr, hr]
    have e0 : ∀ (U : State) (fs : List Frame), (U.setVm vm').setFrames fs = (U.setFrames fs).setVm vm' := fun _ _ => rfl
    rw [e0, State.setFrames_setFrames, State.setFrames_setFrames, e0]
    rfl
  rw [e1]
  exact hrest
/-- an exception object of a class -/
def pb_Ex (C : String) (a : Addr) (U : State) (H : Heap) : Prop := ∃ cell : Cell, H[a]? = some cell ∧ cell.vm.isStatics = false ∧ U.vm.findClass C = some cell.cls
theorem pb_catch1 {own C : String} {a : Addr} {pc : Nat} {ls : Array Slot} {st : List Value} {x : ExceptionTableEntry} {t : List ExceptionTableEntry} (hown : s.vm.findClass own = some m.cls) (hts : pb_HT args s) (htab : c.exceptionTable.toList = x :: t) (hx : covers x pc = true) (h0 : x.catchType ≠ 0)
    (hlink : Cond.classLink own x.catchType C ∈ pb_ws) (hcast : Cond.castable C C ∈ pb_ws) (hex : pb_Ex C a s H)
    (k : W p l e R s m args below meth c H locs cells slots Q (F0 m x.handlerPc ls [.ref a])) : pb_WT p l e R s m args below meth c H locs cells slots Q (F0 m pc ls st) a := by
  intro T hT X
  obtain ⟨cell, hc1, hc2, hc3⟩ := hex
  obtain ⟨cT, kt, r1, r2, r3, r4, r5⟩ := pb_res X hown (hts _ hlink)
  cases r1.symm.trans hc3
  obtain ⟨c3, c4, q1, q2, q3⟩ := Cond.castable_spec (hts _ hcast)
  cases q1.symm.trans hc3
  cases q2.symm.trans hc3
  obtain ⟨kt', hkt', -⟩ := r3.alike.2.2 _ _ r2
  have hm0 : ((T.setTop (F0 m pc ls st)).pushFrame (.throwing a)).vm.method? m = some meth := by rw [Stand.throwing_vm]; exact X.method'
  have hh0 : ((T.setTop (F0 m pc ls st)).pushFrame (.throwing a)).heap[a]? = some cell := by rw [Stand.throwing_heap, hT]; exact hc1
  have hv0 : ((T.setTop (F0 m pc ls st)).pushFrame (.throwing a)).vm = T.vm := Stand.throwing_vm T _ a
  obtain ⟨u, a1, b1⟩ := k (T.setVm (T.vm.noted m.cls x.catchType (.cls cell.cls))) hT (X.noted r3)
  refine ⟨u, pb_caught X rfl (fun Qh E d acts => ?_) a1, b1⟩
  rw [W.findHandler_eq (f := F0 m pc ls st) hm0 X.code, htab, pb_go (f := F0 m pc ls st) (cell := cell) hx h0 (by rw [hv0]; exact r4) r5 (by rw [hv0]; no_record) hh0 (VmData.ne_statics_of hc2) ⟨kt', hkt'⟩ ⟨kt', hkt'⟩,
    if_pos (by rw [r3.alike.assignable]; exact q3)]
theorem pb_catch2 {own C C1 : String} {a : Addr} {pc : Nat} {ls : Array Slot} {st : List Value} {x1 x : ExceptionTableEntry} {t : List ExceptionTableEntry} (hown : s.vm.findClass own = some m.cls) (hts : pb_HT args s) (htab : c.exceptionTable.toList = x1 :: x :: t)
    (hx1 : covers x1 pc = true) (h01 : x1.catchType ≠ 0) (hlink1 : Cond.classLink own x1.catchType C1 ∈ pb_ws) (hno : va_Nc C C1 s)
    (hx : covers x pc = true) (h0 : x.catchType ≠ 0) (hlink : Cond.classLink own x.catchType C ∈ pb_ws) (hcast : Cond.castable C C ∈ pb_ws) (hex : pb_Ex C a s H)
    (k : W p l e R s m args below meth c H locs cells slots Q (F0 m x.handlerPc ls [.ref a])) : pb_WT p l e R s m args below meth c H locs cells slots Q (F0 m pc ls st) a := by
  intro T hT X
  obtain ⟨cell, hc1, hc2, hc3⟩ := hex
  obtain ⟨cN, tN, n1, n2, n3⟩ := hno
  cases n1.symm.trans hc3
  obtain ⟨c1, kt1, p1, p2, p3, p4, p5⟩ := pb_res X hown (hts _ hlink1)
  cases n2.symm.trans p1
  have X1 := X.noted p3
  obtain ⟨cT, kt, r1, r2, r3, r4, r5⟩ := pb_res X1 hown (hts _ hlink)
  cases r1.symm.trans hc3
  obtain ⟨c3, c4, q1, q2, q3⟩ := Cond.castable_spec (hts _ hcast)
  cases q1.symm.trans hc3
  cases q2.symm.trans hc3
  obtain ⟨kc1, hkc1, -⟩ := p3.alike.2.2 _ _ r2
  obtain ⟨kt1', hkt1', -⟩ := p3.alike.2.2 _ _ p2
  obtain ⟨kt', hkt', -⟩ := r3.alike.2.2 _ _ r2
  have hm0 : ((T.setTop (F0 m pc ls st)).pushFrame (.throwing a)).vm.method? m = some meth := by rw [Stand.throwing_vm]; exact X.method'
  have hh0 : ((T.setTop (F0 m pc ls st)).pushFrame (.throwing a)).heap[a]? = some cell := by rw [Stand.throwing_heap, hT]; exact hc1
  have hv0 : ((T.setTop (F0 m pc ls st)).pushFrame (.throwing a)).vm = T.vm := Stand.throwing_vm T _ a
  obtain ⟨u, a1, b1⟩ := k ((T.setVm (T.vm.noted m.cls x1.catchType (.cls tN))).setVm ((T.setVm (T.vm.noted m.cls x1.catchType (.cls tN))).vm.noted m.cls x.catchType (.cls cell.cls))) hT (X1.noted r3)
  refine ⟨u, pb_caught (vm' := ((T.setVm (T.vm.noted m.cls x1.catchType (.cls tN))).vm.noted m.cls x.catchType (.cls cell.cls))) X rfl (fun Qh E d acts => ?_) a1, b1⟩
  rw [W.findHandler_eq (f := F0 m pc ls st) hm0 X.code, htab, pb_go (f := F0 m pc ls st) (cell := cell) hx1 h01 (by rw [hv0]; exact p4) p5 (by rw [hv0]; no_record) hh0 (VmData.ne_statics_of hc2) ⟨kc1, hkc1⟩ ⟨kt1', hkt1'⟩,
    if_neg (by rw [p3.alike.assignable, n3]; decide),
    pb_go (U := ((T.setTop (F0 m pc ls st)).pushFrame (.throwing a)).setVm (T.vm.noted m.cls x1.catchType (.cls tN))) (f := F0 m pc ls st) (cell := cell) hx h0 r4 r5 (by no_record) hh0 (VmData.ne_statics_of hc2) ⟨kt', hkt'⟩ ⟨kt', hkt'⟩, if_pos (by rw [r3.alike.assignable]; exact q3)]
  exact Iff.rfl
end PBW
end
section
/-! part 03: the world of this claim: X (PackedBits), its bytes, M (the model), its row, the out array; what exceptions need -/
section PBR
variable {p : Program} {l : Launch} {e : Env} {R R' : Room} {s T : State} {m : MethodId} {args : Array Value} {below : List Frame} {meth : Method} {c : Code} {locs : List Loc} {cells slots : Nat}
/-- the walk seen as if its method had been invoked just now, at the heap as it is -/
theorem pb_rebase (X : Stand p l e R s m args below meth c T locs cells slots) (hf : R'.frames ≤ R.frames) (hl : R'.locals ≤ R.locals) (hc : cells + R'.cells ≤ R.cells) (hsl : slots + R'.slots ≤ R.slots) :
    Stand p l e R' (T.setFrames (.invoking m args :: below)) m args below meth c T [] 0 0 := by
  obtain ⟨g₀, hfr⟩ := X.frames_eq
  have hcur : T.cur < T.threads.size := State.cur_lt_of_frames hfr
  have hF : (T.setFrames (.invoking m args :: below)).frames = .invoking m args :: below := State.frames_setFrames _ hcur
  obtain ⟨tT, htT, -⟩ := State.frames_cons hfr
  obtain ⟨tF, htF, -⟩ := State.frames_cons hF
  refine ⟨X.admits, X.cas, X.clock, hF, ?_, ?_, X.method', X.code, X.here, X.tail, State.WarmedH.refl _, (State.stackLimits_setFrames _ _ _).symm, (State.stackBytes_setFrames _ _).symm, ?_⟩
  · have h := X.room
    have h1 := X.heapSize
    have h2 := X.used
    have h3 := X.book
    have hloc : (T.setFrames (.invoking m args :: below)).localsInUse = s.localsInUse := by
      rw [State.localsInUse_invoking hF (show (T.setFrames (.invoking m args :: below)).vm.method? m = some meth from X.method') X.code, State.localsInUse_invoking X.frames X.method X.code]
    have hlen : (T.setFrames (.invoking m args :: below)).frames.length = s.frames.length := by rw [hF, X.frames]
    simp only [State.hasRoom, Bool.and_eq_true, decide_eq_true_eq] at h ⊢
    rw [hloc, hlen, State.stackLimits_setFrames, X.limits, State.stackBytes_setFrames, X.bytes]
    obtain ⟨⟨⟨⟨a1, a2, a3, a4, a5, a6⟩, a7⟩, a8⟩, a9⟩ := h
    have b1 : (T.setFrames (.invoking m args :: below)).heap.size = T.heap.size := rfl
    have b2 : (T.setFrames (.invoking m args :: below)).slotsUsed = T.slotsUsed := rfl
    have b3 : (T.setFrames (.invoking m args :: below)).slotsTrue = true := h3
    exact ⟨⟨⟨⟨by omega, by omega, by omega, by omega, by omega, a6⟩, by rw [b1]; omega⟩, by rw [b2]; omega⟩, b3⟩
  · have hh : (T.setFrames (.invoking m args :: below)).hears m below = s.hears m below := by
      have hm : ∀ x, T.vm.method? x = s.vm.method? x := fun x => by rw [X.warmed.alike.method?]
      have hv : (T.setFrames (.invoking m args :: below)).vm = T.vm := rfl
      rcases below with _ | ⟨y, r⟩
      · simp [State.hears, hv, hm]
      · cases y <;> simp [State.hears, State.code?_eq, hv, hm]
    rw [hh]
    exact X.hears
  · have h := (State.sameButNew.refl (T.setFrames (.invoking m args :: below)) htF).setFrames T.frames (State.cur_lt_of_frames hF)
    rw [State.setFrames_setFrames, State.setFrames_self htT] at h
    exact h
/-- what a walk from the rebased state leaves, for the true invocation -/
theorem pb_unbase (X : Stand p l e R s m args below meth c T locs cells slots) {U : State} {k n : Nat} (hW : (T.setFrames (.invoking m args :: below)).WarmedH U.vm)
    (hs : (T.setFrames (.invoking m args :: below)).sameButNew ({ U with vm := (T.setFrames (.invoking m args :: below)).vm } : State) [] k n) :
    s.WarmedH U.vm ∧ s.sameButNew ({ U with vm := s.vm } : State) locs (cells + k) (slots + n) := by
  have hW' : T.WarmedH U.vm := hW
  refine ⟨State.WarmedH.trans X.warmed hW', ?_⟩
  obtain ⟨e1, e2⟩ := hs
  have h : T.sameButNew ({ U with vm := T.vm } : State) [] k n := by
    refine ⟨?_, e2⟩
    rw [State.setFrames_setFrames] at e1
    exact e1
  have h2 := X.same.trans (h.setVm s.vm)
  rw [List.append_nil] at h2
  exact h2
end PBR
-- classes and fields
abbrev R_X : String := "PackedBits"
abbrev R_M : String := "PackedBitsModel"
abbrev R_IAE : String := "java/lang/IllegalArgumentException"
abbrev R_IOB : String := "java/lang/IndexOutOfBoundsException"
abbrev R_UOE : String := "java/lang/UnsupportedOperationException"
def F_X : u_T := fun k => match k with
  | 0 => ("PackedBits", "out", "[B", true)
  | 1 => ("PackedBits", "at", "I", false)
  | _ => ("PackedBits", "end", "I", false)
def t_X : Nat → FieldType := fun k => match k with
  | 0 => .array .byte
  | 1 => .int
  | _ => .int
def F_M : u_T := fun k => match k with
  | 0 => ("PackedBitsModel", "failed", "I", false)
  | 1 => ("PackedBitsModel", "row", "[Z", true)
  | 2 => ("PackedBitsModel", "size", "I", false)
  | 3 => ("PackedBitsModel", "place", "I", false)
  | 4 => ("PackedBitsModel", "reading", "I", false)
  | _ => ("PackedBitsModel", "good", "Z", false)
def t_M : Nat → FieldType := fun k => match k with
  | 0 => .int
  | 1 => .array .boolean
  | 2 => .int
  | 3 => .int
  | 4 => .int
  | _ => .boolean
abbrev pb_cl : List vw_C := [(R_X, F_X, 3), (R_M, F_M, 6)]
theorem n_X : ∀ a, a < 3 → ∀ b, b < 3 → a ≠ b → (F_X a).2.1 ≠ (F_X b).2.1 := by decide +kernel
theorem t_X_ok : ∀ k, k < 3 → parseFieldDescriptor (F_X k).2.2.1 = some (t_X k) := by decide +kernel
theorem n_M : ∀ a, a < 6 → ∀ b, b < 6 → a ≠ b → (F_M a).2.1 ≠ (F_M b).2.1 := by decide +kernel
theorem t_M_ok : ∀ k, k < 6 → parseFieldDescriptor (F_M k).2.2.1 = some (t_M k) := by decide +kernel
theorem u_X : ∀ w ∈ u_ws R_X F_X 3, w ∈ pb_ws := List.forall_mem_cons.mpr ⟨pb_k21, List.forall_mem_cons.mpr ⟨pb_k23, List.forall_mem_cons.mpr ⟨pb_k25, fun _ h => absurd h List.not_mem_nil⟩⟩⟩
theorem u_M : ∀ w ∈ u_ws R_M F_M 6, w ∈ pb_ws := List.forall_mem_cons.mpr ⟨pb_k270, List.forall_mem_cons.mpr ⟨pb_k272, List.forall_mem_cons.mpr ⟨pb_k274, List.forall_mem_cons.mpr ⟨pb_k276, List.forall_mem_cons.mpr ⟨pb_k278, List.forall_mem_cons.mpr ⟨pb_k280, fun _ h => absurd h List.not_mem_nil⟩⟩⟩⟩⟩⟩
-- what exceptions need of the statics, and of the classes
def pb_Zs (N : Nat) (n d : String) (U : State) (H : Heap) : Prop := ∃ (c : ClassId) (k : Class) (i : Nat) (f : Field) (a : Nat) (cell : Cell) (u : RefV), U.vm.findClass "java/lang/Throwable" = some c ∧ U.fieldFound? "java/lang/Throwable" n d = some (c, k, i, f) ∧ f.isStatic = true ∧ k.statics = some a ∧ H[a]? = some cell ∧ cell.vm.isStatics = true ∧ cell.cls = c ∧ f.slot < cell.slots.size ∧ k.staticTypes[f.slot]? = some f.type ∧ a < N ∧ cell.slots[f.slot]? = some u.v
theorem pb_Zs_moved {N : Nat} {n d : String} {u U : State} {H : Heap} (hvm : u.vm.Alike U.vm) (h : pb_Zs N n d u H) : pb_Zs N n d U H := by
  obtain ⟨c, k, i, f, a, cell, v, h1, h2, h3, h4, h5, h6, h7, h8, h9, h10⟩ := h
  obtain ⟨k', hi', he⟩ := State.fieldFound?_setVm hvm h2
  exact ⟨c, k', i, f, a, cell, v, by rw [hvm.findClass]; exact h1, hi', h3, by rw [he]; exact h4, h5, h6, h7, h8, by rw [he]; exact h9, h10⟩
theorem pb_Zs_kept {N : Nat} {n d : String} {U : State} {H H1 : Heap} (h : pb_Zs N n d U H) (hq : ∀ q, q < N → H1[q]? = H[q]?) : pb_Zs N n d U H1 := by
  obtain ⟨c, k, i, f, a, cell, v, h1, h2, h3, h4, h5, h6, h7, h8, h9, h10, h11⟩ := h
  exact ⟨c, k, i, f, a, cell, v, h1, h2, h3, h4, by rw [hq a h10]; exact h5, h6, h7, h8, h9, h10, h11⟩
theorem pb_Zs_lays {N : Nat} {n d : String} {U : State} {args : Array Value} (h : pb_Zs N n d U U.heap) : (Cond.laysStatic "java/lang/Throwable" n d).before args U = true := by
  obtain ⟨c, k, i, f, a, cell, v, h1, h2, h3, h4, h5, h6, h7, h8, h9, h10, h11⟩ := h
  exact Cond.laysStatic_of h1 h2 h3 h4 h5 h6 h7 h8 h9
theorem pb_Zs_ref {N : Nat} {n d : String} {U : State} {args : Array Value} (h : pb_Zs N n d U U.heap) : (Cond.isRef (.static "java/lang/Throwable" n d)).before args U = true := by
  obtain ⟨c, k, i, f, a, cell, ⟨v, hv⟩, h1, h2, h3, h4, h5, h6, h7, h8, h9, h10, h11⟩ := h
  have he : (Term.static "java/lang/Throwable" n d).eval args U none [] U = some v := by
    simp [Term.eval, State.fieldNamed?, h2, h3, h4, h5, h6]
    exact h11
  simp only [Cond.before, Cond.holds, Cond.value, he]
  cases v <;> simp [Value.isRef] at hv ⊢
theorem pb_Zs_of {N : Nat} {n d : String} {U : State} {args : Array Value} (hl : (Cond.laysStatic "java/lang/Throwable" n d).before args U = true) (hr : (Cond.isRef (.static "java/lang/Throwable" n d)).before args U = true) (hN : U.heap.size ≤ N) : pb_Zs N n d U U.heap := by
  obtain ⟨c, k, i, f, a, cell, h1, h2, h3, h4, h5, h6, h7, h8, h9⟩ := Cond.laysStatic_spec hl
  obtain ⟨u, hu⟩ := Cond.staticRefV h2 h3 h4 h5 h6 hr
  exact ⟨c, k, i, f, a, cell, u, h1, h2, h3, h4, h5, h6, h7, h8, h9, Nat.lt_of_lt_of_le (Array.getElem?_eq_some_iff.mp h5).1 hN, hu⟩
def pb_EX (N : Nat) (U : State) (H : Heap) : Prop := pb_Zs N "UNASSIGNED_STACK" "[Ljava/lang/StackTraceElement;" U H ∧ pb_Zs N "SUPPRESSED_SENTINEL" "Ljava/util/List;" U H ∧ va_Nc R_IOB R_IAE U ∧ va_Nc R_UOE R_IAE U
theorem pb_EX_moved {N : Nat} {u U : State} {H : Heap} (hvm : u.vm.Alike U.vm) (h : pb_EX N u H) : pb_EX N U H := ⟨pb_Zs_moved hvm h.1, pb_Zs_moved hvm h.2.1, h.2.2.1.moved hvm, h.2.2.2.moved hvm⟩
theorem pb_EX_kept {N : Nat} {U : State} {H H1 : Heap} (h : pb_EX N U H) (hq : ∀ q, q < N → H1[q]? = H[q]?) : pb_EX N U H1 := ⟨pb_Zs_kept h.1 hq, pb_Zs_kept h.2.1 hq, h.2.2⟩
-- the world's constants: N; class numbers, slots; the arrays' classes; the five addresses
abbrev Wc : Type := Nat × va_G × (ClassId × ClassId × ClassId) × (Nat × Nat × Nat × Nat × Nat)
abbrev w_N (w : Wc) : Nat := w.1
abbrev w_D (w : Wc) : va_G := w.2.1
abbrev w_cB (w : Wc) : ClassId := w.2.2.1.1
abbrev w_cZ (w : Wc) : ClassId := w.2.2.1.2.1
abbrev w_cL (w : Wc) : ClassId := w.2.2.1.2.2
abbrev w_x (w : Wc) : Nat := w.2.2.2.1
abbrev w_b (w : Wc) : Nat := w.2.2.2.2.1
abbrev w_m (w : Wc) : Nat := w.2.2.2.2.2.1
abbrev w_r (w : Wc) : Nat := w.2.2.2.2.2.2.1
abbrev w_o (w : Wc) : Nat := w.2.2.2.2.2.2.2
abbrev w_A (w : Wc) : Nat → Prop := fun q => w_N w ≤ q
/-- at, end, bits -/
abbrev St : Type := Nat × Nat × (Nat → Bool)
/-- failed; place, size, bits; reading; good -/
abbrev Mt : Type := Int32 × St × Nat × Bool
def bI (b : Bool) : Int32 := if b then 1 else 0
/-- the byte number k, as a number below 256 -/
def pb_cod (b : Nat → Bool) (k : Nat) : Nat := (b (8 * k)).toNat * 128 + (b (8 * k + 1)).toNat * 64 + (b (8 * k + 2)).toNat * 32 + (b (8 * k + 3)).toNat * 16 + (b (8 * k + 4)).toNat * 8 + (b (8 * k + 5)).toNat * 4 + (b (8 * k + 6)).toNat * 2 + (b (8 * k + 7)).toNat
def pb_by (b : Nat → Bool) (k : Nat) : Int32 := (nI (pb_cod b k)).toInt8.toInt32
abbrev pb_wl (w : Wc) (S : St) (T : Mt) (f r : Nat → Int32) (g : Nat → Int64) : va_W :=
  [(w_x w, .inr (0, [.ref (w_b w), .int (nI S.1), .int (nI S.2.1)])), (w_b w, .inl (w_cB w, 8192, .inl f)),
   (w_m w, .inr (1, [.int T.1, .ref (w_r w), .int (nI T.2.1.2.1), .int (nI T.2.1.1), .int (nI T.2.2.1), .int (bI T.2.2.2)])), (w_r w, .inl (w_cZ w, 65536, .inl r)), (w_o w, .inl (w_cL w, 1, .inr (.inl g)))]
abbrev pb_tys (w : Wc) : List (ClassId × FieldType) := [(w_cB w, .byte), (w_cZ w, .boolean), (w_cL w, .long)]
def pb_Wd (w : Wc) (S : St) (T : Mt) (ov : Int64) (U : State) (H : Heap) : Prop := ∃ (f r : Nat → Int32) (g : Nat → Int64), (∀ k, k < 8192 → f k = pb_by S.2.2 k) ∧ (∀ k, k < 65536 → r k = bI (T.2.1.2.2 k)) ∧ g 0 = ov ∧
  va_P (w_D w) pb_cl (pb_wl w S T f r g) H ∧ va_D (w_A w) (pb_wl w S T f r g) ∧ va_K (w_D w) pb_cl (pb_tys w) U ∧ pb_EX (w_N w) U H
theorem pb_Wd_moved {w : Wc} {S : St} {T : Mt} {ov : Int64} {u U : State} {H : Heap} (hvm : u.vm.Alike U.vm) (h : pb_Wd w S T ov u H) : pb_Wd w S T ov U H := by
  obtain ⟨f, r, g, h1, h2, h3, h4, h5, h6, h7⟩ := h
  exact ⟨f, r, g, h1, h2, h3, h4, h5, va_K.moved hvm h6, pb_EX_moved hvm h7⟩
theorem pb_Wd_N {w : Wc} {S : St} {T : Mt} {ov : Int64} {U : State} {H : Heap} (h : pb_Wd w S T ov U H) : w_N w ≤ H.size := by
  obtain ⟨f, r, g, h1, h2, h3, h4, h5, h6, h7⟩ := h
  exact Nat.le_of_lt (Nat.lt_of_le_of_lt (h5.2 0 _ rfl) (h4 0 _ rfl).lt)
/-- old cells kept -/
theorem pb_Wd_kept {w : Wc} {S : St} {T : Mt} {ov : Int64} {U : State} {H H1 : Heap} (h : pb_Wd w S T ov U H) (hq : ∀ q, q < H.size → H1[q]? = H[q]?) : pb_Wd w S T ov U H1 := by
  have hN := pb_Wd_N h
  obtain ⟨f, r, g, h1, h2, h3, h4, h5, h6, h7⟩ := h
  exact ⟨f, r, g, h1, h2, h3, h4.kept (fun k q hk => hq _ (h4 k q hk).lt), h5, h6, pb_EX_kept h7 (fun q h => hq q (Nat.lt_of_lt_of_le h hN))⟩
theorem pb_Wd_x {w : Wc} {S : St} {T : Mt} {ov : Int64} {U : State} {H : Heap} (h : pb_Wd w S T ov U H) : ∃ cell : Cell, H[w_x w]? = some cell ∧ cell.vm.isStatics = false ∧ U.vm.findClass R_X = some cell.cls := by
  obtain ⟨f, r, g, h1, h2, h3, h4, h5, h6, h7⟩ := h
  exact va_recv h6 h4 (ci := 0) (q0 := 0) rfl rfl
theorem pb_Wd_m {w : Wc} {S : St} {T : Mt} {ov : Int64} {U : State} {H : Heap} (h : pb_Wd w S T ov U H) : ∃ cell : Cell, H[w_m w]? = some cell ∧ cell.vm.isStatics = false ∧ U.vm.findClass R_M = some cell.cls := by
  obtain ⟨f, r, g, h1, h2, h3, h4, h5, h6, h7⟩ := h
  exact va_recv h6 h4 (ci := 1) (q0 := 2) rfl rfl
/-- returned a value, or threw an exception of a class -/
abbrev Out : Type := Option Value ⊕ String
abbrev Rs : Type := Out × St × Mt × Int64
def pb_out : Out → Outcome → State → Prop
  | .inl v, oc, _ => oc = .returned v
  | .inr C, oc, t => ∃ a, oc = .threw a ∧ pb_Ex C a t t.heap
def pb_Q (w : Wc) (r : Rs) : Array Value → State → Outcome → State → Prop := fun _ st oc t => pb_out r.1 oc t ∧ pb_Wd w r.2.1 r.2.2.1 r.2.2.2 t t.heap ∧ va_F (w_A w) st t
def pb_Pc (w : Wc) (av : List Value) (S : St) (T : Mt) (ov : Int64) : Array Value → State → Prop := va_Pc av (fun U => pb_Wd w S T ov U U.heap)
/-- a method's contract -/
abbrev pb_C (l : Launch) (w : Wc) (y : MethodName) (rm : Room) (av : List Value) (S : St) (T : Mt) (ov : Int64) (r : Rs) : Prop := pb_MetA l y rm (pb_Pc w av S T ov) (pb_Q w r) (w_A w)
abbrev pb_CF (p : Program) (m : MethodId) (c : Code) (cc : ByteArray) (nL : Nat) (s : State) (args : Array Value) (own : String) : Prop := CallFix p m c cc nL s args pb_ws own
theorem pb_below {w : Wc} {s : State} {H H1 : Heap} {locs locs1 : List Loc} (hN : w_N w ≤ s.heap.size) (h : va_S (w_A w) s.heap H locs) (h1 : va_S (w_A w) s.heap H1 locs1) : ∀ q, q < w_N w → H1[q]? = H[q]? := fun q hq => by
  have hn : ¬ w_A w q := fun z => Nat.lt_irrefl _ (Nat.lt_of_lt_of_le hq z)
  rw [h.2.1 q (Nat.lt_of_lt_of_le hq hN) hn, h1.2.1 q (Nat.lt_of_lt_of_le hq hN) hn]
end
section
/-! part 04: one row an instruction over the world: fields, arrays, calls, ends, throws -/
section PBROW
variable {p : Program} {l : Launch} {e : Env} {R : Room} {s : State} {m : MethodId} {args : Array Value} {below : List Frame} {meth : Method} {c : Code} {H : Heap} {locs : List Loc} {cells slots : Nat} {Q : State → Prop}
variable {cc : ByteArray} {pc nL : Nat} {ls : Array Slot} {rest : List Value} {w : Wc} {S : St} {T : Mt} {ov : Int64}
theorem lv_eqi {x y : Int32} (h : x = y) (k : W p l e R s m args below meth c H locs cells slots Q (F0 m pc ls (.int y :: rest))) : W p l e R s m args below meth c H locs cells slots Q (F0 m pc ls (.int x :: rest)) := by rw [h]; exact k
theorem lv_eql {x y : Int64} (h : x = y) (k : W p l e R s m args below meth c H locs cells slots Q (F0 m pc ls (.long y :: rest))) : W p l e R s m args below meth c H locs cells slots Q (F0 m pc ls (.long x :: rest)) := by rw [h]; exact k

theorem g_X_out (C : pb_CF p m c cc nL s args R_X) (hw : pb_Wd w S T ov s H) (hdg : decode cc pc = .ok (.getfield 9, 3))
    (k : W p l e R s m args below meth c H locs cells slots Q (F0 m (pc + 3) ls (.ref (w_b w) :: rest))) : W p l e R s m args below meth c H locs cells slots Q (F0 m pc ls (.ref (w_x w) :: rest)) := by
  obtain ⟨hx, hb, hml, hown, hts⟩ := C
  obtain ⟨f, r, g, h1, h2, h3, hP, hD, hK, hE⟩ := hw
  exact va_get (D := w_D w) (ci := 0) (v := .ref (w_b w)) (C := R_X) (T := F_X) (N := 3) hx hb hts u_X hown hK hP 0 rfl rfl 0 (by decide) (hts _ pb_k18) (fun _ h9 => h9) rfl hdg k
theorem g_X_at (C : pb_CF p m c cc nL s args R_X) (hw : pb_Wd w S T ov s H) (hdg : decode cc pc = .ok (.getfield 54, 3))
    (k : W p l e R s m args below meth c H locs cells slots Q (F0 m (pc + 3) ls (.int (nI S.1) :: rest))) : W p l e R s m args below meth c H locs cells slots Q (F0 m pc ls (.ref (w_x w) :: rest)) := by
  obtain ⟨hx, hb, hml, hown, hts⟩ := C
  obtain ⟨f, r, g, h1, h2, h3, hP, hD, hK, hE⟩ := hw
  exact va_get (D := w_D w) (ci := 0) (v := .int (nI S.1)) (C := R_X) (T := F_X) (N := 3) hx hb hts u_X hown hK hP 0 rfl rfl 1 (by decide) (hts _ pb_k19) (fun _ h9 => h9) rfl hdg k
theorem g_X_end (C : pb_CF p m c cc nL s args R_X) (hw : pb_Wd w S T ov s H) (hdg : decode cc pc = .ok (.getfield 22, 3))
    (k : W p l e R s m args below meth c H locs cells slots Q (F0 m (pc + 3) ls (.int (nI S.2.1) :: rest))) : W p l e R s m args below meth c H locs cells slots Q (F0 m pc ls (.ref (w_x w) :: rest)) := by
  obtain ⟨hx, hb, hml, hown, hts⟩ := C
  obtain ⟨f, r, g, h1, h2, h3, hP, hD, hK, hE⟩ := hw
  exact va_get (D := w_D w) (ci := 0) (v := .int (nI S.2.1)) (C := R_X) (T := F_X) (N := 3) hx hb hts u_X hown hK hP 0 rfl rfl 2 (by decide) (hts _ pb_k20) (fun _ h9 => h9) rfl hdg k
theorem g_M_failed (C : pb_CF p m c cc nL s args R_M) (hw : pb_Wd w S T ov s H) (hdg : decode cc pc = .ok (.getfield 14, 3))
    (k : W p l e R s m args below meth c H locs cells slots Q (F0 m (pc + 3) ls (.int T.1 :: rest))) : W p l e R s m args below meth c H locs cells slots Q (F0 m pc ls (.ref (w_m w) :: rest)) := by
  obtain ⟨hx, hb, hml, hown, hts⟩ := C
  obtain ⟨f, r, g, h1, h2, h3, hP, hD, hK, hE⟩ := hw
  exact va_get (D := w_D w) (ci := 1) (v := .int T.1) (C := R_M) (T := F_M) (N := 6) hx hb hts u_M hown hK hP 2 rfl rfl 0 (by decide) (hts _ pb_k264) (fun _ h9 => h9) rfl hdg k
theorem g_M_row (C : pb_CF p m c cc nL s args R_M) (hw : pb_Wd w S T ov s H) (hdg : decode cc pc = .ok (.getfield 8, 3))
    (k : W p l e R s m args below meth c H locs cells slots Q (F0 m (pc + 3) ls (.ref (w_r w) :: rest))) : W p l e R s m args below meth c H locs cells slots Q (F0 m pc ls (.ref (w_m w) :: rest)) := by
  obtain ⟨hx, hb, hml, hown, hts⟩ := C
  obtain ⟨f, r, g, h1, h2, h3, hP, hD, hK, hE⟩ := hw
  exact va_get (D := w_D w) (ci := 1) (v := .ref (w_r w)) (C := R_M) (T := F_M) (N := 6) hx hb hts u_M hown hK hP 2 rfl rfl 1 (by decide) (hts _ pb_k265) (fun _ h9 => h9) rfl hdg k
theorem g_M_size (C : pb_CF p m c cc nL s args R_M) (hw : pb_Wd w S T ov s H) (hdg : decode cc pc = .ok (.getfield 24, 3))
    (k : W p l e R s m args below meth c H locs cells slots Q (F0 m (pc + 3) ls (.int (nI T.2.1.2.1) :: rest))) : W p l e R s m args below meth c H locs cells slots Q (F0 m pc ls (.ref (w_m w) :: rest)) := by
  obtain ⟨hx, hb, hml, hown, hts⟩ := C
  obtain ⟨f, r, g, h1, h2, h3, hP, hD, hK, hE⟩ := hw
  exact va_get (D := w_D w) (ci := 1) (v := .int (nI T.2.1.2.1)) (C := R_M) (T := F_M) (N := 6) hx hb hts u_M hown hK hP 2 rfl rfl 2 (by decide) (hts _ pb_k266) (fun _ h9 => h9) rfl hdg k
theorem g_M_place (C : pb_CF p m c cc nL s args R_M) (hw : pb_Wd w S T ov s H) (hdg : decode cc pc = .ok (.getfield 64, 3))
    (k : W p l e R s m args below meth c H locs cells slots Q (F0 m (pc + 3) ls (.int (nI T.2.1.1) :: rest))) : W p l e R s m args below meth c H locs cells slots Q (F0 m pc ls (.ref (w_m w) :: rest)) := by
  obtain ⟨hx, hb, hml, hown, hts⟩ := C
  obtain ⟨f, r, g, h1, h2, h3, hP, hD, hK, hE⟩ := hw
  exact va_get (D := w_D w) (ci := 1) (v := .int (nI T.2.1.1)) (C := R_M) (T := F_M) (N := 6) hx hb hts u_M hown hK hP 2 rfl rfl 3 (by decide) (hts _ pb_k267) (fun _ h9 => h9) rfl hdg k
theorem g_M_reading (C : pb_CF p m c cc nL s args R_M) (hw : pb_Wd w S T ov s H) (hdg : decode cc pc = .ok (.getfield 57, 3))
    (k : W p l e R s m args below meth c H locs cells slots Q (F0 m (pc + 3) ls (.int (nI T.2.2.1) :: rest))) : W p l e R s m args below meth c H locs cells slots Q (F0 m pc ls (.ref (w_m w) :: rest)) := by
  obtain ⟨hx, hb, hml, hown, hts⟩ := C
  obtain ⟨f, r, g, h1, h2, h3, hP, hD, hK, hE⟩ := hw
  exact va_get (D := w_D w) (ci := 1) (v := .int (nI T.2.2.1)) (C := R_M) (T := F_M) (N := 6) hx hb hts u_M hown hK hP 2 rfl rfl 4 (by decide) (hts _ pb_k268) (fun _ h9 => h9) rfl hdg k
theorem g_M_good (C : pb_CF p m c cc nL s args R_M) (hw : pb_Wd w S T ov s H) (hdg : decode cc pc = .ok (.getfield 60, 3))
    (k : W p l e R s m args below meth c H locs cells slots Q (F0 m (pc + 3) ls (.int (bI T.2.2.2) :: rest))) : W p l e R s m args below meth c H locs cells slots Q (F0 m pc ls (.ref (w_m w) :: rest)) := by
  obtain ⟨hx, hb, hml, hown, hts⟩ := C
  obtain ⟨f, r, g, h1, h2, h3, hP, hD, hK, hE⟩ := hw
  exact va_get (D := w_D w) (ci := 1) (v := .int (bI T.2.2.2)) (C := R_M) (T := F_M) (N := 6) hx hb hts u_M hown hK hP 2 rfl rfl 5 (by decide) (hts _ pb_k269) (fun _ h9 => h9) rfl hdg k
theorem p_X_at (C : pb_CF p m c cc nL s args R_X) (hN : w_N w ≤ s.heap.size) (hw : pb_Wd w S T ov s H) (hS : va_S (w_A w) s.heap H locs) (n : Nat) (hdg : decode cc pc = .ok (.putfield 54, 3))
    (k : ∀ (H1 : Heap) (locs1 : List Loc), pb_Wd w (n, S.2.1, S.2.2) T ov s H1 → va_S (w_A w) s.heap H1 locs1 → W p l e R s m args below meth c H1 locs1 cells slots Q (F0 m (pc + 3) ls rest)) : W p l e R s m args below meth c H locs cells slots Q (F0 m pc ls (.int (nI n) :: .ref (w_x w) :: rest)) := by
  obtain ⟨hx, hb, hml, hown, hts⟩ := C
  obtain ⟨f, r, g, h1, h2, h3, hP, hD, hK, hE⟩ := hw
  exact va_put (D := w_D w) (ci := 0) (v := .int (nI n)) (ty := .int) (C := R_X) (T := F_X) (N := 3) hx hb hts u_X t_X t_X_ok n_X hown hK hP hD hS 0 rfl rfl 1 (by decide) (hts _ pb_k19) (fun _ h9 => h9) rfl (by decide +kernel) rfl rfl (Nat.le_of_ble_eq_true rfl) hdg
    (fun H1 locs1 hP1 hD1 hS1 => k H1 locs1 ⟨f, r, g, h1, h2, h3, hP1, hD1, hK, pb_EX_kept hE (pb_below hN hS hS1)⟩ hS1)
theorem p_X_end (C : pb_CF p m c cc nL s args R_X) (hN : w_N w ≤ s.heap.size) (hw : pb_Wd w S T ov s H) (hS : va_S (w_A w) s.heap H locs) (n : Nat) (hdg : decode cc pc = .ok (.putfield 22, 3))
    (k : ∀ (H1 : Heap) (locs1 : List Loc), pb_Wd w (S.1, n, S.2.2) T ov s H1 → va_S (w_A w) s.heap H1 locs1 → W p l e R s m args below meth c H1 locs1 cells slots Q (F0 m (pc + 3) ls rest)) : W p l e R s m args below meth c H locs cells slots Q (F0 m pc ls (.int (nI n) :: .ref (w_x w) :: rest)) := by
  obtain ⟨hx, hb, hml, hown, hts⟩ := C
  obtain ⟨f, r, g, h1, h2, h3, hP, hD, hK, hE⟩ := hw
  exact va_put (D := w_D w) (ci := 0) (v := .int (nI n)) (ty := .int) (C := R_X) (T := F_X) (N := 3) hx hb hts u_X t_X t_X_ok n_X hown hK hP hD hS 0 rfl rfl 2 (by decide) (hts _ pb_k20) (fun _ h9 => h9) rfl (by decide +kernel) rfl rfl (Nat.le_of_ble_eq_true rfl) hdg
    (fun H1 locs1 hP1 hD1 hS1 => k H1 locs1 ⟨f, r, g, h1, h2, h3, hP1, hD1, hK, pb_EX_kept hE (pb_below hN hS hS1)⟩ hS1)
theorem p_M_failed (C : pb_CF p m c cc nL s args R_M) (hN : w_N w ≤ s.heap.size) (hw : pb_Wd w S T ov s H) (hS : va_S (w_A w) s.heap H locs) {n : Int32} (hdg : decode cc pc = .ok (.putfield 14, 3))
    (k : ∀ (H1 : Heap) (locs1 : List Loc), pb_Wd w S (n, T.2) ov s H1 → va_S (w_A w) s.heap H1 locs1 → W p l e R s m args below meth c H1 locs1 cells slots Q (F0 m (pc + 3) ls rest)) : W p l e R s m args below meth c H locs cells slots Q (F0 m pc ls (.int n :: .ref (w_m w) :: rest)) := by
  obtain ⟨hx, hb, hml, hown, hts⟩ := C
  obtain ⟨f, r, g, h1, h2, h3, hP, hD, hK, hE⟩ := hw
  exact va_put (D := w_D w) (ci := 1) (v := .int n) (ty := .int) (C := R_M) (T := F_M) (N := 6) hx hb hts u_M t_M t_M_ok n_M hown hK hP hD hS 2 rfl rfl 0 (by decide) (hts _ pb_k264) (fun _ h9 => h9) rfl (by decide +kernel) rfl rfl (Nat.le_of_ble_eq_true rfl) hdg
    (fun H1 locs1 hP1 hD1 hS1 => k H1 locs1 ⟨f, r, g, h1, h2, h3, hP1, hD1, hK, pb_EX_kept hE (pb_below hN hS hS1)⟩ hS1)
theorem p_M_size (C : pb_CF p m c cc nL s args R_M) (hN : w_N w ≤ s.heap.size) (hw : pb_Wd w S T ov s H) (hS : va_S (w_A w) s.heap H locs) (n : Nat) (hdg : decode cc pc = .ok (.putfield 24, 3))
    (k : ∀ (H1 : Heap) (locs1 : List Loc), pb_Wd w S (T.1, (T.2.1.1, n, T.2.1.2.2), T.2.2) ov s H1 → va_S (w_A w) s.heap H1 locs1 → W p l e R s m args below meth c H1 locs1 cells slots Q (F0 m (pc + 3) ls rest)) : W p l e R s m args below meth c H locs cells slots Q (F0 m pc ls (.int (nI n) :: .ref (w_m w) :: rest)) := by
  obtain ⟨hx, hb, hml, hown, hts⟩ := C
  obtain ⟨f, r, g, h1, h2, h3, hP, hD, hK, hE⟩ := hw
  exact va_put (D := w_D w) (ci := 1) (v := .int (nI n)) (ty := .int) (C := R_M) (T := F_M) (N := 6) hx hb hts u_M t_M t_M_ok n_M hown hK hP hD hS 2 rfl rfl 2 (by decide) (hts _ pb_k266) (fun _ h9 => h9) rfl (by decide +kernel) rfl rfl (Nat.le_of_ble_eq_true rfl) hdg
    (fun H1 locs1 hP1 hD1 hS1 => k H1 locs1 ⟨f, r, g, h1, h2, h3, hP1, hD1, hK, pb_EX_kept hE (pb_below hN hS hS1)⟩ hS1)
theorem p_M_place (C : pb_CF p m c cc nL s args R_M) (hN : w_N w ≤ s.heap.size) (hw : pb_Wd w S T ov s H) (hS : va_S (w_A w) s.heap H locs) (n : Nat) (hdg : decode cc pc = .ok (.putfield 64, 3))
    (k : ∀ (H1 : Heap) (locs1 : List Loc), pb_Wd w S (T.1, (n, T.2.1.2), T.2.2) ov s H1 → va_S (w_A w) s.heap H1 locs1 → W p l e R s m args below meth c H1 locs1 cells slots Q (F0 m (pc + 3) ls rest)) : W p l e R s m args below meth c H locs cells slots Q (F0 m pc ls (.int (nI n) :: .ref (w_m w) :: rest)) := by
  obtain ⟨hx, hb, hml, hown, hts⟩ := C
  obtain ⟨f, r, g, h1, h2, h3, hP, hD, hK, hE⟩ := hw
  exact va_put (D := w_D w) (ci := 1) (v := .int (nI n)) (ty := .int) (C := R_M) (T := F_M) (N := 6) hx hb hts u_M t_M t_M_ok n_M hown hK hP hD hS 2 rfl rfl 3 (by decide) (hts _ pb_k267) (fun _ h9 => h9) rfl (by decide +kernel) rfl rfl (Nat.le_of_ble_eq_true rfl) hdg
    (fun H1 locs1 hP1 hD1 hS1 => k H1 locs1 ⟨f, r, g, h1, h2, h3, hP1, hD1, hK, pb_EX_kept hE (pb_below hN hS hS1)⟩ hS1)
theorem p_M_reading (C : pb_CF p m c cc nL s args R_M) (hN : w_N w ≤ s.heap.size) (hw : pb_Wd w S T ov s H) (hS : va_S (w_A w) s.heap H locs) (n : Nat) (hdg : decode cc pc = .ok (.putfield 57, 3))
    (k : ∀ (H1 : Heap) (locs1 : List Loc), pb_Wd w S (T.1, T.2.1, n, T.2.2.2) ov s H1 → va_S (w_A w) s.heap H1 locs1 → W p l e R s m args below meth c H1 locs1 cells slots Q (F0 m (pc + 3) ls rest)) : W p l e R s m args below meth c H locs cells slots Q (F0 m pc ls (.int (nI n) :: .ref (w_m w) :: rest)) := by
  obtain ⟨hx, hb, hml, hown, hts⟩ := C
  obtain ⟨f, r, g, h1, h2, h3, hP, hD, hK, hE⟩ := hw
  exact va_put (D := w_D w) (ci := 1) (v := .int (nI n)) (ty := .int) (C := R_M) (T := F_M) (N := 6) hx hb hts u_M t_M t_M_ok n_M hown hK hP hD hS 2 rfl rfl 4 (by decide) (hts _ pb_k268) (fun _ h9 => h9) rfl (by decide +kernel) rfl rfl (Nat.le_of_ble_eq_true rfl) hdg
    (fun H1 locs1 hP1 hD1 hS1 => k H1 locs1 ⟨f, r, g, h1, h2, h3, hP1, hD1, hK, pb_EX_kept hE (pb_below hN hS hS1)⟩ hS1)
theorem p_M_good (C : pb_CF p m c cc nL s args R_M) (hN : w_N w ≤ s.heap.size) (hw : pb_Wd w S T ov s H) (hS : va_S (w_A w) s.heap H locs) (n : Bool) (hdg : decode cc pc = .ok (.putfield 60, 3))
    (k : ∀ (H1 : Heap) (locs1 : List Loc), pb_Wd w S (T.1, T.2.1, T.2.2.1, n) ov s H1 → va_S (w_A w) s.heap H1 locs1 → W p l e R s m args below meth c H1 locs1 cells slots Q (F0 m (pc + 3) ls rest)) : W p l e R s m args below meth c H locs cells slots Q (F0 m pc ls (.int (bI n) :: .ref (w_m w) :: rest)) := by
  obtain ⟨hx, hb, hml, hown, hts⟩ := C
  obtain ⟨f, r, g, h1, h2, h3, hP, hD, hK, hE⟩ := hw
  exact va_put (D := w_D w) (ci := 1) (v := .int (bI n)) (ty := .boolean) (C := R_M) (T := F_M) (N := 6) hx hb hts u_M t_M t_M_ok n_M hown hK hP hD hS 2 rfl rfl 5 (by decide) (hts _ pb_k269) (fun _ h9 => h9) rfl (by decide +kernel) (by cases n <;> rfl) (by cases n <;> rfl) (Nat.le_of_ble_eq_true rfl) hdg
    (fun H1 locs1 hP1 hD1 hS1 => k H1 locs1 ⟨f, r, g, h1, h2, h3, hP1, hD1, hK, pb_EX_kept hE (pb_below hN hS hS1)⟩ hS1)
theorem nI_cl {n N : Nat} (h : n < N) (hN : N < 2 ^ 31) : (nI n).toNatClampNeg = n := nI_clamp (Nat.lt_trans h hN)
theorem b_ld (C : p.tables.exec = Jvm.exec ∧ c.code = cc) (hw : pb_Wd w S T ov s H) {k : Nat} (hk : k < 8192) (hdg : decode cc pc = .ok (.baload, 1))
    (kk : W p l e R s m args below meth c H locs cells slots Q (F0 m (pc + 1) ls (.int (pb_by S.2.2 k) :: rest))) : W p l e R s m args below meth c H locs cells slots Q (F0 m pc ls (.int (nI k) :: .ref (w_b w) :: rest)) := by
  obtain ⟨hx, hb⟩ := C
  obtain ⟨f, r, g, h1, h2, h3, hP, hD, hK, hE⟩ := hw
  refine va_bald hx hb hK hP 1 0 (f := f) rfl rfl (vp_in_nI hk (by decide)) hdg ?_
  rw [nI_cl hk (by decide), h1 k hk]
  exact kk
theorem b_st (C : p.tables.exec = Jvm.exec ∧ c.code = cc) (hN : w_N w ≤ s.heap.size) (hw : pb_Wd w S T ov s H) (hS : va_S (w_A w) s.heap H locs) {k : Nat} {v : Int32} (b : Nat → Bool) (hk : k < 8192) (hv : vp_nar .byte v = pb_by b k) (ho : ∀ j, j < 8192 → j ≠ k → pb_by b j = pb_by S.2.2 j) (hdg : decode cc pc = .ok (.bastore, 1))
    (kk : ∀ (H1 : Heap) (locs1 : List Loc), pb_Wd w (S.1, S.2.1, b) T ov s H1 → va_S (w_A w) s.heap H1 locs1 → W p l e R s m args below meth c H1 locs1 cells slots Q (F0 m (pc + 1) ls rest)) : W p l e R s m args below meth c H locs cells slots Q (F0 m pc ls (.int v :: .int (nI k) :: .ref (w_b w) :: rest)) := by
  obtain ⟨hx, hb⟩ := C
  obtain ⟨f, r, g, h1, h2, h3, hP, hD, hK, hE⟩ := hw
  refine va_bast hx hb hK hP hD hS 1 0 (f := f) rfl rfl (vp_in_nI hk (by decide)) hdg (fun H1 locs1 hP1 hD1 hS1 => kk H1 locs1 ⟨upd f (nI k).toNatClampNeg (vp_nar .byte v), r, g, fun j hj => ?_, h2, h3, hP1, hD1, hK, pb_EX_kept hE (pb_below hN hS hS1)⟩ hS1)
  rw [nI_cl hk (by decide)]
  by_cases hjk : j = k
  · subst hjk
    rw [pk_us]
    exact hv
  · rw [pk_un hjk, h1 j hj]
    exact (ho j hj hjk).symm
theorem z_ld (C : p.tables.exec = Jvm.exec ∧ c.code = cc) (hw : pb_Wd w S T ov s H) {k : Nat} (hk : k < 65536) (hdg : decode cc pc = .ok (.baload, 1))
    (kk : W p l e R s m args below meth c H locs cells slots Q (F0 m (pc + 1) ls (.int (bI (T.2.1.2.2 k)) :: rest))) : W p l e R s m args below meth c H locs cells slots Q (F0 m pc ls (.int (nI k) :: .ref (w_r w) :: rest)) := by
  obtain ⟨hx, hb⟩ := C
  obtain ⟨f, r, g, h1, h2, h3, hP, hD, hK, hE⟩ := hw
  refine va_zald hx hb hK hP 3 1 (f := r) rfl rfl (vp_in_nI hk (by decide)) hdg ?_
  rw [nI_cl hk (by decide), h2 k hk]
  exact kk
def upb (b : Nat → Bool) (k : Nat) (v : Bool) : Nat → Bool := fun j => if j = k then v else b j
theorem z_st (C : p.tables.exec = Jvm.exec ∧ c.code = cc) (hN : w_N w ≤ s.heap.size) (hw : pb_Wd w S T ov s H) (hS : va_S (w_A w) s.heap H locs) {k : Nat} (v : Bool) (hk : k < 65536) (hdg : decode cc pc = .ok (.bastore, 1))
    (kk : ∀ (H1 : Heap) (locs1 : List Loc), pb_Wd w S (T.1, (T.2.1.1, T.2.1.2.1, upb T.2.1.2.2 k v), T.2.2) ov s H1 → va_S (w_A w) s.heap H1 locs1 → W p l e R s m args below meth c H1 locs1 cells slots Q (F0 m (pc + 1) ls rest)) : W p l e R s m args below meth c H locs cells slots Q (F0 m pc ls (.int (bI v) :: .int (nI k) :: .ref (w_r w) :: rest)) := by
  obtain ⟨hx, hb⟩ := C
  obtain ⟨f, r, g, h1, h2, h3, hP, hD, hK, hE⟩ := hw
  refine va_zast hx hb hK hP hD hS 3 1 (f := r) rfl rfl (vp_in_nI hk (by decide)) hdg (fun H1 locs1 hP1 hD1 hS1 => kk H1 locs1 ⟨f, upd r (nI k).toNatClampNeg (vp_nar .boolean (bI v)), g, h1, fun j hj => ?_, h3, hP1, hD1, hK, pb_EX_kept hE (pb_below hN hS hS1)⟩ hS1)
  rw [nI_cl hk (by decide)]
  by_cases hjk : j = k
  · subst hjk
    rw [pk_us]
    show _ = bI (if j = j then v else _)
    rw [if_pos rfl]
    cases v <;> rfl
  · rw [pk_un hjk, h2 j hj]
    show _ = bI (if j = k then v else _)
    rw [if_neg hjk]
theorem o_ld (C : p.tables.exec = Jvm.exec ∧ c.code = cc) (hw : pb_Wd w S T ov s H) (hdg : decode cc pc = .ok (.laload, 1))
    (kk : W p l e R s m args below meth c H locs cells slots Q (F0 m (pc + 1) ls (.long ov :: rest))) : W p l e R s m args below meth c H locs cells slots Q (F0 m pc ls (.int 0 :: .ref (w_o w) :: rest)) := by
  obtain ⟨hx, hb⟩ := C
  obtain ⟨f, r, g, h1, h2, h3, hP, hD, hK, hE⟩ := hw
  refine va_lald hx hb hK hP 4 2 (f := g) rfl rfl (vp_in_nI (n := 0) (N := 1) (by decide) (by decide)) hdg ?_
  rw [sb_cl0, h3]
  exact kk
theorem o_st (C : p.tables.exec = Jvm.exec ∧ c.code = cc) (hN : w_N w ≤ s.heap.size) (hw : pb_Wd w S T ov s H) (hS : va_S (w_A w) s.heap H locs) {v : Int64} (hdg : decode cc pc = .ok (.lastore, 1))
    (kk : ∀ (H1 : Heap) (locs1 : List Loc), pb_Wd w S T v s H1 → va_S (w_A w) s.heap H1 locs1 → W p l e R s m args below meth c H1 locs1 cells slots Q (F0 m (pc + 1) ls rest)) : W p l e R s m args below meth c H locs cells slots Q (F0 m pc ls (.long v :: .int 0 :: .ref (w_o w) :: rest)) := by
  obtain ⟨hx, hb⟩ := C
  obtain ⟨f, r, g, h1, h2, h3, hP, hD, hK, hE⟩ := hw
  refine va_last hx hb hK hP hD hS 4 2 (f := g) rfl rfl (vp_in_nI (n := 0) (N := 1) (by decide) (by decide)) hdg (fun H1 locs1 hP1 hD1 hS1 => kk H1 locs1 ⟨f, r, _, h1, h2, ?_, hP1, hD1, hK, pb_EX_kept hE (pb_below hN hS hS1)⟩ hS1)
  rw [sb_cl0]
  exact pk_uLs
theorem e_i {r : Rs} {v : Int32} {mc ms : Nat} (hb : p.tables.exec = Jvm.exec ∧ c.code = cc) (hr : meth.sig.returnType = some .int) (hlocks : meth.locks = false) (hw : pb_Wd w S T ov s H) (hS : va_S (w_A w) s.heap H locs) (hq : r = (.inl (some (.int v)), S, T, ov)) (hc : cells ≤ mc) (hs : slots ≤ ms) (hdg : decode cc pc = .ok (.ireturn, 1)) :
    W p l e R s m args below meth c H locs cells slots (pb_MQA below (pb_Q w r) args s mc ms (w_A w)) (F0 m pc ls [.int v]) := by
  subst hq
  refine W.widen hc hs (pb_mono (fun t ht => pb_MQ t ht) ?_)
  exact W.iret (v := v) hb.1 hb.2 hr (fun t ht hW => ⟨rfl, by rw [ht]; exact pb_Wd_moved hW.alike hw, hS.F ht⟩) hS.2.2 hdg hlocks
theorem e_l {r : Rs} {v : Int64} {mc ms : Nat} (hb : p.tables.exec = Jvm.exec ∧ c.code = cc) (hr : meth.sig.returnType = some .long) (hlocks : meth.locks = false) (hw : pb_Wd w S T ov s H) (hS : va_S (w_A w) s.heap H locs) (hq : r = (.inl (some (.long v)), S, T, ov)) (hc : cells ≤ mc) (hs : slots ≤ ms) (hdg : decode cc pc = .ok (.lreturn, 1)) :
    W p l e R s m args below meth c H locs cells slots (pb_MQA below (pb_Q w r) args s mc ms (w_A w)) (F0 m pc ls [.long v]) := by
  subst hq
  refine W.widen hc hs (pb_mono (fun t ht => pb_MQ t ht) ?_)
  exact W.lret (v := v) hb.1 hb.2 hr (fun t ht hW => ⟨rfl, by rw [ht]; exact pb_Wd_moved hW.alike hw, hS.F ht⟩) hS.2.2 hdg hlocks
theorem e_v {r : Rs}  {mc ms : Nat} (hb : p.tables.exec = Jvm.exec ∧ c.code = cc) (hr : meth.sig.returnType = none) (hlocks : meth.locks = false) (hw : pb_Wd w S T ov s H) (hS : va_S (w_A w) s.heap H locs) (hq : r = (.inl (none), S, T, ov)) (hc : cells ≤ mc) (hs : slots ≤ ms) (hdg : decode cc pc = .ok (.return_, 1)) :
    W p l e R s m args below meth c H locs cells slots (pb_MQA below (pb_Q w r) args s mc ms (w_A w)) (F0 m pc ls []) := by
  subst hq
  refine W.widen hc hs (pb_mono (fun t ht => pb_MQ t ht) ?_)
  exact W.vret hb.1 hb.2 hr (fun t ht hW => ⟨rfl, by rw [ht]; exact pb_Wd_moved hW.alike hw, hS.F ht⟩) hS.2.2 hdg hlocks
theorem e_z {r : Rs} {v : Bool} {mc ms : Nat} (hb : p.tables.exec = Jvm.exec ∧ c.code = cc) (hr : meth.sig.returnType = some .boolean) (hlocks : meth.locks = false) (hw : pb_Wd w S T ov s H) (hS : va_S (w_A w) s.heap H locs) (hq : r = (.inl (some (.int (bI v))), S, T, ov)) (hc : cells ≤ mc) (hs : slots ≤ ms) (hdg : decode cc pc = .ok (.ireturn, 1)) :
    W p l e R s m args below meth c H locs cells slots (pb_MQA below (pb_Q w r) args s mc ms (w_A w)) (F0 m pc ls [.int (bI v)]) := by
  subst hq
  refine W.widen hc hs (pb_mono (fun t ht => pb_MQ t ht) ?_)
  exact W.zret (v := bI v) hb.1 hb.2 hr (by cases v <;> rfl) (fun t ht hW => ⟨rfl, by rw [ht]; exact pb_Wd_moved hW.alike hw, hS.F ht⟩) hS.2.2 hdg hlocks
theorem e_t {r : Rs} {C : String} {mc ms : Nat} {a : Addr} {st : List Value} (hlocks : meth.locks = false) (hout : ∀ x ∈ c.exceptionTable.toList, covers x pc = false) (hw : pb_Wd w S T ov s H) (hS : va_S (w_A w) s.heap H locs) (hex : pb_Ex C a s H) (hq : r = (.inr C, S, T, ov)) (hc : cells ≤ mc) (hs : slots ≤ ms) :
    pb_WT p l e R s m args below meth c H locs cells slots (pb_MQA below (pb_Q w r) args s mc ms (w_A w)) (F0 m pc ls st) a := by
  subst hq
  refine pb_WTwiden hc hs (pb_leave hlocks hout (fun t ht hW => ⟨⟨a, rfl, ?_⟩, by rw [ht]; exact pb_Wd_moved hW.alike hw, hS.F ht⟩) hS.2.2)
  obtain ⟨cell, h1, h2, h3⟩ := hex
  exact ⟨cell, by rw [ht]; exact h1, h2, by rw [hW.alike.findClass]; exact h3⟩
/-- facts of a call of a static method -/
def pb_SF (own : String) (index : Nat) (y : MethodName) (maxL n : Nat) : Prop := Cond.methodLink own index y ∈ pb_ws ∧ Cond.static y ∈ pb_ws ∧ Cond.initialized y.cls ∈ pb_ws ∧ pb_code y maxL ∧ (y.cls ≠ "java/lang/invoke/MethodHandle" ∧ y.cls ≠ "java/lang/invoke/VarHandle") ∧ (parseMethodDescriptor y.desc).map (fun d => d.parameters.length) = some n
/-- facts of a call of an instance method -/
def pb_VF (own : String) (index : Nat) (C : String) (y : MethodName) (maxL n : Nat) : Prop := Cond.methodLink own index y ∈ pb_ws ∧ Cond.instanceMethod y ∈ pb_ws ∧ Cond.selects C y y ∈ pb_ws ∧ Cond.initialized y.cls ∈ pb_ws ∧ pb_code y maxL ∧ (y.cls ≠ "java/lang/invoke/MethodHandle" ∧ y.cls ≠ "java/lang/invoke/VarHandle") ∧ (parseMethodDescriptor y.desc).map (fun d => d.parameters.length) = some n
/-- the room of a callee in the caller's -/
def pb_RM (R rm : Room) (maxL cells slots : Nat) : Prop := rm.frames + 1 ≤ R.frames ∧ 8 + (maxL + 11) + rm.locals ≤ R.locals ∧ cells + rm.cells ≤ R.cells ∧ slots + rm.slots ≤ R.slots
theorem pb_ret {rm : Room} {g : JFrame} {r : Rs} {rv : Option Value} {S1 : St} {T1 : Mt} {o1 : Int64} {a : Array Value} {st0 : List Value}
    (h : ∀ U : State, U.heap = H → Stand p l e R s m args below meth c U locs cells slots → pb_Post p l e R rm s m args below meth c U locs cells slots (F0 m pc ls st0) rest (pb_Q w r a) (w_A w)) (hS : va_S (w_A w) s.heap H locs) (hq : r = (.inl rv, S1, T1, o1))
    (k : ∀ (H1 : Heap) (locs1 : List Loc), pb_Wd w S1 T1 o1 s H1 → va_S (w_A w) s.heap H1 locs1 → W p l e R s m args below meth c H1 locs1 (cells + rm.cells) (slots + rm.slots) Q (F0 m (pc + 3) ls (rv.toList ++ rest))) : W p l e R s m args below meth c H locs cells slots Q (F0 m pc ls st0) := by
  subst hq
  intro U hU X
  obtain ⟨o, st₀, t, U', L, h0, X', e1, e2, hL, ⟨ho, hwd, hz, hk⟩, st⟩ := h U hU X
  have ho : o = .returned rv := ho
  subst ho
  rw [h0, hU] at hz hk
  obtain ⟨t2, a1, b1⟩ := k U'.heap (locs ++ L) (by rw [e1]; exact pb_Wd_moved (by rw [← e2]; exact X'.warmed.alike.symm) hwd)
    ⟨Nat.le_trans hS.1 (by rw [e1]; exact hz), fun q h1 h2 => by rw [e1, hk q (Nat.lt_of_lt_of_le h1 hS.1) h2]; exact hS.2.1 q h1 h2, fun q hq => by
      rcases List.mem_append.mp hq with h | h
      · exact hS.2.2 q h
      · exact hL q h⟩ U' rfl X'
  exact ⟨t2, st t2 a1, b1⟩
theorem pb_thr {rm : Room} {r : Rs} {C : String} {S1 : St} {T1 : Mt} {o1 : Int64} {a : Array Value} {st0 : List Value}
    (h : ∀ U : State, U.heap = H → Stand p l e R s m args below meth c U locs cells slots → pb_Post p l e R rm s m args below meth c U locs cells slots (F0 m pc ls st0) rest (pb_Q w r a) (w_A w)) (hS : va_S (w_A w) s.heap H locs) (hq : r = (.inr C, S1, T1, o1))
    (k : ∀ (x : Addr) (H1 : Heap) (locs1 : List Loc), pb_Wd w S1 T1 o1 s H1 → va_S (w_A w) s.heap H1 locs1 → pb_Ex C x s H1 → pb_WT p l e R s m args below meth c H1 locs1 (cells + rm.cells) (slots + rm.slots) Q (F0 m pc ls rest) x) : W p l e R s m args below meth c H locs cells slots Q (F0 m pc ls st0) := by
  subst hq
  intro U hU X
  obtain ⟨o, st₀, t, U', L, h0, X', e1, e2, hL, ⟨⟨x, ho, cell, x1, x2, x3⟩, hwd, hz, hk⟩, st⟩ := h U hU X
  subst ho
  rw [h0, hU] at hz hk
  obtain ⟨t2, a1, b1⟩ := k x U'.heap (locs ++ L) (by rw [e1]; exact pb_Wd_moved (by rw [← e2]; exact X'.warmed.alike.symm) hwd)
    ⟨Nat.le_trans hS.1 (by rw [e1]; exact hz), fun q h1 h2 => by rw [e1, hk q (Nat.lt_of_lt_of_le h1 hS.1) h2]; exact hS.2.1 q h1 h2, fun q hq => by
      rcases List.mem_append.mp hq with h | h
      · exact hS.2.2 q h
      · exact hL q h⟩ ⟨cell, by rw [e1]; exact x1, x2, by rw [← e2, X'.warmed.alike.findClass] at x3; exact x3⟩ U' rfl X'
  exact ⟨t2, st t2 a1, b1⟩
theorem pb_pS {rm : Room} {own : String} {index maxL n : Nat} {y : MethodName} {r : Rs} {av : List Value} (C : pb_CF p m c cc nL s args own) (F : pb_SF own index y maxL n) (hR : pb_RM R rm maxL cells slots) (hM : pb_C l w y rm av S T ov r) (hw : pb_Wd w S T ov s H) (hl : ls.size = nL) (hn : av.length = n) (hrest : (rest.map fun v => v.category).sum ≤ 8) (hdg : decode cc pc = .ok (.invokestatic index, 3)) :
    ∀ U : State, U.heap = H → Stand p l e R s m args below meth c U locs cells slots → pb_Post p l e R rm s m args below meth c U locs cells slots (F0 m pc ls (av.reverse ++ rest)) rest (pb_Q w r av.toArray) (w_A w) := by
  obtain ⟨hx, hb, hml, hown, hts⟩ := C
  obtain ⟨f1, f2, f3, f4, f5, f6⟩ := F
  obtain ⟨r1, r2, r3, r4⟩ := hR
  intro U hU X
  refine pb_callS X hx hts hown f1 f2 f3 f4 f5 hM r1 r2 r3 r4 (g := F0 m pc ls (av.reverse ++ rest)) rfl (hl.trans hml.symm) f6 hn rfl (by show 2 * 0 + _ ≤ 8; omega) (by rw [hb]; exact hdg) (fun V hV hW => ⟨rfl, ?_⟩)
  show pb_Wd w S T ov V V.heap
  rw [hV, hU]
  exact pb_Wd_moved hW.alike hw
theorem pb_pV {rm : Room} {own K : String} {index maxL n : Nat} {y : MethodName} {r : Rs} {b : Addr} {av : List Value} (C : pb_CF p m c cc nL s args own) (F : pb_VF own index K y maxL n) (hR : pb_RM R rm maxL cells slots) (hM : pb_C l w y rm (.ref b :: av) S T ov r) (hw : pb_Wd w S T ov s H) (hrc : ∃ cell : Cell, H[b]? = some cell ∧ cell.vm.isStatics = false ∧ s.vm.findClass K = some cell.cls) (hl : ls.size = nL) (hn : av.length = n) (hrest : (rest.map fun v => v.category).sum ≤ 8) (hdg : decode cc pc = .ok (.invokevirtual index, 3)) :
    ∀ U : State, U.heap = H → Stand p l e R s m args below meth c U locs cells slots → pb_Post p l e R rm s m args below meth c U locs cells slots (F0 m pc ls (av.reverse ++ .ref b :: rest)) rest (pb_Q w r (Value.ref b :: av).toArray) (w_A w) := by
  obtain ⟨hx, hb, hml, hown, hts⟩ := C
  obtain ⟨f1, f2, f3, f4, f5, f6, f7⟩ := F
  obtain ⟨r1, r2, r3, r4⟩ := hR
  intro U hU X
  refine pb_callV X hx hts hown f1 f2 f3 f4 f5 f6 hM r1 r2 r3 r4 (b := b) (by rw [hU]; exact hrc) (g := F0 m pc ls (av.reverse ++ .ref b :: rest)) rfl (hl.trans hml.symm) f7 hn rfl (by show 2 * 0 + _ ≤ 8; omega) (by rw [hb]; exact hdg) (fun V hV hW => ⟨rfl, ?_⟩)
  show pb_Wd w S T ov V V.heap
  rw [hV, hU]
  exact pb_Wd_moved hW.alike hw
/-- 'throw new C()', C's constructor without arguments, no stack traces; no handler of the method's own -/
theorem pb_new {own C : String} {names : List String} {idx ic : Nat} {r : Rs} {mc ms : Nat} (CF : pb_CF p m c cc nL s args own) (hfl : l.stackTraces = false) (hlocks : meth.locks = false)
    (hcl : Cond.classLink own idx C ∈ pb_ws) (hins : Cond.instantiable C 6 ∈ pb_ws) (hini : Cond.initialized C ∈ pb_ws) (hfit : Bundle.fit C = true) (hnm : ∀ n ∈ names, Bundle.fit n = true)
    (hat : ∀ a ∈ Bundle.ownAtoms0 own ic C names, a ∈ pb_ws ∨ a = .laysStatic "java/lang/Throwable" "UNASSIGNED_STACK" "[Ljava/lang/StackTraceElement;" ∨ a = .laysStatic "java/lang/Throwable" "SUPPRESSED_SENTINEL" "Ljava/util/List;" ∨ a = .isRef (.static "java/lang/Throwable" "UNASSIGNED_STACK" "[Ljava/lang/StackTraceElement;") ∨ a = .isRef (.static "java/lang/Throwable" "SUPPRESSED_SENTINEL" "Ljava/util/List;"))
    (hw : pb_Wd w S T ov s H) (hS : va_S (w_A w) s.heap H locs) (hl : ls.size = nL)
    (d0 : decode cc pc = .ok (.new idx, 3)) (d3 : decode cc (pc + 3) = .ok (.dup, 1)) (d4 : decode cc (pc + 3 + 1) = .ok (.invokespecial ic, 3)) (d7 : decode cc (pc + 3 + 1 + 3) = .ok (.athrow, 1))
    (hout : ∀ x ∈ c.exceptionTable.toList, covers x (pc + 3 + 1 + 3) = false)
    (hRf : names.length + 3 < R.frames) (hRl : 1 + (rest.map fun v => v.category).sum + (13 * (names.length + 1) + 41) ≤ R.locals) (hRc : cells + 1 ≤ R.cells) (hRs : slots + 6 ≤ R.slots) (hc : cells + 1 ≤ mc) (hs : slots + 6 ≤ ms) (hq : r = (.inr C, S, T, ov)) :
    W p l e R s m args below meth c H locs cells slots (pb_MQA below (pb_Q w r) args s mc ms (w_A w)) (F0 m pc ls rest) := by
  subst hq
  obtain ⟨hx, hb, hml, hown, hts⟩ := CF
  intro U hU X
  have X' := pb_rebase (R' := { frames := R.frames, cells := 1, slots := 6, locals := R.locals }) X (Nat.le_refl _) (Nat.le_refl _) hRc hRs
  have hts' : pb_HT args (U.setFrames (.invoking m args :: below)) := pb_HT_moved hts X.warmed
  have hown' : (U.setFrames (.invoking m args :: below)).vm.findClass own = some m.cls := by
    show U.vm.findClass own = _
    rw [X.warmed.alike.findClass]
    exact hown
  have hEX : pb_EX (w_N w) (U.setFrames (.invoking m args :: below)) (U.setFrames (.invoking m args :: below)).heap := by
    obtain ⟨f, r, g, h1, h2, h3, hP, hD, hK, hE⟩ := hw
    have h9 : pb_EX (w_N w) (U.setFrames (.invoking m args :: below)) H := pb_EX_moved X.warmed.alike hE
    rw [← hU] at h9
    exact h9
  have hatoms : ∀ a ∈ Bundle.ownAtoms0 own ic C names, a.before args (U.setFrames (.invoking m args :: below)) = true := by
    intro a ha
    rcases hat a ha with h | h | h | h | h
    · exact hts' _ h
    · subst h
      exact pb_Zs_lays hEX.1
    · subst h
      exact pb_Zs_lays hEX.2.1
    · subst h
      exact pb_Zs_ref hEX.1
    · subst h
      exact pb_Zs_ref hEX.2.1
  have key : W p l e { frames := R.frames, cells := 1, slots := 6, locals := R.locals } (U.setFrames (.invoking m args :: below)) m args below meth c U.heap [] 0 0
      (fun Z => Z.status = .running ∧ Ended Z below (.threw U.heap.size) ∧ (U.setFrames (.invoking m args :: below)).WarmedH Z.vm ∧ (U.setFrames (.invoking m args :: below)).sameButNew ({ Z with vm := (U.setFrames (.invoking m args :: below)).vm } : State) [] (0 + 1) (0 + 6) ∧
        ∃ ce : Cell, Z.heap[U.heap.size]? = some ce ∧ Bundle.OwnCell args (U.setFrames (.invoking m args :: below)) C U.heap.size .null ce) (F0 m pc ls rest) := by
    refine W.newc hx hb hown' (hts' _ hcl) (hts' _ hins) (hts' _ hini) rfl d0 (Nat.le_refl _) (Nat.le_refl _) (fun cC kC h1 h2 h3 h4 => ?_)
    refine lv_dup hx hb d3 rfl ?_
    intro V hV XV
    obtain ⟨Z, st, z1, z2, z3, z4, ce, z5, z6⟩ := XV.ctorThrow0 hx (by rw [X.admits.platform]; exact hfl) hown' hfit hnm hatoms (fun x h => by cases h) h1 h2 (a := U.heap.size) (by rw [hV]; exact State.heap_pushCell_size U _) (Nat.le_refl _)
      (g := F0 m (pc + 3 + 1) ls (.ref U.heap.size :: .ref U.heap.size :: rest)) rfl (hl.trans hml.symm) rfl rfl (rest := rest) rfl (by rw [hb]; exact d4) (by rw [hb]; exact d7) hout hRf
      (by
        have e9 : ((Value.ref U.heap.size :: rest).map fun v => v.category).sum = 1 + (rest.map fun v => v.category).sum := rfl
        show 2 * 0 + _ + _ ≤ R.locals
        rw [e9]
        omega) hlocks
    exact ⟨Z, st, z1, z2, z3, z4, ce, z5, z6⟩
  obtain ⟨Z, st, z1, z2, z3, z4, ce, z5, z6⟩ := key U rfl X'
  obtain ⟨y1, y2⟩ := pb_unbase X z3 z4
  have hold : ∀ q, q < U.heap.size → Z.heap[q]? = U.heap[q]? := by
    intro q hq
    have h0 : (U.setFrames (.invoking m args :: below)).heap[q]? = some U.heap[q] := Array.getElem?_eq_getElem hq
    obtain ⟨c', g1, g2, g3, g4⟩ := z4.2.2.2.2.2 q _ h0
    have g5 : c'.slots = U.heap[q].slots := by
      apply Array.ext_getElem?
      intro i
      exact g4 i (by simp)
    have g6 : c' = U.heap[q] := by
      rw [g2, g5]
    have g7 : Z.heap[q]? = some c' := g1
    rw [g7, g6]
    exact h0.symm
  have hzz : U.heap.size ≤ Z.heap.size := z4.2.1
  refine ⟨Z, st, .threw U.heap.size, z1, z2, ⟨⟨U.heap.size, rfl, ce, z5, by rw [z6.vm]; rfl, ?_⟩, ?_, ?_, fun q h1 h2 => ?_⟩, locs, y1, y2.mono (by omega) (by omega), hS.2.2⟩
  · rw [z3.alike.findClass]
    exact z6.cls
  · refine pb_Wd_moved (u := s) y1.alike (pb_Wd_kept hw (fun q hq => ?_))
    rw [← hU] at hq ⊢
    exact hold q hq
  · have h1 := hS.1
    rw [← hU] at h1
    exact Nat.le_trans h1 hzz
  · have h3 := hS.1
    rw [← hU] at h3
    rw [hold q (Nat.lt_of_lt_of_le h1 h3), hU]
    exact hS.2.1 q h1 h2
end PBROW
/-! the words of the three exceptions -/
abbrev pb_names : List String := ["java/lang/RuntimeException", "java/lang/Exception"]
theorem pb_namesfit : ∀ n ∈ pb_names, Bundle.fit n = true := by decide +kernel
theorem pb_fit_IAE : Bundle.fit R_IAE = true := by decide +kernel
theorem pb_at_IAE : ∀ a ∈ Bundle.ownAtoms0 "PackedBits" 15 R_IAE pb_names, a ∈ pb_ws ∨ a = .laysStatic "java/lang/Throwable" "UNASSIGNED_STACK" "[Ljava/lang/StackTraceElement;" ∨ a = .laysStatic "java/lang/Throwable" "SUPPRESSED_SENTINEL" "Ljava/util/List;" ∨ a = .isRef (.static "java/lang/Throwable" "UNASSIGNED_STACK" "[Ljava/lang/StackTraceElement;") ∨ a = .isRef (.static "java/lang/Throwable" "SUPPRESSED_SENTINEL" "Ljava/util/List;") := List.forall_mem_cons.mpr ⟨Or.inl pb_k3, List.forall_mem_cons.mpr ⟨Or.inl pb_k63, List.forall_mem_cons.mpr ⟨Or.inl pb_k72, List.forall_mem_cons.mpr ⟨Or.inl pb_k76, List.forall_mem_cons.mpr ⟨Or.inl pb_k79, List.forall_mem_cons.mpr ⟨Or.inl pb_k81, List.forall_mem_cons.mpr ⟨Or.inl pb_k64, List.forall_mem_cons.mpr ⟨Or.inl pb_k65, List.forall_mem_cons.mpr ⟨Or.inl pb_k16, List.forall_mem_cons.mpr ⟨Or.inl pb_k17, List.forall_mem_cons.mpr ⟨Or.inl pb_k66, List.forall_mem_cons.mpr ⟨Or.inl pb_k71, List.forall_mem_cons.mpr ⟨Or.inl pb_k77, List.forall_mem_cons.mpr ⟨Or.inl pb_k93, List.forall_mem_cons.mpr ⟨Or.inl pb_k53, List.forall_mem_cons.mpr ⟨Or.inl pb_k94, List.forall_mem_cons.mpr ⟨Or.inl pb_k55, List.forall_mem_cons.mpr ⟨Or.inl pb_k95, List.forall_mem_cons.mpr ⟨Or.inl pb_k57, List.forall_mem_cons.mpr ⟨Or.inl pb_k67, List.forall_mem_cons.mpr ⟨Or.inr (Or.inl rfl), List.forall_mem_cons.mpr ⟨Or.inl pb_k69, List.forall_mem_cons.mpr ⟨Or.inr (Or.inr (Or.inl rfl)), List.forall_mem_cons.mpr ⟨Or.inl pb_k59, List.forall_mem_cons.mpr ⟨Or.inl pb_k83, List.forall_mem_cons.mpr ⟨Or.inl pb_k84, List.forall_mem_cons.mpr ⟨Or.inl pb_k85, List.forall_mem_cons.mpr ⟨Or.inl pb_k86, List.forall_mem_cons.mpr ⟨Or.inl pb_k44, List.forall_mem_cons.mpr ⟨Or.inl pb_k86, List.forall_mem_cons.mpr ⟨Or.inl pb_k87, List.forall_mem_cons.mpr ⟨Or.inl pb_k88, List.forall_mem_cons.mpr ⟨Or.inl pb_k89, List.forall_mem_cons.mpr ⟨Or.inl pb_k46, List.forall_mem_cons.mpr ⟨Or.inl pb_k89, List.forall_mem_cons.mpr ⟨Or.inl pb_k90, List.forall_mem_cons.mpr ⟨Or.inl pb_k91, List.forall_mem_cons.mpr ⟨Or.inl pb_k64, List.forall_mem_cons.mpr ⟨Or.inl pb_k48, List.forall_mem_cons.mpr ⟨Or.inl pb_k82, List.forall_mem_cons.mpr ⟨Or.inl pb_k42, List.forall_mem_cons.mpr ⟨Or.inl pb_k43, List.forall_mem_cons.mpr ⟨Or.inl pb_k50, List.forall_mem_cons.mpr ⟨Or.inl pb_k51, List.forall_mem_cons.mpr ⟨Or.inl pb_k52, List.forall_mem_cons.mpr ⟨Or.inl pb_k54, List.forall_mem_cons.mpr ⟨Or.inl pb_k56, List.forall_mem_cons.mpr ⟨Or.inl pb_k58, List.forall_mem_cons.mpr ⟨Or.inr (Or.inr (Or.inr (Or.inl rfl))), List.forall_mem_cons.mpr ⟨Or.inr (Or.inr (Or.inr (Or.inr rfl))), List.forall_mem_cons.mpr ⟨Or.inl pb_k62, List.forall_mem_cons.mpr ⟨Or.inl pb_k61, List.forall_mem_cons.mpr ⟨Or.inl pb_k60, fun _ h => absurd h List.not_mem_nil⟩⟩⟩⟩⟩⟩⟩⟩⟩⟩⟩⟩⟩⟩⟩⟩⟩⟩⟩⟩⟩⟩⟩⟩⟩⟩⟩⟩⟩⟩⟩⟩⟩⟩⟩⟩⟩⟩⟩⟩⟩⟩⟩⟩⟩⟩⟩⟩⟩⟩⟩⟩⟩
theorem pb_fit_IOB : Bundle.fit R_IOB = true := by decide +kernel
theorem pb_at_IOB : ∀ a ∈ Bundle.ownAtoms0 "PackedBits" 21 R_IOB pb_names, a ∈ pb_ws ∨ a = .laysStatic "java/lang/Throwable" "UNASSIGNED_STACK" "[Ljava/lang/StackTraceElement;" ∨ a = .laysStatic "java/lang/Throwable" "SUPPRESSED_SENTINEL" "Ljava/util/List;" ∨ a = .isRef (.static "java/lang/Throwable" "UNASSIGNED_STACK" "[Ljava/lang/StackTraceElement;") ∨ a = .isRef (.static "java/lang/Throwable" "SUPPRESSED_SENTINEL" "Ljava/util/List;") := List.forall_mem_cons.mpr ⟨Or.inl pb_k3, List.forall_mem_cons.mpr ⟨Or.inl pb_k63, List.forall_mem_cons.mpr ⟨Or.inl pb_k72, List.forall_mem_cons.mpr ⟨Or.inl pb_k76, List.forall_mem_cons.mpr ⟨Or.inl pb_k79, List.forall_mem_cons.mpr ⟨Or.inl pb_k81, List.forall_mem_cons.mpr ⟨Or.inl pb_k64, List.forall_mem_cons.mpr ⟨Or.inl pb_k65, List.forall_mem_cons.mpr ⟨Or.inl pb_k16, List.forall_mem_cons.mpr ⟨Or.inl pb_k17, List.forall_mem_cons.mpr ⟨Or.inl pb_k66, List.forall_mem_cons.mpr ⟨Or.inl pb_k71, List.forall_mem_cons.mpr ⟨Or.inl pb_k77, List.forall_mem_cons.mpr ⟨Or.inl pb_k93, List.forall_mem_cons.mpr ⟨Or.inl pb_k53, List.forall_mem_cons.mpr ⟨Or.inl pb_k94, List.forall_mem_cons.mpr ⟨Or.inl pb_k55, List.forall_mem_cons.mpr ⟨Or.inl pb_k95, List.forall_mem_cons.mpr ⟨Or.inl pb_k57, List.forall_mem_cons.mpr ⟨Or.inl pb_k67, List.forall_mem_cons.mpr ⟨Or.inr (Or.inl rfl), List.forall_mem_cons.mpr ⟨Or.inl pb_k69, List.forall_mem_cons.mpr ⟨Or.inr (Or.inr (Or.inl rfl)), List.forall_mem_cons.mpr ⟨Or.inl pb_k59, List.forall_mem_cons.mpr ⟨Or.inl pb_k118, List.forall_mem_cons.mpr ⟨Or.inl pb_k119, List.forall_mem_cons.mpr ⟨Or.inl pb_k120, List.forall_mem_cons.mpr ⟨Or.inl pb_k86, List.forall_mem_cons.mpr ⟨Or.inl pb_k44, List.forall_mem_cons.mpr ⟨Or.inl pb_k86, List.forall_mem_cons.mpr ⟨Or.inl pb_k87, List.forall_mem_cons.mpr ⟨Or.inl pb_k88, List.forall_mem_cons.mpr ⟨Or.inl pb_k89, List.forall_mem_cons.mpr ⟨Or.inl pb_k46, List.forall_mem_cons.mpr ⟨Or.inl pb_k89, List.forall_mem_cons.mpr ⟨Or.inl pb_k90, List.forall_mem_cons.mpr ⟨Or.inl pb_k91, List.forall_mem_cons.mpr ⟨Or.inl pb_k64, List.forall_mem_cons.mpr ⟨Or.inl pb_k48, List.forall_mem_cons.mpr ⟨Or.inl pb_k117, List.forall_mem_cons.mpr ⟨Or.inl pb_k109, List.forall_mem_cons.mpr ⟨Or.inl pb_k110, List.forall_mem_cons.mpr ⟨Or.inl pb_k111, List.forall_mem_cons.mpr ⟨Or.inl pb_k74, List.forall_mem_cons.mpr ⟨Or.inl pb_k112, List.forall_mem_cons.mpr ⟨Or.inl pb_k113, List.forall_mem_cons.mpr ⟨Or.inl pb_k114, List.forall_mem_cons.mpr ⟨Or.inl pb_k115, List.forall_mem_cons.mpr ⟨Or.inr (Or.inr (Or.inr (Or.inl rfl))), List.forall_mem_cons.mpr ⟨Or.inr (Or.inr (Or.inr (Or.inr rfl))), List.forall_mem_cons.mpr ⟨Or.inl pb_k62, List.forall_mem_cons.mpr ⟨Or.inl pb_k61, List.forall_mem_cons.mpr ⟨Or.inl pb_k116, fun _ h => absurd h List.not_mem_nil⟩⟩⟩⟩⟩⟩⟩⟩⟩⟩⟩⟩⟩⟩⟩⟩⟩⟩⟩⟩⟩⟩⟩⟩⟩⟩⟩⟩⟩⟩⟩⟩⟩⟩⟩⟩⟩⟩⟩⟩⟩⟩⟩⟩⟩⟩⟩⟩⟩⟩⟩⟩⟩
theorem pb_fit_UOE : Bundle.fit R_UOE = true := by decide +kernel
theorem pb_at_UOE : ∀ a ∈ Bundle.ownAtoms0 "PackedBits" 18 R_UOE pb_names, a ∈ pb_ws ∨ a = .laysStatic "java/lang/Throwable" "UNASSIGNED_STACK" "[Ljava/lang/StackTraceElement;" ∨ a = .laysStatic "java/lang/Throwable" "SUPPRESSED_SENTINEL" "Ljava/util/List;" ∨ a = .isRef (.static "java/lang/Throwable" "UNASSIGNED_STACK" "[Ljava/lang/StackTraceElement;") ∨ a = .isRef (.static "java/lang/Throwable" "SUPPRESSED_SENTINEL" "Ljava/util/List;") := List.forall_mem_cons.mpr ⟨Or.inl pb_k3, List.forall_mem_cons.mpr ⟨Or.inl pb_k63, List.forall_mem_cons.mpr ⟨Or.inl pb_k72, List.forall_mem_cons.mpr ⟨Or.inl pb_k76, List.forall_mem_cons.mpr ⟨Or.inl pb_k79, List.forall_mem_cons.mpr ⟨Or.inl pb_k81, List.forall_mem_cons.mpr ⟨Or.inl pb_k64, List.forall_mem_cons.mpr ⟨Or.inl pb_k65, List.forall_mem_cons.mpr ⟨Or.inl pb_k16, List.forall_mem_cons.mpr ⟨Or.inl pb_k17, List.forall_mem_cons.mpr ⟨Or.inl pb_k66, List.forall_mem_cons.mpr ⟨Or.inl pb_k71, List.forall_mem_cons.mpr ⟨Or.inl pb_k77, List.forall_mem_cons.mpr ⟨Or.inl pb_k93, List.forall_mem_cons.mpr ⟨Or.inl pb_k53, List.forall_mem_cons.mpr ⟨Or.inl pb_k94, List.forall_mem_cons.mpr ⟨Or.inl pb_k55, List.forall_mem_cons.mpr ⟨Or.inl pb_k95, List.forall_mem_cons.mpr ⟨Or.inl pb_k57, List.forall_mem_cons.mpr ⟨Or.inl pb_k67, List.forall_mem_cons.mpr ⟨Or.inr (Or.inl rfl), List.forall_mem_cons.mpr ⟨Or.inl pb_k69, List.forall_mem_cons.mpr ⟨Or.inr (Or.inr (Or.inl rfl)), List.forall_mem_cons.mpr ⟨Or.inl pb_k59, List.forall_mem_cons.mpr ⟨Or.inl pb_k193, List.forall_mem_cons.mpr ⟨Or.inl pb_k194, List.forall_mem_cons.mpr ⟨Or.inl pb_k195, List.forall_mem_cons.mpr ⟨Or.inl pb_k86, List.forall_mem_cons.mpr ⟨Or.inl pb_k44, List.forall_mem_cons.mpr ⟨Or.inl pb_k86, List.forall_mem_cons.mpr ⟨Or.inl pb_k87, List.forall_mem_cons.mpr ⟨Or.inl pb_k88, List.forall_mem_cons.mpr ⟨Or.inl pb_k89, List.forall_mem_cons.mpr ⟨Or.inl pb_k46, List.forall_mem_cons.mpr ⟨Or.inl pb_k89, List.forall_mem_cons.mpr ⟨Or.inl pb_k90, List.forall_mem_cons.mpr ⟨Or.inl pb_k91, List.forall_mem_cons.mpr ⟨Or.inl pb_k64, List.forall_mem_cons.mpr ⟨Or.inl pb_k48, List.forall_mem_cons.mpr ⟨Or.inl pb_k192, List.forall_mem_cons.mpr ⟨Or.inl pb_k184, List.forall_mem_cons.mpr ⟨Or.inl pb_k185, List.forall_mem_cons.mpr ⟨Or.inl pb_k186, List.forall_mem_cons.mpr ⟨Or.inl pb_k75, List.forall_mem_cons.mpr ⟨Or.inl pb_k187, List.forall_mem_cons.mpr ⟨Or.inl pb_k188, List.forall_mem_cons.mpr ⟨Or.inl pb_k189, List.forall_mem_cons.mpr ⟨Or.inl pb_k190, List.forall_mem_cons.mpr ⟨Or.inr (Or.inr (Or.inr (Or.inl rfl))), List.forall_mem_cons.mpr ⟨Or.inr (Or.inr (Or.inr (Or.inr rfl))), List.forall_mem_cons.mpr ⟨Or.inl pb_k62, List.forall_mem_cons.mpr ⟨Or.inl pb_k61, List.forall_mem_cons.mpr ⟨Or.inl pb_k191, fun _ h => absurd h List.not_mem_nil⟩⟩⟩⟩⟩⟩⟩⟩⟩⟩⟩⟩⟩⟩⟩⟩⟩⟩⟩⟩⟩⟩⟩⟩⟩⟩⟩⟩⟩⟩⟩⟩⟩⟩⟩⟩⟩⟩⟩⟩⟩⟩⟩⟩⟩⟩⟩⟩⟩⟩⟩⟩⟩
end
section
/-! part 05: what each instruction decodes to (printed by gen/g05.py) -/
theorem d_X_init_0 : decode prog_1_method_1_code 0 = .ok (.aload_n 0, 1) := by decide +kernel
theorem d_X_init_1 : decode prog_1_method_1_code 1 = .ok (.invokespecial 1, 3) := by decide +kernel
theorem d_X_init_4 : decode prog_1_method_1_code 4 = .ok (.aload_n 0, 1) := by decide +kernel
theorem d_X_init_5 : decode prog_1_method_1_code 5 = .ok (.sipush (8192), 3) := by decide +kernel
theorem d_X_init_8 : decode prog_1_method_1_code 8 = .ok (.newarray .byte, 2) := by decide +kernel
theorem d_X_init_10 : decode prog_1_method_1_code 10 = .ok (.putfield 9, 3) := by decide +kernel
theorem d_X_init_13 : decode prog_1_method_1_code 13 = .ok (.return_, 1) := by decide +kernel
theorem d_X_in_0 : decode prog_1_method_2_code 0 = .ok (.iload_n 0, 1) := by decide +kernel
theorem d_X_in_1 : decode prog_1_method_2_code 1 = .ok (.ifCond .ne (11), 3) := by decide +kernel
theorem d_X_in_4 : decode prog_1_method_2_code 4 = .ok (.new 13, 3) := by decide +kernel
theorem d_X_in_7 : decode prog_1_method_2_code 7 = .ok (.dup, 1) := by decide +kernel
theorem d_X_in_8 : decode prog_1_method_2_code 8 = .ok (.invokespecial 15, 3) := by decide +kernel
theorem d_X_in_11 : decode prog_1_method_2_code 11 = .ok (.athrow, 1) := by decide +kernel
theorem d_X_in_12 : decode prog_1_method_2_code 12 = .ok (.return_, 1) := by decide +kernel
theorem d_X_need_0 : decode prog_1_method_3_code 0 = .ok (.iload_n 0, 1) := by decide +kernel
theorem d_X_need_1 : decode prog_1_method_3_code 1 = .ok (.ifCond .ne (11), 3) := by decide +kernel
theorem d_X_need_4 : decode prog_1_method_3_code 4 = .ok (.new 16, 3) := by decide +kernel
theorem d_X_need_7 : decode prog_1_method_3_code 7 = .ok (.dup, 1) := by decide +kernel
theorem d_X_need_8 : decode prog_1_method_3_code 8 = .ok (.invokespecial 18, 3) := by decide +kernel
theorem d_X_need_11 : decode prog_1_method_3_code 11 = .ok (.athrow, 1) := by decide +kernel
theorem d_X_need_12 : decode prog_1_method_3_code 12 = .ok (.return_, 1) := by decide +kernel
theorem d_X_room_0 : decode prog_1_method_4_code 0 = .ok (.iload_n 0, 1) := by decide +kernel
theorem d_X_room_1 : decode prog_1_method_4_code 1 = .ok (.ifCond .ne (11), 3) := by decide +kernel
theorem d_X_room_4 : decode prog_1_method_4_code 4 = .ok (.new 19, 3) := by decide +kernel
theorem d_X_room_7 : decode prog_1_method_4_code 7 = .ok (.dup, 1) := by decide +kernel
theorem d_X_room_8 : decode prog_1_method_4_code 8 = .ok (.invokespecial 21, 3) := by decide +kernel
theorem d_X_room_11 : decode prog_1_method_4_code 11 = .ok (.athrow, 1) := by decide +kernel
theorem d_X_room_12 : decode prog_1_method_4_code 12 = .ok (.return_, 1) := by decide +kernel
theorem d_X_fieldBits_0 : decode prog_1_method_5_code 0 = .ok (.iconst (0), 1) := by decide +kernel
theorem d_X_fieldBits_1 : decode prog_1_method_5_code 1 = .ok (.istore_n 2, 1) := by decide +kernel
theorem d_X_fieldBits_2 : decode prog_1_method_5_code 2 = .ok (.iload_n 2, 1) := by decide +kernel
theorem d_X_fieldBits_3 : decode prog_1_method_5_code 3 = .ok (.bipush (64), 2) := by decide +kernel
theorem d_X_fieldBits_5 : decode prog_1_method_5_code 5 = .ok (.if_icmp .ge (17), 3) := by decide +kernel
theorem d_X_fieldBits_8 : decode prog_1_method_5_code 8 = .ok (.lload_n 0, 1) := by decide +kernel
theorem d_X_fieldBits_9 : decode prog_1_method_5_code 9 = .ok (.iload_n 2, 1) := by decide +kernel
theorem d_X_fieldBits_10 : decode prog_1_method_5_code 10 = .ok (.lushr, 1) := by decide +kernel
theorem d_X_fieldBits_11 : decode prog_1_method_5_code 11 = .ok (.lconst 0, 1) := by decide +kernel
theorem d_X_fieldBits_12 : decode prog_1_method_5_code 12 = .ok (.lcmp, 1) := by decide +kernel
theorem d_X_fieldBits_13 : decode prog_1_method_5_code 13 = .ok (.ifCond .eq (9), 3) := by decide +kernel
theorem d_X_fieldBits_16 : decode prog_1_method_5_code 16 = .ok (.iinc 2 (1), 3) := by decide +kernel
theorem d_X_fieldBits_19 : decode prog_1_method_5_code 19 = .ok (.goto (-17), 3) := by decide +kernel
theorem d_X_fieldBits_22 : decode prog_1_method_5_code 22 = .ok (.iload_n 2, 1) := by decide +kernel
theorem d_X_fieldBits_23 : decode prog_1_method_5_code 23 = .ok (.ireturn, 1) := by decide +kernel
theorem d_X_bit_0 : decode prog_1_method_6_code 0 = .ok (.sipush (128), 3) := by decide +kernel
theorem d_X_bit_3 : decode prog_1_method_6_code 3 = .ok (.aload_n 0, 1) := by decide +kernel
theorem d_X_bit_4 : decode prog_1_method_6_code 4 = .ok (.getfield 22, 3) := by decide +kernel
theorem d_X_bit_7 : decode prog_1_method_6_code 7 = .ok (.bipush (7), 2) := by decide +kernel
theorem d_X_bit_9 : decode prog_1_method_6_code 9 = .ok (.iand, 1) := by decide +kernel
theorem d_X_bit_10 : decode prog_1_method_6_code 10 = .ok (.ishr, 1) := by decide +kernel
theorem d_X_bit_11 : decode prog_1_method_6_code 11 = .ok (.istore_n 2, 1) := by decide +kernel
theorem d_X_bit_12 : decode prog_1_method_6_code 12 = .ok (.iload_n 1, 1) := by decide +kernel
theorem d_X_bit_13 : decode prog_1_method_6_code 13 = .ok (.ifCond .eq (22), 3) := by decide +kernel
theorem d_X_bit_16 : decode prog_1_method_6_code 16 = .ok (.aload_n 0, 1) := by decide +kernel
theorem d_X_bit_17 : decode prog_1_method_6_code 17 = .ok (.getfield 9, 3) := by decide +kernel
theorem d_X_bit_20 : decode prog_1_method_6_code 20 = .ok (.aload_n 0, 1) := by decide +kernel
theorem d_X_bit_21 : decode prog_1_method_6_code 21 = .ok (.getfield 22, 3) := by decide +kernel
theorem d_X_bit_24 : decode prog_1_method_6_code 24 = .ok (.iconst (3), 1) := by decide +kernel
theorem d_X_bit_25 : decode prog_1_method_6_code 25 = .ok (.ishr, 1) := by decide +kernel
theorem d_X_bit_26 : decode prog_1_method_6_code 26 = .ok (.dup2, 1) := by decide +kernel
theorem d_X_bit_27 : decode prog_1_method_6_code 27 = .ok (.baload, 1) := by decide +kernel
theorem d_X_bit_28 : decode prog_1_method_6_code 28 = .ok (.iload_n 2, 1) := by decide +kernel
theorem d_X_bit_29 : decode prog_1_method_6_code 29 = .ok (.ior, 1) := by decide +kernel
theorem d_X_bit_30 : decode prog_1_method_6_code 30 = .ok (.i2b, 1) := by decide +kernel
theorem d_X_bit_31 : decode prog_1_method_6_code 31 = .ok (.bastore, 1) := by decide +kernel
theorem d_X_bit_32 : decode prog_1_method_6_code 32 = .ok (.goto (21), 3) := by decide +kernel
theorem d_X_bit_35 : decode prog_1_method_6_code 35 = .ok (.aload_n 0, 1) := by decide +kernel
theorem d_X_bit_36 : decode prog_1_method_6_code 36 = .ok (.getfield 9, 3) := by decide +kernel
theorem d_X_bit_39 : decode prog_1_method_6_code 39 = .ok (.aload_n 0, 1) := by decide +kernel
theorem d_X_bit_40 : decode prog_1_method_6_code 40 = .ok (.getfield 22, 3) := by decide +kernel
theorem d_X_bit_43 : decode prog_1_method_6_code 43 = .ok (.iconst (3), 1) := by decide +kernel
theorem d_X_bit_44 : decode prog_1_method_6_code 44 = .ok (.ishr, 1) := by decide +kernel
theorem d_X_bit_45 : decode prog_1_method_6_code 45 = .ok (.dup2, 1) := by decide +kernel
theorem d_X_bit_46 : decode prog_1_method_6_code 46 = .ok (.baload, 1) := by decide +kernel
theorem d_X_bit_47 : decode prog_1_method_6_code 47 = .ok (.iload_n 2, 1) := by decide +kernel
theorem d_X_bit_48 : decode prog_1_method_6_code 48 = .ok (.iconst (-1), 1) := by decide +kernel
theorem d_X_bit_49 : decode prog_1_method_6_code 49 = .ok (.ixor, 1) := by decide +kernel
theorem d_X_bit_50 : decode prog_1_method_6_code 50 = .ok (.iand, 1) := by decide +kernel
theorem d_X_bit_51 : decode prog_1_method_6_code 51 = .ok (.i2b, 1) := by decide +kernel
theorem d_X_bit_52 : decode prog_1_method_6_code 52 = .ok (.bastore, 1) := by decide +kernel
theorem d_X_bit_53 : decode prog_1_method_6_code 53 = .ok (.aload_n 0, 1) := by decide +kernel
theorem d_X_bit_54 : decode prog_1_method_6_code 54 = .ok (.dup, 1) := by decide +kernel
theorem d_X_bit_55 : decode prog_1_method_6_code 55 = .ok (.getfield 22, 3) := by decide +kernel
theorem d_X_bit_58 : decode prog_1_method_6_code 58 = .ok (.iconst (1), 1) := by decide +kernel
theorem d_X_bit_59 : decode prog_1_method_6_code 59 = .ok (.iadd, 1) := by decide +kernel
theorem d_X_bit_60 : decode prog_1_method_6_code 60 = .ok (.putfield 22, 3) := by decide +kernel
theorem d_X_bit_63 : decode prog_1_method_6_code 63 = .ok (.return_, 1) := by decide +kernel
theorem d_X_bits_0 : decode prog_1_method_7_code 0 = .ok (.iload_n 3, 1) := by decide +kernel
theorem d_X_bits_1 : decode prog_1_method_7_code 1 = .ok (.iconst (1), 1) := by decide +kernel
theorem d_X_bits_2 : decode prog_1_method_7_code 2 = .ok (.isub, 1) := by decide +kernel
theorem d_X_bits_3 : decode prog_1_method_7_code 3 = .ok (.istore 4, 2) := by decide +kernel
theorem d_X_bits_5 : decode prog_1_method_7_code 5 = .ok (.iload 4, 2) := by decide +kernel
theorem d_X_bits_7 : decode prog_1_method_7_code 7 = .ok (.ifCond .lt (29), 3) := by decide +kernel
theorem d_X_bits_10 : decode prog_1_method_7_code 10 = .ok (.aload_n 0, 1) := by decide +kernel
theorem d_X_bits_11 : decode prog_1_method_7_code 11 = .ok (.lload_n 1, 1) := by decide +kernel
theorem d_X_bits_12 : decode prog_1_method_7_code 12 = .ok (.iload 4, 2) := by decide +kernel
theorem d_X_bits_14 : decode prog_1_method_7_code 14 = .ok (.lshr, 1) := by decide +kernel
theorem d_X_bits_15 : decode prog_1_method_7_code 15 = .ok (.lconst 1, 1) := by decide +kernel
theorem d_X_bits_16 : decode prog_1_method_7_code 16 = .ok (.land, 1) := by decide +kernel
theorem d_X_bits_17 : decode prog_1_method_7_code 17 = .ok (.lconst 1, 1) := by decide +kernel
theorem d_X_bits_18 : decode prog_1_method_7_code 18 = .ok (.lcmp, 1) := by decide +kernel
theorem d_X_bits_19 : decode prog_1_method_7_code 19 = .ok (.ifCond .ne (7), 3) := by decide +kernel
theorem d_X_bits_22 : decode prog_1_method_7_code 22 = .ok (.iconst (1), 1) := by decide +kernel
theorem d_X_bits_23 : decode prog_1_method_7_code 23 = .ok (.goto (4), 3) := by decide +kernel
theorem d_X_bits_26 : decode prog_1_method_7_code 26 = .ok (.iconst (0), 1) := by decide +kernel
theorem d_X_bits_27 : decode prog_1_method_7_code 27 = .ok (.invokevirtual 26, 3) := by decide +kernel
theorem d_X_bits_30 : decode prog_1_method_7_code 30 = .ok (.iinc 4 (-1), 3) := by decide +kernel
theorem d_X_bits_33 : decode prog_1_method_7_code 33 = .ok (.goto (-28), 3) := by decide +kernel
theorem d_X_bits_36 : decode prog_1_method_7_code 36 = .ok (.aload_n 0, 1) := by decide +kernel
theorem d_X_bits_37 : decode prog_1_method_7_code 37 = .ok (.getfield 22, 3) := by decide +kernel
theorem d_X_bits_40 : decode prog_1_method_7_code 40 = .ok (.ireturn, 1) := by decide +kernel
theorem d_X_put_0 : decode prog_1_method_8_code 0 = .ok (.iload_n 3, 1) := by decide +kernel
theorem d_X_put_1 : decode prog_1_method_8_code 1 = .ok (.ifCond .lt (13), 3) := by decide +kernel
theorem d_X_put_4 : decode prog_1_method_8_code 4 = .ok (.iload_n 3, 1) := by decide +kernel
theorem d_X_put_5 : decode prog_1_method_8_code 5 = .ok (.bipush (64), 2) := by decide +kernel
theorem d_X_put_7 : decode prog_1_method_8_code 7 = .ok (.if_icmp .gt (7), 3) := by decide +kernel
theorem d_X_put_10 : decode prog_1_method_8_code 10 = .ok (.iconst (1), 1) := by decide +kernel
theorem d_X_put_11 : decode prog_1_method_8_code 11 = .ok (.goto (4), 3) := by decide +kernel
theorem d_X_put_14 : decode prog_1_method_8_code 14 = .ok (.iconst (0), 1) := by decide +kernel
theorem d_X_put_15 : decode prog_1_method_8_code 15 = .ok (.invokestatic 30, 3) := by decide +kernel
theorem d_X_put_18 : decode prog_1_method_8_code 18 = .ok (.aload_n 0, 1) := by decide +kernel
theorem d_X_put_19 : decode prog_1_method_8_code 19 = .ok (.getfield 22, 3) := by decide +kernel
theorem d_X_put_22 : decode prog_1_method_8_code 22 = .ok (.iload_n 3, 1) := by decide +kernel
theorem d_X_put_23 : decode prog_1_method_8_code 23 = .ok (.iadd, 1) := by decide +kernel
theorem d_X_put_24 : decode prog_1_method_8_code 24 = .ok (.ldc 33, 2) := by decide +kernel
theorem d_X_put_26 : decode prog_1_method_8_code 26 = .ok (.if_icmp .gt (7), 3) := by decide +kernel
theorem d_X_put_29 : decode prog_1_method_8_code 29 = .ok (.iconst (1), 1) := by decide +kernel
theorem d_X_put_30 : decode prog_1_method_8_code 30 = .ok (.goto (4), 3) := by decide +kernel
theorem d_X_put_33 : decode prog_1_method_8_code 33 = .ok (.iconst (0), 1) := by decide +kernel
theorem d_X_put_34 : decode prog_1_method_8_code 34 = .ok (.invokestatic 34, 3) := by decide +kernel
theorem d_X_put_37 : decode prog_1_method_8_code 37 = .ok (.aload_n 0, 1) := by decide +kernel
theorem d_X_put_38 : decode prog_1_method_8_code 38 = .ok (.lload_n 1, 1) := by decide +kernel
theorem d_X_put_39 : decode prog_1_method_8_code 39 = .ok (.iload_n 3, 1) := by decide +kernel
theorem d_X_put_40 : decode prog_1_method_8_code 40 = .ok (.invokevirtual 37, 3) := by decide +kernel
theorem d_X_put_43 : decode prog_1_method_8_code 43 = .ok (.ireturn, 1) := by decide +kernel
theorem d_X_putRange_0 : decode prog_1_method_9_code 0 = .ok (.lload_n 1, 1) := by decide +kernel
theorem d_X_putRange_1 : decode prog_1_method_9_code 1 = .ok (.lload 5, 2) := by decide +kernel
theorem d_X_putRange_3 : decode prog_1_method_9_code 3 = .ok (.lcmp, 1) := by decide +kernel
theorem d_X_putRange_4 : decode prog_1_method_9_code 4 = .ok (.ifCond .gt (14), 3) := by decide +kernel
theorem d_X_putRange_7 : decode prog_1_method_9_code 7 = .ok (.lload 5, 2) := by decide +kernel
theorem d_X_putRange_9 : decode prog_1_method_9_code 9 = .ok (.lload_n 3, 1) := by decide +kernel
theorem d_X_putRange_10 : decode prog_1_method_9_code 10 = .ok (.lcmp, 1) := by decide +kernel
theorem d_X_putRange_11 : decode prog_1_method_9_code 11 = .ok (.ifCond .gt (7), 3) := by decide +kernel
theorem d_X_putRange_14 : decode prog_1_method_9_code 14 = .ok (.iconst (1), 1) := by decide +kernel
theorem d_X_putRange_15 : decode prog_1_method_9_code 15 = .ok (.goto (4), 3) := by decide +kernel
theorem d_X_putRange_18 : decode prog_1_method_9_code 18 = .ok (.iconst (0), 1) := by decide +kernel
theorem d_X_putRange_19 : decode prog_1_method_9_code 19 = .ok (.invokestatic 30, 3) := by decide +kernel
theorem d_X_putRange_22 : decode prog_1_method_9_code 22 = .ok (.lload_n 3, 1) := by decide +kernel
theorem d_X_putRange_23 : decode prog_1_method_9_code 23 = .ok (.lload_n 1, 1) := by decide +kernel
theorem d_X_putRange_24 : decode prog_1_method_9_code 24 = .ok (.lsub, 1) := by decide +kernel
theorem d_X_putRange_25 : decode prog_1_method_9_code 25 = .ok (.invokestatic 41, 3) := by decide +kernel
theorem d_X_putRange_28 : decode prog_1_method_9_code 28 = .ok (.istore 7, 2) := by decide +kernel
theorem d_X_putRange_30 : decode prog_1_method_9_code 30 = .ok (.aload_n 0, 1) := by decide +kernel
theorem d_X_putRange_31 : decode prog_1_method_9_code 31 = .ok (.getfield 22, 3) := by decide +kernel
theorem d_X_putRange_34 : decode prog_1_method_9_code 34 = .ok (.iload 7, 2) := by decide +kernel
theorem d_X_putRange_36 : decode prog_1_method_9_code 36 = .ok (.iadd, 1) := by decide +kernel
theorem d_X_putRange_37 : decode prog_1_method_9_code 37 = .ok (.ldc 33, 2) := by decide +kernel
theorem d_X_putRange_39 : decode prog_1_method_9_code 39 = .ok (.if_icmp .gt (7), 3) := by decide +kernel
theorem d_X_putRange_42 : decode prog_1_method_9_code 42 = .ok (.iconst (1), 1) := by decide +kernel
theorem d_X_putRange_43 : decode prog_1_method_9_code 43 = .ok (.goto (4), 3) := by decide +kernel
theorem d_X_putRange_46 : decode prog_1_method_9_code 46 = .ok (.iconst (0), 1) := by decide +kernel
theorem d_X_putRange_47 : decode prog_1_method_9_code 47 = .ok (.invokestatic 34, 3) := by decide +kernel
theorem d_X_putRange_50 : decode prog_1_method_9_code 50 = .ok (.aload_n 0, 1) := by decide +kernel
theorem d_X_putRange_51 : decode prog_1_method_9_code 51 = .ok (.lload 5, 2) := by decide +kernel
theorem d_X_putRange_53 : decode prog_1_method_9_code 53 = .ok (.lload_n 1, 1) := by decide +kernel
theorem d_X_putRange_54 : decode prog_1_method_9_code 54 = .ok (.lsub, 1) := by decide +kernel
theorem d_X_putRange_55 : decode prog_1_method_9_code 55 = .ok (.iload 7, 2) := by decide +kernel
theorem d_X_putRange_57 : decode prog_1_method_9_code 57 = .ok (.invokevirtual 37, 3) := by decide +kernel
theorem d_X_putRange_60 : decode prog_1_method_9_code 60 = .ok (.ireturn, 1) := by decide +kernel
theorem d_X_putLength_0 : decode prog_1_method_10_code 0 = .ok (.iload_n 1, 1) := by decide +kernel
theorem d_X_putLength_1 : decode prog_1_method_10_code 1 = .ok (.ifCond .lt (7), 3) := by decide +kernel
theorem d_X_putLength_4 : decode prog_1_method_10_code 4 = .ok (.iconst (1), 1) := by decide +kernel
theorem d_X_putLength_5 : decode prog_1_method_10_code 5 = .ok (.goto (4), 3) := by decide +kernel
theorem d_X_putLength_8 : decode prog_1_method_10_code 8 = .ok (.iconst (0), 1) := by decide +kernel
theorem d_X_putLength_9 : decode prog_1_method_10_code 9 = .ok (.invokestatic 30, 3) := by decide +kernel
theorem d_X_putLength_12 : decode prog_1_method_10_code 12 = .ok (.aload_n 0, 1) := by decide +kernel
theorem d_X_putLength_13 : decode prog_1_method_10_code 13 = .ok (.getfield 22, 3) := by decide +kernel
theorem d_X_putLength_16 : decode prog_1_method_10_code 16 = .ok (.iload_n 1, 1) := by decide +kernel
theorem d_X_putLength_17 : decode prog_1_method_10_code 17 = .ok (.sipush (128), 3) := by decide +kernel
theorem d_X_putLength_20 : decode prog_1_method_10_code 20 = .ok (.if_icmp .lt (10), 3) := by decide +kernel
theorem d_X_putLength_23 : decode prog_1_method_10_code 23 = .ok (.iload_n 1, 1) := by decide +kernel
theorem d_X_putLength_24 : decode prog_1_method_10_code 24 = .ok (.sipush (16384), 3) := by decide +kernel
theorem d_X_putLength_27 : decode prog_1_method_10_code 27 = .ok (.if_icmp .lt (8), 3) := by decide +kernel
theorem d_X_putLength_30 : decode prog_1_method_10_code 30 = .ok (.bipush (8), 2) := by decide +kernel
theorem d_X_putLength_32 : decode prog_1_method_10_code 32 = .ok (.goto (5), 3) := by decide +kernel
theorem d_X_putLength_35 : decode prog_1_method_10_code 35 = .ok (.bipush (16), 2) := by decide +kernel
theorem d_X_putLength_37 : decode prog_1_method_10_code 37 = .ok (.iadd, 1) := by decide +kernel
theorem d_X_putLength_38 : decode prog_1_method_10_code 38 = .ok (.ldc 33, 2) := by decide +kernel
theorem d_X_putLength_40 : decode prog_1_method_10_code 40 = .ok (.if_icmp .gt (7), 3) := by decide +kernel
theorem d_X_putLength_43 : decode prog_1_method_10_code 43 = .ok (.iconst (1), 1) := by decide +kernel
theorem d_X_putLength_44 : decode prog_1_method_10_code 44 = .ok (.goto (4), 3) := by decide +kernel
theorem d_X_putLength_47 : decode prog_1_method_10_code 47 = .ok (.iconst (0), 1) := by decide +kernel
theorem d_X_putLength_48 : decode prog_1_method_10_code 48 = .ok (.invokestatic 34, 3) := by decide +kernel
theorem d_X_putLength_51 : decode prog_1_method_10_code 51 = .ok (.iload_n 1, 1) := by decide +kernel
theorem d_X_putLength_52 : decode prog_1_method_10_code 52 = .ok (.sipush (128), 3) := by decide +kernel
theorem d_X_putLength_55 : decode prog_1_method_10_code 55 = .ok (.if_icmp .ge (14), 3) := by decide +kernel
theorem d_X_putLength_58 : decode prog_1_method_10_code 58 = .ok (.aload_n 0, 1) := by decide +kernel
theorem d_X_putLength_59 : decode prog_1_method_10_code 59 = .ok (.iload_n 1, 1) := by decide +kernel
theorem d_X_putLength_60 : decode prog_1_method_10_code 60 = .ok (.i2l, 1) := by decide +kernel
theorem d_X_putLength_61 : decode prog_1_method_10_code 61 = .ok (.bipush (8), 2) := by decide +kernel
theorem d_X_putLength_63 : decode prog_1_method_10_code 63 = .ok (.invokevirtual 37, 3) := by decide +kernel
theorem d_X_putLength_66 : decode prog_1_method_10_code 66 = .ok (.pop, 1) := by decide +kernel
theorem d_X_putLength_67 : decode prog_1_method_10_code 67 = .ok (.iload_n 1, 1) := by decide +kernel
theorem d_X_putLength_68 : decode prog_1_method_10_code 68 = .ok (.ireturn, 1) := by decide +kernel
theorem d_X_putLength_69 : decode prog_1_method_10_code 69 = .ok (.iload_n 1, 1) := by decide +kernel
theorem d_X_putLength_70 : decode prog_1_method_10_code 70 = .ok (.sipush (16384), 3) := by decide +kernel
theorem d_X_putLength_73 : decode prog_1_method_10_code 73 = .ok (.if_icmp .ge (17), 3) := by decide +kernel
theorem d_X_putLength_76 : decode prog_1_method_10_code 76 = .ok (.aload_n 0, 1) := by decide +kernel
theorem d_X_putLength_77 : decode prog_1_method_10_code 77 = .ok (.ldc 45, 2) := by decide +kernel
theorem d_X_putLength_79 : decode prog_1_method_10_code 79 = .ok (.iload_n 1, 1) := by decide +kernel
theorem d_X_putLength_80 : decode prog_1_method_10_code 80 = .ok (.ior, 1) := by decide +kernel
theorem d_X_putLength_81 : decode prog_1_method_10_code 81 = .ok (.i2l, 1) := by decide +kernel
theorem d_X_putLength_82 : decode prog_1_method_10_code 82 = .ok (.bipush (16), 2) := by decide +kernel
theorem d_X_putLength_84 : decode prog_1_method_10_code 84 = .ok (.invokevirtual 37, 3) := by decide +kernel
theorem d_X_putLength_87 : decode prog_1_method_10_code 87 = .ok (.pop, 1) := by decide +kernel
theorem d_X_putLength_88 : decode prog_1_method_10_code 88 = .ok (.iload_n 1, 1) := by decide +kernel
theorem d_X_putLength_89 : decode prog_1_method_10_code 89 = .ok (.ireturn, 1) := by decide +kernel
theorem d_X_putLength_90 : decode prog_1_method_10_code 90 = .ok (.iload_n 1, 1) := by decide +kernel
theorem d_X_putLength_91 : decode prog_1_method_10_code 91 = .ok (.sipush (16384), 3) := by decide +kernel
theorem d_X_putLength_94 : decode prog_1_method_10_code 94 = .ok (.idiv, 1) := by decide +kernel
theorem d_X_putLength_95 : decode prog_1_method_10_code 95 = .ok (.iconst (4), 1) := by decide +kernel
theorem d_X_putLength_96 : decode prog_1_method_10_code 96 = .ok (.if_icmp .ge (11), 3) := by decide +kernel
theorem d_X_putLength_99 : decode prog_1_method_10_code 99 = .ok (.iload_n 1, 1) := by decide +kernel
theorem d_X_putLength_100 : decode prog_1_method_10_code 100 = .ok (.sipush (16384), 3) := by decide +kernel
theorem d_X_putLength_103 : decode prog_1_method_10_code 103 = .ok (.idiv, 1) := by decide +kernel
theorem d_X_putLength_104 : decode prog_1_method_10_code 104 = .ok (.goto (4), 3) := by decide +kernel
theorem d_X_putLength_107 : decode prog_1_method_10_code 107 = .ok (.iconst (4), 1) := by decide +kernel
theorem d_X_putLength_108 : decode prog_1_method_10_code 108 = .ok (.istore_n 2, 1) := by decide +kernel
theorem d_X_putLength_109 : decode prog_1_method_10_code 109 = .ok (.aload_n 0, 1) := by decide +kernel
theorem d_X_putLength_110 : decode prog_1_method_10_code 110 = .ok (.sipush (192), 3) := by decide +kernel
theorem d_X_putLength_113 : decode prog_1_method_10_code 113 = .ok (.iload_n 2, 1) := by decide +kernel
theorem d_X_putLength_114 : decode prog_1_method_10_code 114 = .ok (.ior, 1) := by decide +kernel
theorem d_X_putLength_115 : decode prog_1_method_10_code 115 = .ok (.i2l, 1) := by decide +kernel
theorem d_X_putLength_116 : decode prog_1_method_10_code 116 = .ok (.bipush (8), 2) := by decide +kernel
theorem d_X_putLength_118 : decode prog_1_method_10_code 118 = .ok (.invokevirtual 37, 3) := by decide +kernel
theorem d_X_putLength_121 : decode prog_1_method_10_code 121 = .ok (.pop, 1) := by decide +kernel
theorem d_X_putLength_122 : decode prog_1_method_10_code 122 = .ok (.iload_n 2, 1) := by decide +kernel
theorem d_X_putLength_123 : decode prog_1_method_10_code 123 = .ok (.sipush (16384), 3) := by decide +kernel
theorem d_X_putLength_126 : decode prog_1_method_10_code 126 = .ok (.imul, 1) := by decide +kernel
theorem d_X_putLength_127 : decode prog_1_method_10_code 127 = .ok (.ireturn, 1) := by decide +kernel
theorem d_X_bytes_0 : decode prog_1_method_11_code 0 = .ok (.iconst (1), 1) := by decide +kernel
theorem d_X_bytes_1 : decode prog_1_method_11_code 1 = .ok (.istore_n 3, 1) := by decide +kernel
theorem d_X_bytes_2 : decode prog_1_method_11_code 2 = .ok (.iload_n 0, 1) := by decide +kernel
theorem d_X_bytes_3 : decode prog_1_method_11_code 3 = .ok (.ifCond .eq (43), 3) := by decide +kernel
theorem d_X_bytes_6 : decode prog_1_method_11_code 6 = .ok (.iload_n 3, 1) := by decide +kernel
theorem d_X_bytes_7 : decode prog_1_method_11_code 7 = .ok (.bipush (8), 2) := by decide +kernel
theorem d_X_bytes_9 : decode prog_1_method_11_code 9 = .ok (.if_icmp .ge (60), 3) := by decide +kernel
theorem d_X_bytes_12 : decode prog_1_method_11_code 12 = .ok (.lload_n 1, 1) := by decide +kernel
theorem d_X_bytes_13 : decode prog_1_method_11_code 13 = .ok (.bipush (8), 2) := by decide +kernel
theorem d_X_bytes_15 : decode prog_1_method_11_code 15 = .ok (.iload_n 3, 1) := by decide +kernel
theorem d_X_bytes_16 : decode prog_1_method_11_code 16 = .ok (.imul, 1) := by decide +kernel
theorem d_X_bytes_17 : decode prog_1_method_11_code 17 = .ok (.iconst (1), 1) := by decide +kernel
theorem d_X_bytes_18 : decode prog_1_method_11_code 18 = .ok (.isub, 1) := by decide +kernel
theorem d_X_bytes_19 : decode prog_1_method_11_code 19 = .ok (.lshr, 1) := by decide +kernel
theorem d_X_bytes_20 : decode prog_1_method_11_code 20 = .ok (.lconst 0, 1) := by decide +kernel
theorem d_X_bytes_21 : decode prog_1_method_11_code 21 = .ok (.lcmp, 1) := by decide +kernel
theorem d_X_bytes_22 : decode prog_1_method_11_code 22 = .ok (.ifCond .eq (47), 3) := by decide +kernel
theorem d_X_bytes_25 : decode prog_1_method_11_code 25 = .ok (.lload_n 1, 1) := by decide +kernel
theorem d_X_bytes_26 : decode prog_1_method_11_code 26 = .ok (.bipush (8), 2) := by decide +kernel
theorem d_X_bytes_28 : decode prog_1_method_11_code 28 = .ok (.iload_n 3, 1) := by decide +kernel
theorem d_X_bytes_29 : decode prog_1_method_11_code 29 = .ok (.imul, 1) := by decide +kernel
theorem d_X_bytes_30 : decode prog_1_method_11_code 30 = .ok (.iconst (1), 1) := by decide +kernel
theorem d_X_bytes_31 : decode prog_1_method_11_code 31 = .ok (.isub, 1) := by decide +kernel
theorem d_X_bytes_32 : decode prog_1_method_11_code 32 = .ok (.lshr, 1) := by decide +kernel
theorem d_X_bytes_33 : decode prog_1_method_11_code 33 = .ok (.ldc2_w 46, 3) := by decide +kernel
theorem d_X_bytes_36 : decode prog_1_method_11_code 36 = .ok (.lcmp, 1) := by decide +kernel
theorem d_X_bytes_37 : decode prog_1_method_11_code 37 = .ok (.ifCond .eq (32), 3) := by decide +kernel
theorem d_X_bytes_40 : decode prog_1_method_11_code 40 = .ok (.iinc 3 (1), 3) := by decide +kernel
theorem d_X_bytes_43 : decode prog_1_method_11_code 43 = .ok (.goto (-37), 3) := by decide +kernel
theorem d_X_bytes_46 : decode prog_1_method_11_code 46 = .ok (.iload_n 3, 1) := by decide +kernel
theorem d_X_bytes_47 : decode prog_1_method_11_code 47 = .ok (.bipush (8), 2) := by decide +kernel
theorem d_X_bytes_49 : decode prog_1_method_11_code 49 = .ok (.if_icmp .ge (20), 3) := by decide +kernel
theorem d_X_bytes_52 : decode prog_1_method_11_code 52 = .ok (.lload_n 1, 1) := by decide +kernel
theorem d_X_bytes_53 : decode prog_1_method_11_code 53 = .ok (.bipush (8), 2) := by decide +kernel
theorem d_X_bytes_55 : decode prog_1_method_11_code 55 = .ok (.iload_n 3, 1) := by decide +kernel
theorem d_X_bytes_56 : decode prog_1_method_11_code 56 = .ok (.imul, 1) := by decide +kernel
theorem d_X_bytes_57 : decode prog_1_method_11_code 57 = .ok (.lushr, 1) := by decide +kernel
theorem d_X_bytes_58 : decode prog_1_method_11_code 58 = .ok (.lconst 0, 1) := by decide +kernel
theorem d_X_bytes_59 : decode prog_1_method_11_code 59 = .ok (.lcmp, 1) := by decide +kernel
theorem d_X_bytes_60 : decode prog_1_method_11_code 60 = .ok (.ifCond .le (9), 3) := by decide +kernel
theorem d_X_bytes_63 : decode prog_1_method_11_code 63 = .ok (.iinc 3 (1), 3) := by decide +kernel
theorem d_X_bytes_66 : decode prog_1_method_11_code 66 = .ok (.goto (-20), 3) := by decide +kernel
theorem d_X_bytes_69 : decode prog_1_method_11_code 69 = .ok (.iload_n 3, 1) := by decide +kernel
theorem d_X_bytes_70 : decode prog_1_method_11_code 70 = .ok (.ireturn, 1) := by decide +kernel
theorem d_X_putNumber_0 : decode prog_1_method_12_code 0 = .ok (.iload_n 1, 1) := by decide +kernel
theorem d_X_putNumber_1 : decode prog_1_method_12_code 1 = .ok (.ifCond .lt (12), 3) := by decide +kernel
theorem d_X_putNumber_4 : decode prog_1_method_12_code 4 = .ok (.iload_n 1, 1) := by decide +kernel
theorem d_X_putNumber_5 : decode prog_1_method_12_code 5 = .ok (.iconst (2), 1) := by decide +kernel
theorem d_X_putNumber_6 : decode prog_1_method_12_code 6 = .ok (.if_icmp .gt (7), 3) := by decide +kernel
theorem d_X_putNumber_9 : decode prog_1_method_12_code 9 = .ok (.iconst (1), 1) := by decide +kernel
theorem d_X_putNumber_10 : decode prog_1_method_12_code 10 = .ok (.goto (4), 3) := by decide +kernel
theorem d_X_putNumber_13 : decode prog_1_method_12_code 13 = .ok (.iconst (0), 1) := by decide +kernel
theorem d_X_putNumber_14 : decode prog_1_method_12_code 14 = .ok (.invokestatic 30, 3) := by decide +kernel
theorem d_X_putNumber_17 : decode prog_1_method_12_code 17 = .ok (.iload_n 1, 1) := by decide +kernel
theorem d_X_putNumber_18 : decode prog_1_method_12_code 18 = .ok (.iconst (2), 1) := by decide +kernel
theorem d_X_putNumber_19 : decode prog_1_method_12_code 19 = .ok (.if_icmp .ne (45), 3) := by decide +kernel
theorem d_X_putNumber_22 : decode prog_1_method_12_code 22 = .ok (.lload_n 2, 1) := by decide +kernel
theorem d_X_putNumber_23 : decode prog_1_method_12_code 23 = .ok (.lconst 0, 1) := by decide +kernel
theorem d_X_putNumber_24 : decode prog_1_method_12_code 24 = .ok (.lcmp, 1) := by decide +kernel
theorem d_X_putNumber_25 : decode prog_1_method_12_code 25 = .ok (.ifCond .lt (39), 3) := by decide +kernel
theorem d_X_putNumber_28 : decode prog_1_method_12_code 28 = .ok (.lload_n 2, 1) := by decide +kernel
theorem d_X_putNumber_29 : decode prog_1_method_12_code 29 = .ok (.ldc2_w 48, 3) := by decide +kernel
theorem d_X_putNumber_32 : decode prog_1_method_12_code 32 = .ok (.lcmp, 1) := by decide +kernel
theorem d_X_putNumber_33 : decode prog_1_method_12_code 33 = .ok (.ifCond .ge (31), 3) := by decide +kernel
theorem d_X_putNumber_36 : decode prog_1_method_12_code 36 = .ok (.aload_n 0, 1) := by decide +kernel
theorem d_X_putNumber_37 : decode prog_1_method_12_code 37 = .ok (.getfield 22, 3) := by decide +kernel
theorem d_X_putNumber_40 : decode prog_1_method_12_code 40 = .ok (.bipush (7), 2) := by decide +kernel
theorem d_X_putNumber_42 : decode prog_1_method_12_code 42 = .ok (.iadd, 1) := by decide +kernel
theorem d_X_putNumber_43 : decode prog_1_method_12_code 43 = .ok (.ldc 33, 2) := by decide +kernel
theorem d_X_putNumber_45 : decode prog_1_method_12_code 45 = .ok (.if_icmp .gt (7), 3) := by decide +kernel
theorem d_X_putNumber_48 : decode prog_1_method_12_code 48 = .ok (.iconst (1), 1) := by decide +kernel
theorem d_X_putNumber_49 : decode prog_1_method_12_code 49 = .ok (.goto (4), 3) := by decide +kernel
theorem d_X_putNumber_52 : decode prog_1_method_12_code 52 = .ok (.iconst (0), 1) := by decide +kernel
theorem d_X_putNumber_53 : decode prog_1_method_12_code 53 = .ok (.invokestatic 34, 3) := by decide +kernel
theorem d_X_putNumber_56 : decode prog_1_method_12_code 56 = .ok (.aload_n 0, 1) := by decide +kernel
theorem d_X_putNumber_57 : decode prog_1_method_12_code 57 = .ok (.lload_n 2, 1) := by decide +kernel
theorem d_X_putNumber_58 : decode prog_1_method_12_code 58 = .ok (.bipush (7), 2) := by decide +kernel
theorem d_X_putNumber_60 : decode prog_1_method_12_code 60 = .ok (.invokevirtual 37, 3) := by decide +kernel
theorem d_X_putNumber_63 : decode prog_1_method_12_code 63 = .ok (.ireturn, 1) := by decide +kernel
theorem d_X_putNumber_64 : decode prog_1_method_12_code 64 = .ok (.iload_n 1, 1) := by decide +kernel
theorem d_X_putNumber_65 : decode prog_1_method_12_code 65 = .ok (.iconst (1), 1) := by decide +kernel
theorem d_X_putNumber_66 : decode prog_1_method_12_code 66 = .ok (.if_icmp .ne (7), 3) := by decide +kernel
theorem d_X_putNumber_69 : decode prog_1_method_12_code 69 = .ok (.iconst (1), 1) := by decide +kernel
theorem d_X_putNumber_70 : decode prog_1_method_12_code 70 = .ok (.goto (4), 3) := by decide +kernel
theorem d_X_putNumber_73 : decode prog_1_method_12_code 73 = .ok (.iconst (0), 1) := by decide +kernel
theorem d_X_putNumber_74 : decode prog_1_method_12_code 74 = .ok (.lload_n 2, 1) := by decide +kernel
theorem d_X_putNumber_75 : decode prog_1_method_12_code 75 = .ok (.invokestatic 50, 3) := by decide +kernel
theorem d_X_putNumber_78 : decode prog_1_method_12_code 78 = .ok (.istore 4, 2) := by decide +kernel
theorem d_X_putNumber_80 : decode prog_1_method_12_code 80 = .ok (.aload_n 0, 1) := by decide +kernel
theorem d_X_putNumber_81 : decode prog_1_method_12_code 81 = .ok (.getfield 22, 3) := by decide +kernel
theorem d_X_putNumber_84 : decode prog_1_method_12_code 84 = .ok (.bipush (8), 2) := by decide +kernel
theorem d_X_putNumber_86 : decode prog_1_method_12_code 86 = .ok (.iadd, 1) := by decide +kernel
theorem d_X_putNumber_87 : decode prog_1_method_12_code 87 = .ok (.bipush (8), 2) := by decide +kernel
theorem d_X_putNumber_89 : decode prog_1_method_12_code 89 = .ok (.iload 4, 2) := by decide +kernel
theorem d_X_putNumber_91 : decode prog_1_method_12_code 91 = .ok (.imul, 1) := by decide +kernel
theorem d_X_putNumber_92 : decode prog_1_method_12_code 92 = .ok (.iadd, 1) := by decide +kernel
theorem d_X_putNumber_93 : decode prog_1_method_12_code 93 = .ok (.iload_n 1, 1) := by decide +kernel
theorem d_X_putNumber_94 : decode prog_1_method_12_code 94 = .ok (.iconst (2), 1) := by decide +kernel
theorem d_X_putNumber_95 : decode prog_1_method_12_code 95 = .ok (.if_icmp .ne (7), 3) := by decide +kernel
theorem d_X_putNumber_98 : decode prog_1_method_12_code 98 = .ok (.iconst (1), 1) := by decide +kernel
theorem d_X_putNumber_99 : decode prog_1_method_12_code 99 = .ok (.goto (4), 3) := by decide +kernel
theorem d_X_putNumber_102 : decode prog_1_method_12_code 102 = .ok (.iconst (0), 1) := by decide +kernel
theorem d_X_putNumber_103 : decode prog_1_method_12_code 103 = .ok (.iadd, 1) := by decide +kernel
theorem d_X_putNumber_104 : decode prog_1_method_12_code 104 = .ok (.ldc 33, 2) := by decide +kernel
theorem d_X_putNumber_106 : decode prog_1_method_12_code 106 = .ok (.if_icmp .gt (7), 3) := by decide +kernel
theorem d_X_putNumber_109 : decode prog_1_method_12_code 109 = .ok (.iconst (1), 1) := by decide +kernel
theorem d_X_putNumber_110 : decode prog_1_method_12_code 110 = .ok (.goto (4), 3) := by decide +kernel
theorem d_X_putNumber_113 : decode prog_1_method_12_code 113 = .ok (.iconst (0), 1) := by decide +kernel
theorem d_X_putNumber_114 : decode prog_1_method_12_code 114 = .ok (.invokestatic 34, 3) := by decide +kernel
theorem d_X_putNumber_117 : decode prog_1_method_12_code 117 = .ok (.iload_n 1, 1) := by decide +kernel
theorem d_X_putNumber_118 : decode prog_1_method_12_code 118 = .ok (.iconst (2), 1) := by decide +kernel
theorem d_X_putNumber_119 : decode prog_1_method_12_code 119 = .ok (.if_icmp .ne (8), 3) := by decide +kernel
theorem d_X_putNumber_122 : decode prog_1_method_12_code 122 = .ok (.aload_n 0, 1) := by decide +kernel
theorem d_X_putNumber_123 : decode prog_1_method_12_code 123 = .ok (.iconst (1), 1) := by decide +kernel
theorem d_X_putNumber_124 : decode prog_1_method_12_code 124 = .ok (.invokevirtual 26, 3) := by decide +kernel
theorem d_X_putNumber_127 : decode prog_1_method_12_code 127 = .ok (.aload_n 0, 1) := by decide +kernel
theorem d_X_putNumber_128 : decode prog_1_method_12_code 128 = .ok (.iload 4, 2) := by decide +kernel
theorem d_X_putNumber_130 : decode prog_1_method_12_code 130 = .ok (.i2l, 1) := by decide +kernel
theorem d_X_putNumber_131 : decode prog_1_method_12_code 131 = .ok (.bipush (8), 2) := by decide +kernel
theorem d_X_putNumber_133 : decode prog_1_method_12_code 133 = .ok (.invokevirtual 37, 3) := by decide +kernel
theorem d_X_putNumber_136 : decode prog_1_method_12_code 136 = .ok (.pop, 1) := by decide +kernel
theorem d_X_putNumber_137 : decode prog_1_method_12_code 137 = .ok (.aload_n 0, 1) := by decide +kernel
theorem d_X_putNumber_138 : decode prog_1_method_12_code 138 = .ok (.lload_n 2, 1) := by decide +kernel
theorem d_X_putNumber_139 : decode prog_1_method_12_code 139 = .ok (.bipush (8), 2) := by decide +kernel
theorem d_X_putNumber_141 : decode prog_1_method_12_code 141 = .ok (.iload 4, 2) := by decide +kernel
theorem d_X_putNumber_143 : decode prog_1_method_12_code 143 = .ok (.imul, 1) := by decide +kernel
theorem d_X_putNumber_144 : decode prog_1_method_12_code 144 = .ok (.invokevirtual 37, 3) := by decide +kernel
theorem d_X_putNumber_147 : decode prog_1_method_12_code 147 = .ok (.ireturn, 1) := by decide +kernel
theorem d_X_fill_0 : decode prog_1_method_13_code 0 = .ok (.aload_n 0, 1) := by decide +kernel
theorem d_X_fill_1 : decode prog_1_method_13_code 1 = .ok (.getfield 22, 3) := by decide +kernel
theorem d_X_fill_4 : decode prog_1_method_13_code 4 = .ok (.ldc 33, 2) := by decide +kernel
theorem d_X_fill_6 : decode prog_1_method_13_code 6 = .ok (.if_icmp .lt (13), 3) := by decide +kernel
theorem d_X_fill_9 : decode prog_1_method_13_code 9 = .ok (.aload_n 0, 1) := by decide +kernel
theorem d_X_fill_10 : decode prog_1_method_13_code 10 = .ok (.getfield 22, 3) := by decide +kernel
theorem d_X_fill_13 : decode prog_1_method_13_code 13 = .ok (.bipush (7), 2) := by decide +kernel
theorem d_X_fill_15 : decode prog_1_method_13_code 15 = .ok (.iand, 1) := by decide +kernel
theorem d_X_fill_16 : decode prog_1_method_13_code 16 = .ok (.ifCond .ne (7), 3) := by decide +kernel
theorem d_X_fill_19 : decode prog_1_method_13_code 19 = .ok (.iconst (1), 1) := by decide +kernel
theorem d_X_fill_20 : decode prog_1_method_13_code 20 = .ok (.goto (4), 3) := by decide +kernel
theorem d_X_fill_23 : decode prog_1_method_13_code 23 = .ok (.iconst (0), 1) := by decide +kernel
theorem d_X_fill_24 : decode prog_1_method_13_code 24 = .ok (.invokestatic 34, 3) := by decide +kernel
theorem d_X_fill_27 : decode prog_1_method_13_code 27 = .ok (.aload_n 0, 1) := by decide +kernel
theorem d_X_fill_28 : decode prog_1_method_13_code 28 = .ok (.getfield 22, 3) := by decide +kernel
theorem d_X_fill_31 : decode prog_1_method_13_code 31 = .ok (.ifCond .eq (13), 3) := by decide +kernel
theorem d_X_fill_34 : decode prog_1_method_13_code 34 = .ok (.aload_n 0, 1) := by decide +kernel
theorem d_X_fill_35 : decode prog_1_method_13_code 35 = .ok (.getfield 22, 3) := by decide +kernel
theorem d_X_fill_38 : decode prog_1_method_13_code 38 = .ok (.bipush (7), 2) := by decide +kernel
theorem d_X_fill_40 : decode prog_1_method_13_code 40 = .ok (.iand, 1) := by decide +kernel
theorem d_X_fill_41 : decode prog_1_method_13_code 41 = .ok (.ifCond .eq (11), 3) := by decide +kernel
theorem d_X_fill_44 : decode prog_1_method_13_code 44 = .ok (.aload_n 0, 1) := by decide +kernel
theorem d_X_fill_45 : decode prog_1_method_13_code 45 = .ok (.iconst (0), 1) := by decide +kernel
theorem d_X_fill_46 : decode prog_1_method_13_code 46 = .ok (.invokevirtual 26, 3) := by decide +kernel
theorem d_X_fill_49 : decode prog_1_method_13_code 49 = .ok (.goto (-22), 3) := by decide +kernel
theorem d_X_fill_52 : decode prog_1_method_13_code 52 = .ok (.aload_n 0, 1) := by decide +kernel
theorem d_X_fill_53 : decode prog_1_method_13_code 53 = .ok (.getfield 22, 3) := by decide +kernel
theorem d_X_fill_56 : decode prog_1_method_13_code 56 = .ok (.ireturn, 1) := by decide +kernel
theorem d_X_read_0 : decode prog_1_method_14_code 0 = .ok (.iload_n 1, 1) := by decide +kernel
theorem d_X_read_1 : decode prog_1_method_14_code 1 = .ok (.aload_n 0, 1) := by decide +kernel
theorem d_X_read_2 : decode prog_1_method_14_code 2 = .ok (.getfield 22, 3) := by decide +kernel
theorem d_X_read_5 : decode prog_1_method_14_code 5 = .ok (.aload_n 0, 1) := by decide +kernel
theorem d_X_read_6 : decode prog_1_method_14_code 6 = .ok (.getfield 54, 3) := by decide +kernel
theorem d_X_read_9 : decode prog_1_method_14_code 9 = .ok (.isub, 1) := by decide +kernel
theorem d_X_read_10 : decode prog_1_method_14_code 10 = .ok (.if_icmp .gt (7), 3) := by decide +kernel
theorem d_X_read_13 : decode prog_1_method_14_code 13 = .ok (.iconst (1), 1) := by decide +kernel
theorem d_X_read_14 : decode prog_1_method_14_code 14 = .ok (.goto (4), 3) := by decide +kernel
theorem d_X_read_17 : decode prog_1_method_14_code 17 = .ok (.iconst (0), 1) := by decide +kernel
theorem d_X_read_18 : decode prog_1_method_14_code 18 = .ok (.invokestatic 57, 3) := by decide +kernel
theorem d_X_read_21 : decode prog_1_method_14_code 21 = .ok (.lconst 0, 1) := by decide +kernel
theorem d_X_read_22 : decode prog_1_method_14_code 22 = .ok (.lstore_n 2, 1) := by decide +kernel
theorem d_X_read_23 : decode prog_1_method_14_code 23 = .ok (.aload_n 0, 1) := by decide +kernel
theorem d_X_read_24 : decode prog_1_method_14_code 24 = .ok (.getfield 54, 3) := by decide +kernel
theorem d_X_read_27 : decode prog_1_method_14_code 27 = .ok (.istore 4, 2) := by decide +kernel
theorem d_X_read_29 : decode prog_1_method_14_code 29 = .ok (.iload 4, 2) := by decide +kernel
theorem d_X_read_31 : decode prog_1_method_14_code 31 = .ok (.aload_n 0, 1) := by decide +kernel
theorem d_X_read_32 : decode prog_1_method_14_code 32 = .ok (.getfield 54, 3) := by decide +kernel
theorem d_X_read_35 : decode prog_1_method_14_code 35 = .ok (.iload_n 1, 1) := by decide +kernel
theorem d_X_read_36 : decode prog_1_method_14_code 36 = .ok (.iadd, 1) := by decide +kernel
theorem d_X_read_37 : decode prog_1_method_14_code 37 = .ok (.if_icmp .ge (35), 3) := by decide +kernel
theorem d_X_read_40 : decode prog_1_method_14_code 40 = .ok (.lload_n 2, 1) := by decide +kernel
theorem d_X_read_41 : decode prog_1_method_14_code 41 = .ok (.iconst (1), 1) := by decide +kernel
theorem d_X_read_42 : decode prog_1_method_14_code 42 = .ok (.lshl, 1) := by decide +kernel
theorem d_X_read_43 : decode prog_1_method_14_code 43 = .ok (.aload_n 0, 1) := by decide +kernel
theorem d_X_read_44 : decode prog_1_method_14_code 44 = .ok (.getfield 9, 3) := by decide +kernel
theorem d_X_read_47 : decode prog_1_method_14_code 47 = .ok (.iload 4, 2) := by decide +kernel
theorem d_X_read_49 : decode prog_1_method_14_code 49 = .ok (.iconst (3), 1) := by decide +kernel
theorem d_X_read_50 : decode prog_1_method_14_code 50 = .ok (.ishr, 1) := by decide +kernel
theorem d_X_read_51 : decode prog_1_method_14_code 51 = .ok (.baload, 1) := by decide +kernel
theorem d_X_read_52 : decode prog_1_method_14_code 52 = .ok (.bipush (7), 2) := by decide +kernel
theorem d_X_read_54 : decode prog_1_method_14_code 54 = .ok (.iload 4, 2) := by decide +kernel
theorem d_X_read_56 : decode prog_1_method_14_code 56 = .ok (.bipush (7), 2) := by decide +kernel
theorem d_X_read_58 : decode prog_1_method_14_code 58 = .ok (.iand, 1) := by decide +kernel
theorem d_X_read_59 : decode prog_1_method_14_code 59 = .ok (.isub, 1) := by decide +kernel
theorem d_X_read_60 : decode prog_1_method_14_code 60 = .ok (.ishr, 1) := by decide +kernel
theorem d_X_read_61 : decode prog_1_method_14_code 61 = .ok (.iconst (1), 1) := by decide +kernel
theorem d_X_read_62 : decode prog_1_method_14_code 62 = .ok (.iand, 1) := by decide +kernel
theorem d_X_read_63 : decode prog_1_method_14_code 63 = .ok (.i2l, 1) := by decide +kernel
theorem d_X_read_64 : decode prog_1_method_14_code 64 = .ok (.lor, 1) := by decide +kernel
theorem d_X_read_65 : decode prog_1_method_14_code 65 = .ok (.lstore_n 2, 1) := by decide +kernel
theorem d_X_read_66 : decode prog_1_method_14_code 66 = .ok (.iinc 4 (1), 3) := by decide +kernel
theorem d_X_read_69 : decode prog_1_method_14_code 69 = .ok (.goto (-40), 3) := by decide +kernel
theorem d_X_read_72 : decode prog_1_method_14_code 72 = .ok (.aload_n 0, 1) := by decide +kernel
theorem d_X_read_73 : decode prog_1_method_14_code 73 = .ok (.dup, 1) := by decide +kernel
theorem d_X_read_74 : decode prog_1_method_14_code 74 = .ok (.getfield 54, 3) := by decide +kernel
theorem d_X_read_77 : decode prog_1_method_14_code 77 = .ok (.iload_n 1, 1) := by decide +kernel
theorem d_X_read_78 : decode prog_1_method_14_code 78 = .ok (.iadd, 1) := by decide +kernel
theorem d_X_read_79 : decode prog_1_method_14_code 79 = .ok (.putfield 54, 3) := by decide +kernel
theorem d_X_read_82 : decode prog_1_method_14_code 82 = .ok (.lload_n 2, 1) := by decide +kernel
theorem d_X_read_83 : decode prog_1_method_14_code 83 = .ok (.lreturn, 1) := by decide +kernel
theorem d_X_take_0 : decode prog_1_method_15_code 0 = .ok (.iload_n 1, 1) := by decide +kernel
theorem d_X_take_1 : decode prog_1_method_15_code 1 = .ok (.ifCond .lt (13), 3) := by decide +kernel
theorem d_X_take_4 : decode prog_1_method_15_code 4 = .ok (.iload_n 1, 1) := by decide +kernel
theorem d_X_take_5 : decode prog_1_method_15_code 5 = .ok (.bipush (64), 2) := by decide +kernel
theorem d_X_take_7 : decode prog_1_method_15_code 7 = .ok (.if_icmp .gt (7), 3) := by decide +kernel
theorem d_X_take_10 : decode prog_1_method_15_code 10 = .ok (.iconst (1), 1) := by decide +kernel
theorem d_X_take_11 : decode prog_1_method_15_code 11 = .ok (.goto (4), 3) := by decide +kernel
theorem d_X_take_14 : decode prog_1_method_15_code 14 = .ok (.iconst (0), 1) := by decide +kernel
theorem d_X_take_15 : decode prog_1_method_15_code 15 = .ok (.invokestatic 30, 3) := by decide +kernel
theorem d_X_take_18 : decode prog_1_method_15_code 18 = .ok (.aload_n 0, 1) := by decide +kernel
theorem d_X_take_19 : decode prog_1_method_15_code 19 = .ok (.iload_n 1, 1) := by decide +kernel
theorem d_X_take_20 : decode prog_1_method_15_code 20 = .ok (.invokevirtual 60, 3) := by decide +kernel
theorem d_X_take_23 : decode prog_1_method_15_code 23 = .ok (.lreturn, 1) := by decide +kernel
theorem d_X_takeRange_0 : decode prog_1_method_16_code 0 = .ok (.lload_n 1, 1) := by decide +kernel
theorem d_X_takeRange_1 : decode prog_1_method_16_code 1 = .ok (.lload_n 3, 1) := by decide +kernel
theorem d_X_takeRange_2 : decode prog_1_method_16_code 2 = .ok (.lcmp, 1) := by decide +kernel
theorem d_X_takeRange_3 : decode prog_1_method_16_code 3 = .ok (.ifCond .gt (7), 3) := by decide +kernel
theorem d_X_takeRange_6 : decode prog_1_method_16_code 6 = .ok (.iconst (1), 1) := by decide +kernel
theorem d_X_takeRange_7 : decode prog_1_method_16_code 7 = .ok (.goto (4), 3) := by decide +kernel
theorem d_X_takeRange_10 : decode prog_1_method_16_code 10 = .ok (.iconst (0), 1) := by decide +kernel
theorem d_X_takeRange_11 : decode prog_1_method_16_code 11 = .ok (.invokestatic 30, 3) := by decide +kernel
theorem d_X_takeRange_14 : decode prog_1_method_16_code 14 = .ok (.aload_n 0, 1) := by decide +kernel
theorem d_X_takeRange_15 : decode prog_1_method_16_code 15 = .ok (.getfield 54, 3) := by decide +kernel
theorem d_X_takeRange_18 : decode prog_1_method_16_code 18 = .ok (.istore 5, 2) := by decide +kernel
theorem d_X_takeRange_20 : decode prog_1_method_16_code 20 = .ok (.lload_n 3, 1) := by decide +kernel
theorem d_X_takeRange_21 : decode prog_1_method_16_code 21 = .ok (.lload_n 1, 1) := by decide +kernel
theorem d_X_takeRange_22 : decode prog_1_method_16_code 22 = .ok (.lsub, 1) := by decide +kernel
theorem d_X_takeRange_23 : decode prog_1_method_16_code 23 = .ok (.lstore 6, 2) := by decide +kernel
theorem d_X_takeRange_25 : decode prog_1_method_16_code 25 = .ok (.aload_n 0, 1) := by decide +kernel
theorem d_X_takeRange_26 : decode prog_1_method_16_code 26 = .ok (.lload 6, 2) := by decide +kernel
theorem d_X_takeRange_28 : decode prog_1_method_16_code 28 = .ok (.invokestatic 41, 3) := by decide +kernel
theorem d_X_takeRange_31 : decode prog_1_method_16_code 31 = .ok (.invokevirtual 60, 3) := by decide +kernel
theorem d_X_takeRange_34 : decode prog_1_method_16_code 34 = .ok (.lstore 8, 2) := by decide +kernel
theorem d_X_takeRange_36 : decode prog_1_method_16_code 36 = .ok (.lload 8, 2) := by decide +kernel
theorem d_X_takeRange_38 : decode prog_1_method_16_code 38 = .ok (.ldc2_w 66, 3) := by decide +kernel
theorem d_X_takeRange_41 : decode prog_1_method_16_code 41 = .ok (.ladd, 1) := by decide +kernel
theorem d_X_takeRange_42 : decode prog_1_method_16_code 42 = .ok (.lload 6, 2) := by decide +kernel
theorem d_X_takeRange_44 : decode prog_1_method_16_code 44 = .ok (.ldc2_w 66, 3) := by decide +kernel
theorem d_X_takeRange_47 : decode prog_1_method_16_code 47 = .ok (.ladd, 1) := by decide +kernel
theorem d_X_takeRange_48 : decode prog_1_method_16_code 48 = .ok (.lcmp, 1) := by decide +kernel
theorem d_X_takeRange_49 : decode prog_1_method_16_code 49 = .ok (.ifCond .le (17), 3) := by decide +kernel
theorem d_X_takeRange_52 : decode prog_1_method_16_code 52 = .ok (.aload_n 0, 1) := by decide +kernel
theorem d_X_takeRange_53 : decode prog_1_method_16_code 53 = .ok (.iload 5, 2) := by decide +kernel
theorem d_X_takeRange_55 : decode prog_1_method_16_code 55 = .ok (.putfield 54, 3) := by decide +kernel
theorem d_X_takeRange_58 : decode prog_1_method_16_code 58 = .ok (.new 16, 3) := by decide +kernel
theorem d_X_takeRange_61 : decode prog_1_method_16_code 61 = .ok (.dup, 1) := by decide +kernel
theorem d_X_takeRange_62 : decode prog_1_method_16_code 62 = .ok (.invokespecial 18, 3) := by decide +kernel
theorem d_X_takeRange_65 : decode prog_1_method_16_code 65 = .ok (.athrow, 1) := by decide +kernel
theorem d_X_takeRange_66 : decode prog_1_method_16_code 66 = .ok (.lload_n 1, 1) := by decide +kernel
theorem d_X_takeRange_67 : decode prog_1_method_16_code 67 = .ok (.lload 8, 2) := by decide +kernel
theorem d_X_takeRange_69 : decode prog_1_method_16_code 69 = .ok (.ladd, 1) := by decide +kernel
theorem d_X_takeRange_70 : decode prog_1_method_16_code 70 = .ok (.lreturn, 1) := by decide +kernel
theorem d_X_length_0 : decode prog_1_method_17_code 0 = .ok (.aload_n 0, 1) := by decide +kernel
theorem d_X_length_1 : decode prog_1_method_17_code 1 = .ok (.iconst (1), 1) := by decide +kernel
theorem d_X_length_2 : decode prog_1_method_17_code 2 = .ok (.invokevirtual 60, 3) := by decide +kernel
theorem d_X_length_5 : decode prog_1_method_17_code 5 = .ok (.lconst 0, 1) := by decide +kernel
theorem d_X_length_6 : decode prog_1_method_17_code 6 = .ok (.lcmp, 1) := by decide +kernel
theorem d_X_length_7 : decode prog_1_method_17_code 7 = .ok (.ifCond .ne (11), 3) := by decide +kernel
theorem d_X_length_10 : decode prog_1_method_17_code 10 = .ok (.aload_n 0, 1) := by decide +kernel
theorem d_X_length_11 : decode prog_1_method_17_code 11 = .ok (.bipush (7), 2) := by decide +kernel
theorem d_X_length_13 : decode prog_1_method_17_code 13 = .ok (.invokevirtual 60, 3) := by decide +kernel
theorem d_X_length_16 : decode prog_1_method_17_code 16 = .ok (.l2i, 1) := by decide +kernel
theorem d_X_length_17 : decode prog_1_method_17_code 17 = .ok (.ireturn, 1) := by decide +kernel
theorem d_X_length_18 : decode prog_1_method_17_code 18 = .ok (.aload_n 0, 1) := by decide +kernel
theorem d_X_length_19 : decode prog_1_method_17_code 19 = .ok (.iconst (1), 1) := by decide +kernel
theorem d_X_length_20 : decode prog_1_method_17_code 20 = .ok (.invokevirtual 60, 3) := by decide +kernel
theorem d_X_length_23 : decode prog_1_method_17_code 23 = .ok (.lconst 0, 1) := by decide +kernel
theorem d_X_length_24 : decode prog_1_method_17_code 24 = .ok (.lcmp, 1) := by decide +kernel
theorem d_X_length_25 : decode prog_1_method_17_code 25 = .ok (.ifCond .ne (27), 3) := by decide +kernel
theorem d_X_length_28 : decode prog_1_method_17_code 28 = .ok (.aload_n 0, 1) := by decide +kernel
theorem d_X_length_29 : decode prog_1_method_17_code 29 = .ok (.bipush (14), 2) := by decide +kernel
theorem d_X_length_31 : decode prog_1_method_17_code 31 = .ok (.invokevirtual 60, 3) := by decide +kernel
theorem d_X_length_34 : decode prog_1_method_17_code 34 = .ok (.l2i, 1) := by decide +kernel
theorem d_X_length_35 : decode prog_1_method_17_code 35 = .ok (.istore_n 1, 1) := by decide +kernel
theorem d_X_length_36 : decode prog_1_method_17_code 36 = .ok (.iload_n 1, 1) := by decide +kernel
theorem d_X_length_37 : decode prog_1_method_17_code 37 = .ok (.bipush (127), 2) := by decide +kernel
theorem d_X_length_39 : decode prog_1_method_17_code 39 = .ok (.if_icmp .le (7), 3) := by decide +kernel
theorem d_X_length_42 : decode prog_1_method_17_code 42 = .ok (.iconst (1), 1) := by decide +kernel
theorem d_X_length_43 : decode prog_1_method_17_code 43 = .ok (.goto (4), 3) := by decide +kernel
theorem d_X_length_46 : decode prog_1_method_17_code 46 = .ok (.iconst (0), 1) := by decide +kernel
theorem d_X_length_47 : decode prog_1_method_17_code 47 = .ok (.invokestatic 57, 3) := by decide +kernel
theorem d_X_length_50 : decode prog_1_method_17_code 50 = .ok (.iload_n 1, 1) := by decide +kernel
theorem d_X_length_51 : decode prog_1_method_17_code 51 = .ok (.ireturn, 1) := by decide +kernel
theorem d_X_length_52 : decode prog_1_method_17_code 52 = .ok (.aload_n 0, 1) := by decide +kernel
theorem d_X_length_53 : decode prog_1_method_17_code 53 = .ok (.bipush (6), 2) := by decide +kernel
theorem d_X_length_55 : decode prog_1_method_17_code 55 = .ok (.invokevirtual 60, 3) := by decide +kernel
theorem d_X_length_58 : decode prog_1_method_17_code 58 = .ok (.l2i, 1) := by decide +kernel
theorem d_X_length_59 : decode prog_1_method_17_code 59 = .ok (.istore_n 1, 1) := by decide +kernel
theorem d_X_length_60 : decode prog_1_method_17_code 60 = .ok (.iload_n 1, 1) := by decide +kernel
theorem d_X_length_61 : decode prog_1_method_17_code 61 = .ok (.ifCond .le (12), 3) := by decide +kernel
theorem d_X_length_64 : decode prog_1_method_17_code 64 = .ok (.iload_n 1, 1) := by decide +kernel
theorem d_X_length_65 : decode prog_1_method_17_code 65 = .ok (.iconst (5), 1) := by decide +kernel
theorem d_X_length_66 : decode prog_1_method_17_code 66 = .ok (.if_icmp .ge (7), 3) := by decide +kernel
theorem d_X_length_69 : decode prog_1_method_17_code 69 = .ok (.iconst (1), 1) := by decide +kernel
theorem d_X_length_70 : decode prog_1_method_17_code 70 = .ok (.goto (4), 3) := by decide +kernel
theorem d_X_length_73 : decode prog_1_method_17_code 73 = .ok (.iconst (0), 1) := by decide +kernel
theorem d_X_length_74 : decode prog_1_method_17_code 74 = .ok (.invokestatic 57, 3) := by decide +kernel
theorem d_X_length_77 : decode prog_1_method_17_code 77 = .ok (.iload_n 1, 1) := by decide +kernel
theorem d_X_length_78 : decode prog_1_method_17_code 78 = .ok (.sipush (16384), 3) := by decide +kernel
theorem d_X_length_81 : decode prog_1_method_17_code 81 = .ok (.imul, 1) := by decide +kernel
theorem d_X_length_82 : decode prog_1_method_17_code 82 = .ok (.ireturn, 1) := by decide +kernel
theorem d_X_takeLength_0 : decode prog_1_method_18_code 0 = .ok (.aload_n 0, 1) := by decide +kernel
theorem d_X_takeLength_1 : decode prog_1_method_18_code 1 = .ok (.getfield 54, 3) := by decide +kernel
theorem d_X_takeLength_4 : decode prog_1_method_18_code 4 = .ok (.istore_n 1, 1) := by decide +kernel
theorem d_X_takeLength_5 : decode prog_1_method_18_code 5 = .ok (.aload_n 0, 1) := by decide +kernel
theorem d_X_takeLength_6 : decode prog_1_method_18_code 6 = .ok (.invokevirtual 68, 3) := by decide +kernel
theorem d_X_takeLength_9 : decode prog_1_method_18_code 9 = .ok (.ireturn, 1) := by decide +kernel
theorem d_X_takeLength_10 : decode prog_1_method_18_code 10 = .ok (.astore_n 2, 1) := by decide +kernel
theorem d_X_takeLength_11 : decode prog_1_method_18_code 11 = .ok (.aload_n 0, 1) := by decide +kernel
theorem d_X_takeLength_12 : decode prog_1_method_18_code 12 = .ok (.iload_n 1, 1) := by decide +kernel
theorem d_X_takeLength_13 : decode prog_1_method_18_code 13 = .ok (.putfield 54, 3) := by decide +kernel
theorem d_X_takeLength_16 : decode prog_1_method_18_code 16 = .ok (.new 16, 3) := by decide +kernel
theorem d_X_takeLength_19 : decode prog_1_method_18_code 19 = .ok (.dup, 1) := by decide +kernel
theorem d_X_takeLength_20 : decode prog_1_method_18_code 20 = .ok (.invokespecial 18, 3) := by decide +kernel
theorem d_X_takeLength_23 : decode prog_1_method_18_code 23 = .ok (.athrow, 1) := by decide +kernel
theorem d_X_number_0 : decode prog_1_method_19_code 0 = .ok (.iload_n 1, 1) := by decide +kernel
theorem d_X_number_1 : decode prog_1_method_19_code 1 = .ok (.iconst (2), 1) := by decide +kernel
theorem d_X_number_2 : decode prog_1_method_19_code 2 = .ok (.if_icmp .ne (20), 3) := by decide +kernel
theorem d_X_number_5 : decode prog_1_method_19_code 5 = .ok (.aload_n 0, 1) := by decide +kernel
theorem d_X_number_6 : decode prog_1_method_19_code 6 = .ok (.iconst (1), 1) := by decide +kernel
theorem d_X_number_7 : decode prog_1_method_19_code 7 = .ok (.invokevirtual 60, 3) := by decide +kernel
theorem d_X_number_10 : decode prog_1_method_19_code 10 = .ok (.lconst 0, 1) := by decide +kernel
theorem d_X_number_11 : decode prog_1_method_19_code 11 = .ok (.lcmp, 1) := by decide +kernel
theorem d_X_number_12 : decode prog_1_method_19_code 12 = .ok (.ifCond .ne (10), 3) := by decide +kernel
theorem d_X_number_15 : decode prog_1_method_19_code 15 = .ok (.aload_n 0, 1) := by decide +kernel
theorem d_X_number_16 : decode prog_1_method_19_code 16 = .ok (.bipush (6), 2) := by decide +kernel
theorem d_X_number_18 : decode prog_1_method_19_code 18 = .ok (.invokevirtual 60, 3) := by decide +kernel
theorem d_X_number_21 : decode prog_1_method_19_code 21 = .ok (.lreturn, 1) := by decide +kernel
theorem d_X_number_22 : decode prog_1_method_19_code 22 = .ok (.aload_n 0, 1) := by decide +kernel
theorem d_X_number_23 : decode prog_1_method_19_code 23 = .ok (.invokevirtual 68, 3) := by decide +kernel
theorem d_X_number_26 : decode prog_1_method_19_code 26 = .ok (.istore_n 2, 1) := by decide +kernel
theorem d_X_number_27 : decode prog_1_method_19_code 27 = .ok (.iload_n 2, 1) := by decide +kernel
theorem d_X_number_28 : decode prog_1_method_19_code 28 = .ok (.ifCond .le (13), 3) := by decide +kernel
theorem d_X_number_31 : decode prog_1_method_19_code 31 = .ok (.iload_n 2, 1) := by decide +kernel
theorem d_X_number_32 : decode prog_1_method_19_code 32 = .ok (.bipush (9), 2) := by decide +kernel
theorem d_X_number_34 : decode prog_1_method_19_code 34 = .ok (.if_icmp .ge (7), 3) := by decide +kernel
theorem d_X_number_37 : decode prog_1_method_19_code 37 = .ok (.iconst (1), 1) := by decide +kernel
theorem d_X_number_38 : decode prog_1_method_19_code 38 = .ok (.goto (4), 3) := by decide +kernel
theorem d_X_number_41 : decode prog_1_method_19_code 41 = .ok (.iconst (0), 1) := by decide +kernel
theorem d_X_number_42 : decode prog_1_method_19_code 42 = .ok (.invokestatic 57, 3) := by decide +kernel
theorem d_X_number_45 : decode prog_1_method_19_code 45 = .ok (.aload_n 0, 1) := by decide +kernel
theorem d_X_number_46 : decode prog_1_method_19_code 46 = .ok (.bipush (8), 2) := by decide +kernel
theorem d_X_number_48 : decode prog_1_method_19_code 48 = .ok (.iload_n 2, 1) := by decide +kernel
theorem d_X_number_49 : decode prog_1_method_19_code 49 = .ok (.imul, 1) := by decide +kernel
theorem d_X_number_50 : decode prog_1_method_19_code 50 = .ok (.invokevirtual 60, 3) := by decide +kernel
theorem d_X_number_53 : decode prog_1_method_19_code 53 = .ok (.lstore_n 3, 1) := by decide +kernel
theorem d_X_number_54 : decode prog_1_method_19_code 54 = .ok (.iload_n 1, 1) := by decide +kernel
theorem d_X_number_55 : decode prog_1_method_19_code 55 = .ok (.iconst (1), 1) := by decide +kernel
theorem d_X_number_56 : decode prog_1_method_19_code 56 = .ok (.if_icmp .ne (21), 3) := by decide +kernel
theorem d_X_number_59 : decode prog_1_method_19_code 59 = .ok (.lload_n 3, 1) := by decide +kernel
theorem d_X_number_60 : decode prog_1_method_19_code 60 = .ok (.bipush (64), 2) := by decide +kernel
theorem d_X_number_62 : decode prog_1_method_19_code 62 = .ok (.bipush (8), 2) := by decide +kernel
theorem d_X_number_64 : decode prog_1_method_19_code 64 = .ok (.iload_n 2, 1) := by decide +kernel
theorem d_X_number_65 : decode prog_1_method_19_code 65 = .ok (.imul, 1) := by decide +kernel
theorem d_X_number_66 : decode prog_1_method_19_code 66 = .ok (.isub, 1) := by decide +kernel
theorem d_X_number_67 : decode prog_1_method_19_code 67 = .ok (.lshl, 1) := by decide +kernel
theorem d_X_number_68 : decode prog_1_method_19_code 68 = .ok (.bipush (64), 2) := by decide +kernel
theorem d_X_number_70 : decode prog_1_method_19_code 70 = .ok (.bipush (8), 2) := by decide +kernel
theorem d_X_number_72 : decode prog_1_method_19_code 72 = .ok (.iload_n 2, 1) := by decide +kernel
theorem d_X_number_73 : decode prog_1_method_19_code 73 = .ok (.imul, 1) := by decide +kernel
theorem d_X_number_74 : decode prog_1_method_19_code 74 = .ok (.isub, 1) := by decide +kernel
theorem d_X_number_75 : decode prog_1_method_19_code 75 = .ok (.lshr, 1) := by decide +kernel
theorem d_X_number_76 : decode prog_1_method_19_code 76 = .ok (.lstore_n 3, 1) := by decide +kernel
theorem d_X_number_77 : decode prog_1_method_19_code 77 = .ok (.iload_n 1, 1) := by decide +kernel
theorem d_X_number_78 : decode prog_1_method_19_code 78 = .ok (.iconst (1), 1) := by decide +kernel
theorem d_X_number_79 : decode prog_1_method_19_code 79 = .ok (.if_icmp .ne (7), 3) := by decide +kernel
theorem d_X_number_82 : decode prog_1_method_19_code 82 = .ok (.iconst (1), 1) := by decide +kernel
theorem d_X_number_83 : decode prog_1_method_19_code 83 = .ok (.goto (4), 3) := by decide +kernel
theorem d_X_number_86 : decode prog_1_method_19_code 86 = .ok (.iconst (0), 1) := by decide +kernel
theorem d_X_number_87 : decode prog_1_method_19_code 87 = .ok (.lload_n 3, 1) := by decide +kernel
theorem d_X_number_88 : decode prog_1_method_19_code 88 = .ok (.invokestatic 50, 3) := by decide +kernel
theorem d_X_number_91 : decode prog_1_method_19_code 91 = .ok (.iload_n 2, 1) := by decide +kernel
theorem d_X_number_92 : decode prog_1_method_19_code 92 = .ok (.if_icmp .ne (26), 3) := by decide +kernel
theorem d_X_number_95 : decode prog_1_method_19_code 95 = .ok (.iload_n 1, 1) := by decide +kernel
theorem d_X_number_96 : decode prog_1_method_19_code 96 = .ok (.iconst (2), 1) := by decide +kernel
theorem d_X_number_97 : decode prog_1_method_19_code 97 = .ok (.if_icmp .lt (17), 3) := by decide +kernel
theorem d_X_number_100 : decode prog_1_method_19_code 100 = .ok (.lload_n 3, 1) := by decide +kernel
theorem d_X_number_101 : decode prog_1_method_19_code 101 = .ok (.lconst 0, 1) := by decide +kernel
theorem d_X_number_102 : decode prog_1_method_19_code 102 = .ok (.lcmp, 1) := by decide +kernel
theorem d_X_number_103 : decode prog_1_method_19_code 103 = .ok (.ifCond .lt (11), 3) := by decide +kernel
theorem d_X_number_106 : decode prog_1_method_19_code 106 = .ok (.lload_n 3, 1) := by decide +kernel
theorem d_X_number_107 : decode prog_1_method_19_code 107 = .ok (.ldc2_w 72, 3) := by decide +kernel
theorem d_X_number_110 : decode prog_1_method_19_code 110 = .ok (.lcmp, 1) := by decide +kernel
theorem d_X_number_111 : decode prog_1_method_19_code 111 = .ok (.ifCond .le (7), 3) := by decide +kernel
theorem d_X_number_114 : decode prog_1_method_19_code 114 = .ok (.iconst (1), 1) := by decide +kernel
theorem d_X_number_115 : decode prog_1_method_19_code 115 = .ok (.goto (4), 3) := by decide +kernel
theorem d_X_number_118 : decode prog_1_method_19_code 118 = .ok (.iconst (0), 1) := by decide +kernel
theorem d_X_number_119 : decode prog_1_method_19_code 119 = .ok (.invokestatic 57, 3) := by decide +kernel
theorem d_X_number_122 : decode prog_1_method_19_code 122 = .ok (.lload_n 3, 1) := by decide +kernel
theorem d_X_number_123 : decode prog_1_method_19_code 123 = .ok (.lreturn, 1) := by decide +kernel
theorem d_X_takeNumber_0 : decode prog_1_method_20_code 0 = .ok (.iload_n 1, 1) := by decide +kernel
theorem d_X_takeNumber_1 : decode prog_1_method_20_code 1 = .ok (.ifCond .lt (12), 3) := by decide +kernel
theorem d_X_takeNumber_4 : decode prog_1_method_20_code 4 = .ok (.iload_n 1, 1) := by decide +kernel
theorem d_X_takeNumber_5 : decode prog_1_method_20_code 5 = .ok (.iconst (2), 1) := by decide +kernel
theorem d_X_takeNumber_6 : decode prog_1_method_20_code 6 = .ok (.if_icmp .gt (7), 3) := by decide +kernel
theorem d_X_takeNumber_9 : decode prog_1_method_20_code 9 = .ok (.iconst (1), 1) := by decide +kernel
theorem d_X_takeNumber_10 : decode prog_1_method_20_code 10 = .ok (.goto (4), 3) := by decide +kernel
theorem d_X_takeNumber_13 : decode prog_1_method_20_code 13 = .ok (.iconst (0), 1) := by decide +kernel
theorem d_X_takeNumber_14 : decode prog_1_method_20_code 14 = .ok (.invokestatic 30, 3) := by decide +kernel
theorem d_X_takeNumber_17 : decode prog_1_method_20_code 17 = .ok (.aload_n 0, 1) := by decide +kernel
theorem d_X_takeNumber_18 : decode prog_1_method_20_code 18 = .ok (.getfield 54, 3) := by decide +kernel
theorem d_X_takeNumber_21 : decode prog_1_method_20_code 21 = .ok (.istore_n 2, 1) := by decide +kernel
theorem d_X_takeNumber_22 : decode prog_1_method_20_code 22 = .ok (.aload_n 0, 1) := by decide +kernel
theorem d_X_takeNumber_23 : decode prog_1_method_20_code 23 = .ok (.iload_n 1, 1) := by decide +kernel
theorem d_X_takeNumber_24 : decode prog_1_method_20_code 24 = .ok (.invokevirtual 74, 3) := by decide +kernel
theorem d_X_takeNumber_27 : decode prog_1_method_20_code 27 = .ok (.lreturn, 1) := by decide +kernel
theorem d_X_takeNumber_28 : decode prog_1_method_20_code 28 = .ok (.astore_n 3, 1) := by decide +kernel
theorem d_X_takeNumber_29 : decode prog_1_method_20_code 29 = .ok (.aload_n 0, 1) := by decide +kernel
theorem d_X_takeNumber_30 : decode prog_1_method_20_code 30 = .ok (.iload_n 2, 1) := by decide +kernel
theorem d_X_takeNumber_31 : decode prog_1_method_20_code 31 = .ok (.putfield 54, 3) := by decide +kernel
theorem d_X_takeNumber_34 : decode prog_1_method_20_code 34 = .ok (.new 16, 3) := by decide +kernel
theorem d_X_takeNumber_37 : decode prog_1_method_20_code 37 = .ok (.dup, 1) := by decide +kernel
theorem d_X_takeNumber_38 : decode prog_1_method_20_code 38 = .ok (.invokespecial 18, 3) := by decide +kernel
theorem d_X_takeNumber_41 : decode prog_1_method_20_code 41 = .ok (.athrow, 1) := by decide +kernel
theorem d_X_go_0 : decode prog_1_method_21_code 0 = .ok (.iload_n 1, 1) := by decide +kernel
theorem d_X_go_1 : decode prog_1_method_21_code 1 = .ok (.ifCond .lt (15), 3) := by decide +kernel
theorem d_X_go_4 : decode prog_1_method_21_code 4 = .ok (.iload_n 1, 1) := by decide +kernel
theorem d_X_go_5 : decode prog_1_method_21_code 5 = .ok (.aload_n 0, 1) := by decide +kernel
theorem d_X_go_6 : decode prog_1_method_21_code 6 = .ok (.getfield 22, 3) := by decide +kernel
theorem d_X_go_9 : decode prog_1_method_21_code 9 = .ok (.if_icmp .gt (7), 3) := by decide +kernel
theorem d_X_go_12 : decode prog_1_method_21_code 12 = .ok (.iconst (1), 1) := by decide +kernel
theorem d_X_go_13 : decode prog_1_method_21_code 13 = .ok (.goto (4), 3) := by decide +kernel
theorem d_X_go_16 : decode prog_1_method_21_code 16 = .ok (.iconst (0), 1) := by decide +kernel
theorem d_X_go_17 : decode prog_1_method_21_code 17 = .ok (.invokestatic 30, 3) := by decide +kernel
theorem d_X_go_20 : decode prog_1_method_21_code 20 = .ok (.aload_n 0, 1) := by decide +kernel
theorem d_X_go_21 : decode prog_1_method_21_code 21 = .ok (.getfield 54, 3) := by decide +kernel
theorem d_X_go_24 : decode prog_1_method_21_code 24 = .ok (.istore_n 2, 1) := by decide +kernel
theorem d_X_go_25 : decode prog_1_method_21_code 25 = .ok (.aload_n 0, 1) := by decide +kernel
theorem d_X_go_26 : decode prog_1_method_21_code 26 = .ok (.iload_n 1, 1) := by decide +kernel
theorem d_X_go_27 : decode prog_1_method_21_code 27 = .ok (.putfield 54, 3) := by decide +kernel
theorem d_X_go_30 : decode prog_1_method_21_code 30 = .ok (.iload_n 2, 1) := by decide +kernel
theorem d_X_go_31 : decode prog_1_method_21_code 31 = .ok (.ireturn, 1) := by decide +kernel
theorem d_X_turn_0 : decode prog_1_method_22_code 0 = .ok (.iload_n 1, 1) := by decide +kernel
theorem d_X_turn_1 : decode prog_1_method_22_code 1 = .ok (.ifCond .lt (15), 3) := by decide +kernel
theorem d_X_turn_4 : decode prog_1_method_22_code 4 = .ok (.iload_n 1, 1) := by decide +kernel
theorem d_X_turn_5 : decode prog_1_method_22_code 5 = .ok (.aload_n 0, 1) := by decide +kernel
theorem d_X_turn_6 : decode prog_1_method_22_code 6 = .ok (.getfield 22, 3) := by decide +kernel
theorem d_X_turn_9 : decode prog_1_method_22_code 9 = .ok (.if_icmp .ge (7), 3) := by decide +kernel
theorem d_X_turn_12 : decode prog_1_method_22_code 12 = .ok (.iconst (1), 1) := by decide +kernel
theorem d_X_turn_13 : decode prog_1_method_22_code 13 = .ok (.goto (4), 3) := by decide +kernel
theorem d_X_turn_16 : decode prog_1_method_22_code 16 = .ok (.iconst (0), 1) := by decide +kernel
theorem d_X_turn_17 : decode prog_1_method_22_code 17 = .ok (.invokestatic 30, 3) := by decide +kernel
theorem d_X_turn_20 : decode prog_1_method_22_code 20 = .ok (.aload_n 0, 1) := by decide +kernel
theorem d_X_turn_21 : decode prog_1_method_22_code 21 = .ok (.getfield 9, 3) := by decide +kernel
theorem d_X_turn_24 : decode prog_1_method_22_code 24 = .ok (.iload_n 1, 1) := by decide +kernel
theorem d_X_turn_25 : decode prog_1_method_22_code 25 = .ok (.iconst (3), 1) := by decide +kernel
theorem d_X_turn_26 : decode prog_1_method_22_code 26 = .ok (.ishr, 1) := by decide +kernel
theorem d_X_turn_27 : decode prog_1_method_22_code 27 = .ok (.dup2, 1) := by decide +kernel
theorem d_X_turn_28 : decode prog_1_method_22_code 28 = .ok (.baload, 1) := by decide +kernel
theorem d_X_turn_29 : decode prog_1_method_22_code 29 = .ok (.sipush (128), 3) := by decide +kernel
theorem d_X_turn_32 : decode prog_1_method_22_code 32 = .ok (.iload_n 1, 1) := by decide +kernel
theorem d_X_turn_33 : decode prog_1_method_22_code 33 = .ok (.bipush (7), 2) := by decide +kernel
theorem d_X_turn_35 : decode prog_1_method_22_code 35 = .ok (.iand, 1) := by decide +kernel
theorem d_X_turn_36 : decode prog_1_method_22_code 36 = .ok (.ishr, 1) := by decide +kernel
theorem d_X_turn_37 : decode prog_1_method_22_code 37 = .ok (.ixor, 1) := by decide +kernel
theorem d_X_turn_38 : decode prog_1_method_22_code 38 = .ok (.i2b, 1) := by decide +kernel
theorem d_X_turn_39 : decode prog_1_method_22_code 39 = .ok (.bastore, 1) := by decide +kernel
theorem d_X_turn_40 : decode prog_1_method_22_code 40 = .ok (.aload_n 0, 1) := by decide +kernel
theorem d_X_turn_41 : decode prog_1_method_22_code 41 = .ok (.getfield 9, 3) := by decide +kernel
theorem d_X_turn_44 : decode prog_1_method_22_code 44 = .ok (.iload_n 1, 1) := by decide +kernel
theorem d_X_turn_45 : decode prog_1_method_22_code 45 = .ok (.iconst (3), 1) := by decide +kernel
theorem d_X_turn_46 : decode prog_1_method_22_code 46 = .ok (.ishr, 1) := by decide +kernel
theorem d_X_turn_47 : decode prog_1_method_22_code 47 = .ok (.baload, 1) := by decide +kernel
theorem d_X_turn_48 : decode prog_1_method_22_code 48 = .ok (.bipush (7), 2) := by decide +kernel
theorem d_X_turn_50 : decode prog_1_method_22_code 50 = .ok (.iload_n 1, 1) := by decide +kernel
theorem d_X_turn_51 : decode prog_1_method_22_code 51 = .ok (.bipush (7), 2) := by decide +kernel
theorem d_X_turn_53 : decode prog_1_method_22_code 53 = .ok (.iand, 1) := by decide +kernel
theorem d_X_turn_54 : decode prog_1_method_22_code 54 = .ok (.isub, 1) := by decide +kernel
theorem d_X_turn_55 : decode prog_1_method_22_code 55 = .ok (.ishr, 1) := by decide +kernel
theorem d_X_turn_56 : decode prog_1_method_22_code 56 = .ok (.iconst (1), 1) := by decide +kernel
theorem d_X_turn_57 : decode prog_1_method_22_code 57 = .ok (.iand, 1) := by decide +kernel
theorem d_X_turn_58 : decode prog_1_method_22_code 58 = .ok (.iconst (1), 1) := by decide +kernel
theorem d_X_turn_59 : decode prog_1_method_22_code 59 = .ok (.if_icmp .ne (7), 3) := by decide +kernel
theorem d_X_turn_62 : decode prog_1_method_22_code 62 = .ok (.iconst (1), 1) := by decide +kernel
theorem d_X_turn_63 : decode prog_1_method_22_code 63 = .ok (.goto (4), 3) := by decide +kernel
theorem d_X_turn_66 : decode prog_1_method_22_code 66 = .ok (.iconst (0), 1) := by decide +kernel
theorem d_X_turn_67 : decode prog_1_method_22_code 67 = .ok (.ireturn, 1) := by decide +kernel
theorem d_X_cut_0 : decode prog_1_method_23_code 0 = .ok (.iload_n 1, 1) := by decide +kernel
theorem d_X_cut_1 : decode prog_1_method_23_code 1 = .ok (.ifCond .lt (15), 3) := by decide +kernel
theorem d_X_cut_4 : decode prog_1_method_23_code 4 = .ok (.iload_n 1, 1) := by decide +kernel
theorem d_X_cut_5 : decode prog_1_method_23_code 5 = .ok (.aload_n 0, 1) := by decide +kernel
theorem d_X_cut_6 : decode prog_1_method_23_code 6 = .ok (.getfield 22, 3) := by decide +kernel
theorem d_X_cut_9 : decode prog_1_method_23_code 9 = .ok (.if_icmp .gt (7), 3) := by decide +kernel
theorem d_X_cut_12 : decode prog_1_method_23_code 12 = .ok (.iconst (1), 1) := by decide +kernel
theorem d_X_cut_13 : decode prog_1_method_23_code 13 = .ok (.goto (4), 3) := by decide +kernel
theorem d_X_cut_16 : decode prog_1_method_23_code 16 = .ok (.iconst (0), 1) := by decide +kernel
theorem d_X_cut_17 : decode prog_1_method_23_code 17 = .ok (.invokestatic 30, 3) := by decide +kernel
theorem d_X_cut_20 : decode prog_1_method_23_code 20 = .ok (.aload_n 0, 1) := by decide +kernel
theorem d_X_cut_21 : decode prog_1_method_23_code 21 = .ok (.getfield 22, 3) := by decide +kernel
theorem d_X_cut_24 : decode prog_1_method_23_code 24 = .ok (.istore_n 2, 1) := by decide +kernel
theorem d_X_cut_25 : decode prog_1_method_23_code 25 = .ok (.aload_n 0, 1) := by decide +kernel
theorem d_X_cut_26 : decode prog_1_method_23_code 26 = .ok (.iload_n 1, 1) := by decide +kernel
theorem d_X_cut_27 : decode prog_1_method_23_code 27 = .ok (.putfield 22, 3) := by decide +kernel
theorem d_X_cut_30 : decode prog_1_method_23_code 30 = .ok (.aload_n 0, 1) := by decide +kernel
theorem d_X_cut_31 : decode prog_1_method_23_code 31 = .ok (.getfield 54, 3) := by decide +kernel
theorem d_X_cut_34 : decode prog_1_method_23_code 34 = .ok (.iload_n 1, 1) := by decide +kernel
theorem d_X_cut_35 : decode prog_1_method_23_code 35 = .ok (.if_icmp .le (8), 3) := by decide +kernel
theorem d_X_cut_38 : decode prog_1_method_23_code 38 = .ok (.aload_n 0, 1) := by decide +kernel
theorem d_X_cut_39 : decode prog_1_method_23_code 39 = .ok (.iload_n 1, 1) := by decide +kernel
theorem d_X_cut_40 : decode prog_1_method_23_code 40 = .ok (.putfield 54, 3) := by decide +kernel
theorem d_X_cut_43 : decode prog_1_method_23_code 43 = .ok (.iload_n 2, 1) := by decide +kernel
theorem d_X_cut_44 : decode prog_1_method_23_code 44 = .ok (.ireturn, 1) := by decide +kernel
theorem d_X_count_0 : decode prog_1_method_24_code 0 = .ok (.iload_n 1, 1) := by decide +kernel
theorem d_X_count_1 : decode prog_1_method_24_code 1 = .ok (.ifCond .eq (8), 3) := by decide +kernel
theorem d_X_count_4 : decode prog_1_method_24_code 4 = .ok (.iload_n 1, 1) := by decide +kernel
theorem d_X_count_5 : decode prog_1_method_24_code 5 = .ok (.iconst (1), 1) := by decide +kernel
theorem d_X_count_6 : decode prog_1_method_24_code 6 = .ok (.if_icmp .ne (7), 3) := by decide +kernel
theorem d_X_count_9 : decode prog_1_method_24_code 9 = .ok (.iconst (1), 1) := by decide +kernel
theorem d_X_count_10 : decode prog_1_method_24_code 10 = .ok (.goto (4), 3) := by decide +kernel
theorem d_X_count_13 : decode prog_1_method_24_code 13 = .ok (.iconst (0), 1) := by decide +kernel
theorem d_X_count_14 : decode prog_1_method_24_code 14 = .ok (.invokestatic 30, 3) := by decide +kernel
theorem d_X_count_17 : decode prog_1_method_24_code 17 = .ok (.iload_n 1, 1) := by decide +kernel
theorem d_X_count_18 : decode prog_1_method_24_code 18 = .ok (.ifCond .ne (10), 3) := by decide +kernel
theorem d_X_count_21 : decode prog_1_method_24_code 21 = .ok (.aload_n 0, 1) := by decide +kernel
theorem d_X_count_22 : decode prog_1_method_24_code 22 = .ok (.getfield 22, 3) := by decide +kernel
theorem d_X_count_25 : decode prog_1_method_24_code 25 = .ok (.goto (7), 3) := by decide +kernel
theorem d_X_count_28 : decode prog_1_method_24_code 28 = .ok (.aload_n 0, 1) := by decide +kernel
theorem d_X_count_29 : decode prog_1_method_24_code 29 = .ok (.getfield 54, 3) := by decide +kernel
theorem d_X_count_32 : decode prog_1_method_24_code 32 = .ok (.ireturn, 1) := by decide +kernel
theorem d_M_init_0 : decode prog_3_method_1_code 0 = .ok (.aload_n 0, 1) := by decide +kernel
theorem d_M_init_1 : decode prog_3_method_1_code 1 = .ok (.invokespecial 1, 3) := by decide +kernel
theorem d_M_init_4 : decode prog_3_method_1_code 4 = .ok (.aload_n 0, 1) := by decide +kernel
theorem d_M_init_5 : decode prog_3_method_1_code 5 = .ok (.ldc 7, 2) := by decide +kernel
theorem d_M_init_7 : decode prog_3_method_1_code 7 = .ok (.newarray .boolean, 2) := by decide +kernel
theorem d_M_init_9 : decode prog_3_method_1_code 9 = .ok (.putfield 8, 3) := by decide +kernel
theorem d_M_init_12 : decode prog_3_method_1_code 12 = .ok (.return_, 1) := by decide +kernel
theorem d_M_thrown_0 : decode prog_3_method_2_code 0 = .ok (.aload_n 0, 1) := by decide +kernel
theorem d_M_thrown_1 : decode prog_3_method_2_code 1 = .ok (.getfield 14, 3) := by decide +kernel
theorem d_M_thrown_4 : decode prog_3_method_2_code 4 = .ok (.ireturn, 1) := by decide +kernel
theorem d_M_fail_0 : decode prog_3_method_3_code 0 = .ok (.aload_n 0, 1) := by decide +kernel
theorem d_M_fail_1 : decode prog_3_method_3_code 1 = .ok (.iload_n 1, 1) := by decide +kernel
theorem d_M_fail_2 : decode prog_3_method_3_code 2 = .ok (.putfield 14, 3) := by decide +kernel
theorem d_M_fail_5 : decode prog_3_method_3_code 5 = .ok (.iconst (0), 1) := by decide +kernel
theorem d_M_fail_6 : decode prog_3_method_3_code 6 = .ok (.ireturn, 1) := by decide +kernel
theorem d_M_width_0 : decode prog_3_method_4_code 0 = .ok (.iconst (0), 1) := by decide +kernel
theorem d_M_width_1 : decode prog_3_method_4_code 1 = .ok (.istore_n 3, 1) := by decide +kernel
theorem d_M_width_2 : decode prog_3_method_4_code 2 = .ok (.iload_n 3, 1) := by decide +kernel
theorem d_M_width_3 : decode prog_3_method_4_code 3 = .ok (.bipush (64), 2) := by decide +kernel
theorem d_M_width_5 : decode prog_3_method_4_code 5 = .ok (.if_icmp .ge (17), 3) := by decide +kernel
theorem d_M_width_8 : decode prog_3_method_4_code 8 = .ok (.lload_n 1, 1) := by decide +kernel
theorem d_M_width_9 : decode prog_3_method_4_code 9 = .ok (.iload_n 3, 1) := by decide +kernel
theorem d_M_width_10 : decode prog_3_method_4_code 10 = .ok (.lushr, 1) := by decide +kernel
theorem d_M_width_11 : decode prog_3_method_4_code 11 = .ok (.lconst 0, 1) := by decide +kernel
theorem d_M_width_12 : decode prog_3_method_4_code 12 = .ok (.lcmp, 1) := by decide +kernel
theorem d_M_width_13 : decode prog_3_method_4_code 13 = .ok (.ifCond .eq (9), 3) := by decide +kernel
theorem d_M_width_16 : decode prog_3_method_4_code 16 = .ok (.iinc 3 (1), 3) := by decide +kernel
theorem d_M_width_19 : decode prog_3_method_4_code 19 = .ok (.goto (-17), 3) := by decide +kernel
theorem d_M_width_22 : decode prog_3_method_4_code 22 = .ok (.iload_n 3, 1) := by decide +kernel
theorem d_M_width_23 : decode prog_3_method_4_code 23 = .ok (.ireturn, 1) := by decide +kernel
theorem d_M_bytesOf_0 : decode prog_3_method_5_code 0 = .ok (.aload_n 0, 1) := by decide +kernel
theorem d_M_bytesOf_1 : decode prog_3_method_5_code 1 = .ok (.lload_n 1, 1) := by decide +kernel
theorem d_M_bytesOf_2 : decode prog_3_method_5_code 2 = .ok (.invokevirtual 18, 3) := by decide +kernel
theorem d_M_bytesOf_5 : decode prog_3_method_5_code 5 = .ok (.ifCond .ne (7), 3) := by decide +kernel
theorem d_M_bytesOf_8 : decode prog_3_method_5_code 8 = .ok (.iconst (1), 1) := by decide +kernel
theorem d_M_bytesOf_9 : decode prog_3_method_5_code 9 = .ok (.goto (14), 3) := by decide +kernel
theorem d_M_bytesOf_12 : decode prog_3_method_5_code 12 = .ok (.aload_n 0, 1) := by decide +kernel
theorem d_M_bytesOf_13 : decode prog_3_method_5_code 13 = .ok (.lload_n 1, 1) := by decide +kernel
theorem d_M_bytesOf_14 : decode prog_3_method_5_code 14 = .ok (.invokevirtual 18, 3) := by decide +kernel
theorem d_M_bytesOf_17 : decode prog_3_method_5_code 17 = .ok (.bipush (7), 2) := by decide +kernel
theorem d_M_bytesOf_19 : decode prog_3_method_5_code 19 = .ok (.iadd, 1) := by decide +kernel
theorem d_M_bytesOf_20 : decode prog_3_method_5_code 20 = .ok (.bipush (8), 2) := by decide +kernel
theorem d_M_bytesOf_22 : decode prog_3_method_5_code 22 = .ok (.idiv, 1) := by decide +kernel
theorem d_M_bytesOf_23 : decode prog_3_method_5_code 23 = .ok (.ireturn, 1) := by decide +kernel
theorem d_M_complement_0 : decode prog_3_method_6_code 0 = .ok (.iconst (1), 1) := by decide +kernel
theorem d_M_complement_1 : decode prog_3_method_6_code 1 = .ok (.istore_n 3, 1) := by decide +kernel
theorem d_M_complement_2 : decode prog_3_method_6_code 2 = .ok (.iload_n 3, 1) := by decide +kernel
theorem d_M_complement_3 : decode prog_3_method_6_code 3 = .ok (.bipush (8), 2) := by decide +kernel
theorem d_M_complement_5 : decode prog_3_method_6_code 5 = .ok (.if_icmp .ge (37), 3) := by decide +kernel
theorem d_M_complement_8 : decode prog_3_method_6_code 8 = .ok (.lload_n 1, 1) := by decide +kernel
theorem d_M_complement_9 : decode prog_3_method_6_code 9 = .ok (.bipush (8), 2) := by decide +kernel
theorem d_M_complement_11 : decode prog_3_method_6_code 11 = .ok (.iload_n 3, 1) := by decide +kernel
theorem d_M_complement_12 : decode prog_3_method_6_code 12 = .ok (.imul, 1) := by decide +kernel
theorem d_M_complement_13 : decode prog_3_method_6_code 13 = .ok (.iconst (1), 1) := by decide +kernel
theorem d_M_complement_14 : decode prog_3_method_6_code 14 = .ok (.isub, 1) := by decide +kernel
theorem d_M_complement_15 : decode prog_3_method_6_code 15 = .ok (.lshr, 1) := by decide +kernel
theorem d_M_complement_16 : decode prog_3_method_6_code 16 = .ok (.lconst 0, 1) := by decide +kernel
theorem d_M_complement_17 : decode prog_3_method_6_code 17 = .ok (.lcmp, 1) := by decide +kernel
theorem d_M_complement_18 : decode prog_3_method_6_code 18 = .ok (.ifCond .eq (24), 3) := by decide +kernel
theorem d_M_complement_21 : decode prog_3_method_6_code 21 = .ok (.lload_n 1, 1) := by decide +kernel
theorem d_M_complement_22 : decode prog_3_method_6_code 22 = .ok (.bipush (8), 2) := by decide +kernel
theorem d_M_complement_24 : decode prog_3_method_6_code 24 = .ok (.iload_n 3, 1) := by decide +kernel
theorem d_M_complement_25 : decode prog_3_method_6_code 25 = .ok (.imul, 1) := by decide +kernel
theorem d_M_complement_26 : decode prog_3_method_6_code 26 = .ok (.iconst (1), 1) := by decide +kernel
theorem d_M_complement_27 : decode prog_3_method_6_code 27 = .ok (.isub, 1) := by decide +kernel
theorem d_M_complement_28 : decode prog_3_method_6_code 28 = .ok (.lshr, 1) := by decide +kernel
theorem d_M_complement_29 : decode prog_3_method_6_code 29 = .ok (.ldc2_w 22, 3) := by decide +kernel
theorem d_M_complement_32 : decode prog_3_method_6_code 32 = .ok (.lcmp, 1) := by decide +kernel
theorem d_M_complement_33 : decode prog_3_method_6_code 33 = .ok (.ifCond .eq (9), 3) := by decide +kernel
theorem d_M_complement_36 : decode prog_3_method_6_code 36 = .ok (.iinc 3 (1), 3) := by decide +kernel
theorem d_M_complement_39 : decode prog_3_method_6_code 39 = .ok (.goto (-37), 3) := by decide +kernel
theorem d_M_complement_42 : decode prog_3_method_6_code 42 = .ok (.iload_n 3, 1) := by decide +kernel
theorem d_M_complement_43 : decode prog_3_method_6_code 43 = .ok (.ireturn, 1) := by decide +kernel
theorem d_M_append_0 : decode prog_3_method_7_code 0 = .ok (.iload_n 3, 1) := by decide +kernel
theorem d_M_append_1 : decode prog_3_method_7_code 1 = .ok (.iconst (1), 1) := by decide +kernel
theorem d_M_append_2 : decode prog_3_method_7_code 2 = .ok (.isub, 1) := by decide +kernel
theorem d_M_append_3 : decode prog_3_method_7_code 3 = .ok (.istore 4, 2) := by decide +kernel
theorem d_M_append_5 : decode prog_3_method_7_code 5 = .ok (.iload 4, 2) := by decide +kernel
theorem d_M_append_7 : decode prog_3_method_7_code 7 = .ok (.ifCond .lt (44), 3) := by decide +kernel
theorem d_M_append_10 : decode prog_3_method_7_code 10 = .ok (.aload_n 0, 1) := by decide +kernel
theorem d_M_append_11 : decode prog_3_method_7_code 11 = .ok (.getfield 8, 3) := by decide +kernel
theorem d_M_append_14 : decode prog_3_method_7_code 14 = .ok (.aload_n 0, 1) := by decide +kernel
theorem d_M_append_15 : decode prog_3_method_7_code 15 = .ok (.getfield 24, 3) := by decide +kernel
theorem d_M_append_18 : decode prog_3_method_7_code 18 = .ok (.lload_n 1, 1) := by decide +kernel
theorem d_M_append_19 : decode prog_3_method_7_code 19 = .ok (.iload 4, 2) := by decide +kernel
theorem d_M_append_21 : decode prog_3_method_7_code 21 = .ok (.lushr, 1) := by decide +kernel
theorem d_M_append_22 : decode prog_3_method_7_code 22 = .ok (.lconst 1, 1) := by decide +kernel
theorem d_M_append_23 : decode prog_3_method_7_code 23 = .ok (.land, 1) := by decide +kernel
theorem d_M_append_24 : decode prog_3_method_7_code 24 = .ok (.lconst 1, 1) := by decide +kernel
theorem d_M_append_25 : decode prog_3_method_7_code 25 = .ok (.lcmp, 1) := by decide +kernel
theorem d_M_append_26 : decode prog_3_method_7_code 26 = .ok (.ifCond .ne (7), 3) := by decide +kernel
theorem d_M_append_29 : decode prog_3_method_7_code 29 = .ok (.iconst (1), 1) := by decide +kernel
theorem d_M_append_30 : decode prog_3_method_7_code 30 = .ok (.goto (4), 3) := by decide +kernel
theorem d_M_append_33 : decode prog_3_method_7_code 33 = .ok (.iconst (0), 1) := by decide +kernel
theorem d_M_append_34 : decode prog_3_method_7_code 34 = .ok (.bastore, 1) := by decide +kernel
theorem d_M_append_35 : decode prog_3_method_7_code 35 = .ok (.aload_n 0, 1) := by decide +kernel
theorem d_M_append_36 : decode prog_3_method_7_code 36 = .ok (.dup, 1) := by decide +kernel
theorem d_M_append_37 : decode prog_3_method_7_code 37 = .ok (.getfield 24, 3) := by decide +kernel
theorem d_M_append_40 : decode prog_3_method_7_code 40 = .ok (.iconst (1), 1) := by decide +kernel
theorem d_M_append_41 : decode prog_3_method_7_code 41 = .ok (.iadd, 1) := by decide +kernel
theorem d_M_append_42 : decode prog_3_method_7_code 42 = .ok (.putfield 24, 3) := by decide +kernel
theorem d_M_append_45 : decode prog_3_method_7_code 45 = .ok (.iinc 4 (-1), 3) := by decide +kernel
theorem d_M_append_48 : decode prog_3_method_7_code 48 = .ok (.goto (-43), 3) := by decide +kernel
theorem d_M_append_51 : decode prog_3_method_7_code 51 = .ok (.return_, 1) := by decide +kernel
theorem d_M_write_0 : decode prog_3_method_8_code 0 = .ok (.aload_n 0, 1) := by decide +kernel
theorem d_M_write_1 : decode prog_3_method_8_code 1 = .ok (.getfield 24, 3) := by decide +kernel
theorem d_M_write_4 : decode prog_3_method_8_code 4 = .ok (.iload_n 3, 1) := by decide +kernel
theorem d_M_write_5 : decode prog_3_method_8_code 5 = .ok (.iadd, 1) := by decide +kernel
theorem d_M_write_6 : decode prog_3_method_8_code 6 = .ok (.ldc 7, 2) := by decide +kernel
theorem d_M_write_8 : decode prog_3_method_8_code 8 = .ok (.if_icmp .le (10), 3) := by decide +kernel
theorem d_M_write_11 : decode prog_3_method_8_code 11 = .ok (.aload_n 0, 1) := by decide +kernel
theorem d_M_write_12 : decode prog_3_method_8_code 12 = .ok (.iload 4, 2) := by decide +kernel
theorem d_M_write_14 : decode prog_3_method_8_code 14 = .ok (.invokevirtual 27, 3) := by decide +kernel
theorem d_M_write_17 : decode prog_3_method_8_code 17 = .ok (.ireturn, 1) := by decide +kernel
theorem d_M_write_18 : decode prog_3_method_8_code 18 = .ok (.aload_n 0, 1) := by decide +kernel
theorem d_M_write_19 : decode prog_3_method_8_code 19 = .ok (.lload_n 1, 1) := by decide +kernel
theorem d_M_write_20 : decode prog_3_method_8_code 20 = .ok (.iload_n 3, 1) := by decide +kernel
theorem d_M_write_21 : decode prog_3_method_8_code 21 = .ok (.invokevirtual 31, 3) := by decide +kernel
theorem d_M_write_24 : decode prog_3_method_8_code 24 = .ok (.aload_n 0, 1) := by decide +kernel
theorem d_M_write_25 : decode prog_3_method_8_code 25 = .ok (.getfield 24, 3) := by decide +kernel
theorem d_M_write_28 : decode prog_3_method_8_code 28 = .ok (.ireturn, 1) := by decide +kernel
theorem d_M_put_0 : decode prog_3_method_9_code 0 = .ok (.aload_n 0, 1) := by decide +kernel
theorem d_M_put_1 : decode prog_3_method_9_code 1 = .ok (.iconst (0), 1) := by decide +kernel
theorem d_M_put_2 : decode prog_3_method_9_code 2 = .ok (.putfield 14, 3) := by decide +kernel
theorem d_M_put_5 : decode prog_3_method_9_code 5 = .ok (.iload_n 3, 1) := by decide +kernel
theorem d_M_put_6 : decode prog_3_method_9_code 6 = .ok (.ifCond .lt (9), 3) := by decide +kernel
theorem d_M_put_9 : decode prog_3_method_9_code 9 = .ok (.iload_n 3, 1) := by decide +kernel
theorem d_M_put_10 : decode prog_3_method_9_code 10 = .ok (.bipush (64), 2) := by decide +kernel
theorem d_M_put_12 : decode prog_3_method_9_code 12 = .ok (.if_icmp .le (11), 3) := by decide +kernel
theorem d_M_put_15 : decode prog_3_method_9_code 15 = .ok (.aload_n 0, 1) := by decide +kernel
theorem d_M_put_16 : decode prog_3_method_9_code 16 = .ok (.iconst (1), 1) := by decide +kernel
theorem d_M_put_17 : decode prog_3_method_9_code 17 = .ok (.invokevirtual 27, 3) := by decide +kernel
theorem d_M_put_20 : decode prog_3_method_9_code 20 = .ok (.goto (10), 3) := by decide +kernel
theorem d_M_put_23 : decode prog_3_method_9_code 23 = .ok (.aload_n 0, 1) := by decide +kernel
theorem d_M_put_24 : decode prog_3_method_9_code 24 = .ok (.lload_n 1, 1) := by decide +kernel
theorem d_M_put_25 : decode prog_3_method_9_code 25 = .ok (.iload_n 3, 1) := by decide +kernel
theorem d_M_put_26 : decode prog_3_method_9_code 26 = .ok (.iconst (2), 1) := by decide +kernel
theorem d_M_put_27 : decode prog_3_method_9_code 27 = .ok (.invokevirtual 35, 3) := by decide +kernel
theorem d_M_put_30 : decode prog_3_method_9_code 30 = .ok (.ireturn, 1) := by decide +kernel
theorem d_M_putRange_0 : decode prog_3_method_10_code 0 = .ok (.aload_n 0, 1) := by decide +kernel
theorem d_M_putRange_1 : decode prog_3_method_10_code 1 = .ok (.iconst (0), 1) := by decide +kernel
theorem d_M_putRange_2 : decode prog_3_method_10_code 2 = .ok (.putfield 14, 3) := by decide +kernel
theorem d_M_putRange_5 : decode prog_3_method_10_code 5 = .ok (.lload 5, 2) := by decide +kernel
theorem d_M_putRange_7 : decode prog_3_method_10_code 7 = .ok (.lload_n 1, 1) := by decide +kernel
theorem d_M_putRange_8 : decode prog_3_method_10_code 8 = .ok (.lcmp, 1) := by decide +kernel
theorem d_M_putRange_9 : decode prog_3_method_10_code 9 = .ok (.ifCond .lt (10), 3) := by decide +kernel
theorem d_M_putRange_12 : decode prog_3_method_10_code 12 = .ok (.lload 5, 2) := by decide +kernel
theorem d_M_putRange_14 : decode prog_3_method_10_code 14 = .ok (.lload_n 3, 1) := by decide +kernel
theorem d_M_putRange_15 : decode prog_3_method_10_code 15 = .ok (.lcmp, 1) := by decide +kernel
theorem d_M_putRange_16 : decode prog_3_method_10_code 16 = .ok (.ifCond .le (11), 3) := by decide +kernel
theorem d_M_putRange_19 : decode prog_3_method_10_code 19 = .ok (.aload_n 0, 1) := by decide +kernel
theorem d_M_putRange_20 : decode prog_3_method_10_code 20 = .ok (.iconst (1), 1) := by decide +kernel
theorem d_M_putRange_21 : decode prog_3_method_10_code 21 = .ok (.invokevirtual 27, 3) := by decide +kernel
theorem d_M_putRange_24 : decode prog_3_method_10_code 24 = .ok (.goto (19), 3) := by decide +kernel
theorem d_M_putRange_27 : decode prog_3_method_10_code 27 = .ok (.aload_n 0, 1) := by decide +kernel
theorem d_M_putRange_28 : decode prog_3_method_10_code 28 = .ok (.lload 5, 2) := by decide +kernel
theorem d_M_putRange_30 : decode prog_3_method_10_code 30 = .ok (.lload_n 1, 1) := by decide +kernel
theorem d_M_putRange_31 : decode prog_3_method_10_code 31 = .ok (.lsub, 1) := by decide +kernel
theorem d_M_putRange_32 : decode prog_3_method_10_code 32 = .ok (.aload_n 0, 1) := by decide +kernel
theorem d_M_putRange_33 : decode prog_3_method_10_code 33 = .ok (.lload_n 3, 1) := by decide +kernel
theorem d_M_putRange_34 : decode prog_3_method_10_code 34 = .ok (.lload_n 1, 1) := by decide +kernel
theorem d_M_putRange_35 : decode prog_3_method_10_code 35 = .ok (.lsub, 1) := by decide +kernel
theorem d_M_putRange_36 : decode prog_3_method_10_code 36 = .ok (.invokevirtual 18, 3) := by decide +kernel
theorem d_M_putRange_39 : decode prog_3_method_10_code 39 = .ok (.iconst (2), 1) := by decide +kernel
theorem d_M_putRange_40 : decode prog_3_method_10_code 40 = .ok (.invokevirtual 35, 3) := by decide +kernel
theorem d_M_putRange_43 : decode prog_3_method_10_code 43 = .ok (.ireturn, 1) := by decide +kernel
theorem d_M_putLength_0 : decode prog_3_method_11_code 0 = .ok (.aload_n 0, 1) := by decide +kernel
theorem d_M_putLength_1 : decode prog_3_method_11_code 1 = .ok (.iconst (0), 1) := by decide +kernel
theorem d_M_putLength_2 : decode prog_3_method_11_code 2 = .ok (.putfield 14, 3) := by decide +kernel
theorem d_M_putLength_5 : decode prog_3_method_11_code 5 = .ok (.iload_n 1, 1) := by decide +kernel
theorem d_M_putLength_6 : decode prog_3_method_11_code 6 = .ok (.ifCond .ge (9), 3) := by decide +kernel
theorem d_M_putLength_9 : decode prog_3_method_11_code 9 = .ok (.aload_n 0, 1) := by decide +kernel
theorem d_M_putLength_10 : decode prog_3_method_11_code 10 = .ok (.iconst (1), 1) := by decide +kernel
theorem d_M_putLength_11 : decode prog_3_method_11_code 11 = .ok (.invokevirtual 27, 3) := by decide +kernel
theorem d_M_putLength_14 : decode prog_3_method_11_code 14 = .ok (.ireturn, 1) := by decide +kernel
theorem d_M_putLength_15 : decode prog_3_method_11_code 15 = .ok (.iconst (4), 1) := by decide +kernel
theorem d_M_putLength_16 : decode prog_3_method_11_code 16 = .ok (.iload_n 1, 1) := by decide +kernel
theorem d_M_putLength_17 : decode prog_3_method_11_code 17 = .ok (.sipush (16384), 3) := by decide +kernel
theorem d_M_putLength_20 : decode prog_3_method_11_code 20 = .ok (.idiv, 1) := by decide +kernel
theorem d_M_putLength_21 : decode prog_3_method_11_code 21 = .ok (.invokestatic 39, 3) := by decide +kernel
theorem d_M_putLength_24 : decode prog_3_method_11_code 24 = .ok (.istore_n 2, 1) := by decide +kernel
theorem d_M_putLength_25 : decode prog_3_method_11_code 25 = .ok (.iload_n 1, 1) := by decide +kernel
theorem d_M_putLength_26 : decode prog_3_method_11_code 26 = .ok (.sipush (128), 3) := by decide +kernel
theorem d_M_putLength_29 : decode prog_3_method_11_code 29 = .ok (.if_icmp .ge (15), 3) := by decide +kernel
theorem d_M_putLength_32 : decode prog_3_method_11_code 32 = .ok (.aload_n 0, 1) := by decide +kernel
theorem d_M_putLength_33 : decode prog_3_method_11_code 33 = .ok (.iload_n 1, 1) := by decide +kernel
theorem d_M_putLength_34 : decode prog_3_method_11_code 34 = .ok (.i2l, 1) := by decide +kernel
theorem d_M_putLength_35 : decode prog_3_method_11_code 35 = .ok (.bipush (8), 2) := by decide +kernel
theorem d_M_putLength_37 : decode prog_3_method_11_code 37 = .ok (.iconst (2), 1) := by decide +kernel
theorem d_M_putLength_38 : decode prog_3_method_11_code 38 = .ok (.invokevirtual 35, 3) := by decide +kernel
theorem d_M_putLength_41 : decode prog_3_method_11_code 41 = .ok (.goto (39), 3) := by decide +kernel
theorem d_M_putLength_44 : decode prog_3_method_11_code 44 = .ok (.iload_n 1, 1) := by decide +kernel
theorem d_M_putLength_45 : decode prog_3_method_11_code 45 = .ok (.sipush (16384), 3) := by decide +kernel
theorem d_M_putLength_48 : decode prog_3_method_11_code 48 = .ok (.if_icmp .ge (19), 3) := by decide +kernel
theorem d_M_putLength_51 : decode prog_3_method_11_code 51 = .ok (.aload_n 0, 1) := by decide +kernel
theorem d_M_putLength_52 : decode prog_3_method_11_code 52 = .ok (.ldc2_w 45, 3) := by decide +kernel
theorem d_M_putLength_55 : decode prog_3_method_11_code 55 = .ok (.iload_n 1, 1) := by decide +kernel
theorem d_M_putLength_56 : decode prog_3_method_11_code 56 = .ok (.i2l, 1) := by decide +kernel
theorem d_M_putLength_57 : decode prog_3_method_11_code 57 = .ok (.lor, 1) := by decide +kernel
theorem d_M_putLength_58 : decode prog_3_method_11_code 58 = .ok (.bipush (16), 2) := by decide +kernel
theorem d_M_putLength_60 : decode prog_3_method_11_code 60 = .ok (.iconst (2), 1) := by decide +kernel
theorem d_M_putLength_61 : decode prog_3_method_11_code 61 = .ok (.invokevirtual 35, 3) := by decide +kernel
theorem d_M_putLength_64 : decode prog_3_method_11_code 64 = .ok (.goto (16), 3) := by decide +kernel
theorem d_M_putLength_67 : decode prog_3_method_11_code 67 = .ok (.aload_n 0, 1) := by decide +kernel
theorem d_M_putLength_68 : decode prog_3_method_11_code 68 = .ok (.ldc2_w 47, 3) := by decide +kernel
theorem d_M_putLength_71 : decode prog_3_method_11_code 71 = .ok (.iload_n 2, 1) := by decide +kernel
theorem d_M_putLength_72 : decode prog_3_method_11_code 72 = .ok (.i2l, 1) := by decide +kernel
theorem d_M_putLength_73 : decode prog_3_method_11_code 73 = .ok (.lor, 1) := by decide +kernel
theorem d_M_putLength_74 : decode prog_3_method_11_code 74 = .ok (.bipush (8), 2) := by decide +kernel
theorem d_M_putLength_76 : decode prog_3_method_11_code 76 = .ok (.iconst (2), 1) := by decide +kernel
theorem d_M_putLength_77 : decode prog_3_method_11_code 77 = .ok (.invokevirtual 35, 3) := by decide +kernel
theorem d_M_putLength_80 : decode prog_3_method_11_code 80 = .ok (.istore_n 3, 1) := by decide +kernel
theorem d_M_putLength_81 : decode prog_3_method_11_code 81 = .ok (.aload_n 0, 1) := by decide +kernel
theorem d_M_putLength_82 : decode prog_3_method_11_code 82 = .ok (.getfield 14, 3) := by decide +kernel
theorem d_M_putLength_85 : decode prog_3_method_11_code 85 = .ok (.ifCond .le (7), 3) := by decide +kernel
theorem d_M_putLength_88 : decode prog_3_method_11_code 88 = .ok (.iconst (0), 1) := by decide +kernel
theorem d_M_putLength_89 : decode prog_3_method_11_code 89 = .ok (.goto (19), 3) := by decide +kernel
theorem d_M_putLength_92 : decode prog_3_method_11_code 92 = .ok (.iload_n 1, 1) := by decide +kernel
theorem d_M_putLength_93 : decode prog_3_method_11_code 93 = .ok (.sipush (16384), 3) := by decide +kernel
theorem d_M_putLength_96 : decode prog_3_method_11_code 96 = .ok (.if_icmp .ge (7), 3) := by decide +kernel
theorem d_M_putLength_99 : decode prog_3_method_11_code 99 = .ok (.iload_n 1, 1) := by decide +kernel
theorem d_M_putLength_100 : decode prog_3_method_11_code 100 = .ok (.goto (8), 3) := by decide +kernel
theorem d_M_putLength_103 : decode prog_3_method_11_code 103 = .ok (.sipush (16384), 3) := by decide +kernel
theorem d_M_putLength_106 : decode prog_3_method_11_code 106 = .ok (.iload_n 2, 1) := by decide +kernel
theorem d_M_putLength_107 : decode prog_3_method_11_code 107 = .ok (.imul, 1) := by decide +kernel
theorem d_M_putLength_108 : decode prog_3_method_11_code 108 = .ok (.ireturn, 1) := by decide +kernel
theorem d_M_putNumber_0 : decode prog_3_method_12_code 0 = .ok (.aload_n 0, 1) := by decide +kernel
theorem d_M_putNumber_1 : decode prog_3_method_12_code 1 = .ok (.iconst (0), 1) := by decide +kernel
theorem d_M_putNumber_2 : decode prog_3_method_12_code 2 = .ok (.putfield 14, 3) := by decide +kernel
theorem d_M_putNumber_5 : decode prog_3_method_12_code 5 = .ok (.iload_n 1, 1) := by decide +kernel
theorem d_M_putNumber_6 : decode prog_3_method_12_code 6 = .ok (.ifCond .lt (8), 3) := by decide +kernel
theorem d_M_putNumber_9 : decode prog_3_method_12_code 9 = .ok (.iload_n 1, 1) := by decide +kernel
theorem d_M_putNumber_10 : decode prog_3_method_12_code 10 = .ok (.iconst (2), 1) := by decide +kernel
theorem d_M_putNumber_11 : decode prog_3_method_12_code 11 = .ok (.if_icmp .le (9), 3) := by decide +kernel
theorem d_M_putNumber_14 : decode prog_3_method_12_code 14 = .ok (.aload_n 0, 1) := by decide +kernel
theorem d_M_putNumber_15 : decode prog_3_method_12_code 15 = .ok (.iconst (1), 1) := by decide +kernel
theorem d_M_putNumber_16 : decode prog_3_method_12_code 16 = .ok (.invokevirtual 27, 3) := by decide +kernel
theorem d_M_putNumber_19 : decode prog_3_method_12_code 19 = .ok (.ireturn, 1) := by decide +kernel
theorem d_M_putNumber_20 : decode prog_3_method_12_code 20 = .ok (.iload_n 1, 1) := by decide +kernel
theorem d_M_putNumber_21 : decode prog_3_method_12_code 21 = .ok (.iconst (2), 1) := by decide +kernel
theorem d_M_putNumber_22 : decode prog_3_method_12_code 22 = .ok (.if_icmp .ne (21), 3) := by decide +kernel
theorem d_M_putNumber_25 : decode prog_3_method_12_code 25 = .ok (.lload_n 2, 1) := by decide +kernel
theorem d_M_putNumber_26 : decode prog_3_method_12_code 26 = .ok (.lconst 0, 1) := by decide +kernel
theorem d_M_putNumber_27 : decode prog_3_method_12_code 27 = .ok (.lcmp, 1) := by decide +kernel
theorem d_M_putNumber_28 : decode prog_3_method_12_code 28 = .ok (.ifCond .lt (15), 3) := by decide +kernel
theorem d_M_putNumber_31 : decode prog_3_method_12_code 31 = .ok (.lload_n 2, 1) := by decide +kernel
theorem d_M_putNumber_32 : decode prog_3_method_12_code 32 = .ok (.ldc2_w 49, 3) := by decide +kernel
theorem d_M_putNumber_35 : decode prog_3_method_12_code 35 = .ok (.lcmp, 1) := by decide +kernel
theorem d_M_putNumber_36 : decode prog_3_method_12_code 36 = .ok (.ifCond .ge (7), 3) := by decide +kernel
theorem d_M_putNumber_39 : decode prog_3_method_12_code 39 = .ok (.iconst (1), 1) := by decide +kernel
theorem d_M_putNumber_40 : decode prog_3_method_12_code 40 = .ok (.goto (4), 3) := by decide +kernel
theorem d_M_putNumber_43 : decode prog_3_method_12_code 43 = .ok (.iconst (0), 1) := by decide +kernel
theorem d_M_putNumber_44 : decode prog_3_method_12_code 44 = .ok (.istore 4, 2) := by decide +kernel
theorem d_M_putNumber_46 : decode prog_3_method_12_code 46 = .ok (.iload_n 1, 1) := by decide +kernel
theorem d_M_putNumber_47 : decode prog_3_method_12_code 47 = .ok (.iconst (1), 1) := by decide +kernel
theorem d_M_putNumber_48 : decode prog_3_method_12_code 48 = .ok (.if_icmp .ne (11), 3) := by decide +kernel
theorem d_M_putNumber_51 : decode prog_3_method_12_code 51 = .ok (.aload_n 0, 1) := by decide +kernel
theorem d_M_putNumber_52 : decode prog_3_method_12_code 52 = .ok (.lload_n 2, 1) := by decide +kernel
theorem d_M_putNumber_53 : decode prog_3_method_12_code 53 = .ok (.invokevirtual 51, 3) := by decide +kernel
theorem d_M_putNumber_56 : decode prog_3_method_12_code 56 = .ok (.goto (8), 3) := by decide +kernel
theorem d_M_putNumber_59 : decode prog_3_method_12_code 59 = .ok (.aload_n 0, 1) := by decide +kernel
theorem d_M_putNumber_60 : decode prog_3_method_12_code 60 = .ok (.lload_n 2, 1) := by decide +kernel
theorem d_M_putNumber_61 : decode prog_3_method_12_code 61 = .ok (.invokevirtual 54, 3) := by decide +kernel
theorem d_M_putNumber_64 : decode prog_3_method_12_code 64 = .ok (.istore 5, 2) := by decide +kernel
theorem d_M_putNumber_66 : decode prog_3_method_12_code 66 = .ok (.iload 4, 2) := by decide +kernel
theorem d_M_putNumber_68 : decode prog_3_method_12_code 68 = .ok (.ifCond .eq (8), 3) := by decide +kernel
theorem d_M_putNumber_71 : decode prog_3_method_12_code 71 = .ok (.bipush (7), 2) := by decide +kernel
theorem d_M_putNumber_73 : decode prog_3_method_12_code 73 = .ok (.goto (22), 3) := by decide +kernel
theorem d_M_putNumber_76 : decode prog_3_method_12_code 76 = .ok (.bipush (8), 2) := by decide +kernel
theorem d_M_putNumber_78 : decode prog_3_method_12_code 78 = .ok (.bipush (8), 2) := by decide +kernel
theorem d_M_putNumber_80 : decode prog_3_method_12_code 80 = .ok (.iload 5, 2) := by decide +kernel
theorem d_M_putNumber_82 : decode prog_3_method_12_code 82 = .ok (.imul, 1) := by decide +kernel
theorem d_M_putNumber_83 : decode prog_3_method_12_code 83 = .ok (.iadd, 1) := by decide +kernel
theorem d_M_putNumber_84 : decode prog_3_method_12_code 84 = .ok (.iload_n 1, 1) := by decide +kernel
theorem d_M_putNumber_85 : decode prog_3_method_12_code 85 = .ok (.iconst (2), 1) := by decide +kernel
theorem d_M_putNumber_86 : decode prog_3_method_12_code 86 = .ok (.if_icmp .ne (7), 3) := by decide +kernel
theorem d_M_putNumber_89 : decode prog_3_method_12_code 89 = .ok (.iconst (1), 1) := by decide +kernel
theorem d_M_putNumber_90 : decode prog_3_method_12_code 90 = .ok (.goto (4), 3) := by decide +kernel
theorem d_M_putNumber_93 : decode prog_3_method_12_code 93 = .ok (.iconst (0), 1) := by decide +kernel
theorem d_M_putNumber_94 : decode prog_3_method_12_code 94 = .ok (.iadd, 1) := by decide +kernel
theorem d_M_putNumber_95 : decode prog_3_method_12_code 95 = .ok (.istore 6, 2) := by decide +kernel
theorem d_M_putNumber_97 : decode prog_3_method_12_code 97 = .ok (.aload_n 0, 1) := by decide +kernel
theorem d_M_putNumber_98 : decode prog_3_method_12_code 98 = .ok (.getfield 24, 3) := by decide +kernel
theorem d_M_putNumber_101 : decode prog_3_method_12_code 101 = .ok (.iload 6, 2) := by decide +kernel
theorem d_M_putNumber_103 : decode prog_3_method_12_code 103 = .ok (.iadd, 1) := by decide +kernel
theorem d_M_putNumber_104 : decode prog_3_method_12_code 104 = .ok (.ldc 7, 2) := by decide +kernel
theorem d_M_putNumber_106 : decode prog_3_method_12_code 106 = .ok (.if_icmp .le (9), 3) := by decide +kernel
theorem d_M_putNumber_109 : decode prog_3_method_12_code 109 = .ok (.aload_n 0, 1) := by decide +kernel
theorem d_M_putNumber_110 : decode prog_3_method_12_code 110 = .ok (.iconst (2), 1) := by decide +kernel
theorem d_M_putNumber_111 : decode prog_3_method_12_code 111 = .ok (.invokevirtual 27, 3) := by decide +kernel
theorem d_M_putNumber_114 : decode prog_3_method_12_code 114 = .ok (.ireturn, 1) := by decide +kernel
theorem d_M_putNumber_115 : decode prog_3_method_12_code 115 = .ok (.iload 4, 2) := by decide +kernel
theorem d_M_putNumber_117 : decode prog_3_method_12_code 117 = .ok (.ifCond .eq (13), 3) := by decide +kernel
theorem d_M_putNumber_120 : decode prog_3_method_12_code 120 = .ok (.aload_n 0, 1) := by decide +kernel
theorem d_M_putNumber_121 : decode prog_3_method_12_code 121 = .ok (.lload_n 2, 1) := by decide +kernel
theorem d_M_putNumber_122 : decode prog_3_method_12_code 122 = .ok (.bipush (7), 2) := by decide +kernel
theorem d_M_putNumber_124 : decode prog_3_method_12_code 124 = .ok (.invokevirtual 31, 3) := by decide +kernel
theorem d_M_putNumber_127 : decode prog_3_method_12_code 127 = .ok (.goto (33), 3) := by decide +kernel
theorem d_M_putNumber_130 : decode prog_3_method_12_code 130 = .ok (.iload_n 1, 1) := by decide +kernel
theorem d_M_putNumber_131 : decode prog_3_method_12_code 131 = .ok (.iconst (2), 1) := by decide +kernel
theorem d_M_putNumber_132 : decode prog_3_method_12_code 132 = .ok (.if_icmp .ne (9), 3) := by decide +kernel
theorem d_M_putNumber_135 : decode prog_3_method_12_code 135 = .ok (.aload_n 0, 1) := by decide +kernel
theorem d_M_putNumber_136 : decode prog_3_method_12_code 136 = .ok (.lconst 1, 1) := by decide +kernel
theorem d_M_putNumber_137 : decode prog_3_method_12_code 137 = .ok (.iconst (1), 1) := by decide +kernel
theorem d_M_putNumber_138 : decode prog_3_method_12_code 138 = .ok (.invokevirtual 31, 3) := by decide +kernel
theorem d_M_putNumber_141 : decode prog_3_method_12_code 141 = .ok (.aload_n 0, 1) := by decide +kernel
theorem d_M_putNumber_142 : decode prog_3_method_12_code 142 = .ok (.iload 5, 2) := by decide +kernel
theorem d_M_putNumber_144 : decode prog_3_method_12_code 144 = .ok (.i2l, 1) := by decide +kernel
theorem d_M_putNumber_145 : decode prog_3_method_12_code 145 = .ok (.bipush (8), 2) := by decide +kernel
theorem d_M_putNumber_147 : decode prog_3_method_12_code 147 = .ok (.invokevirtual 31, 3) := by decide +kernel
theorem d_M_putNumber_150 : decode prog_3_method_12_code 150 = .ok (.aload_n 0, 1) := by decide +kernel
theorem d_M_putNumber_151 : decode prog_3_method_12_code 151 = .ok (.lload_n 2, 1) := by decide +kernel
theorem d_M_putNumber_152 : decode prog_3_method_12_code 152 = .ok (.bipush (8), 2) := by decide +kernel
theorem d_M_putNumber_154 : decode prog_3_method_12_code 154 = .ok (.iload 5, 2) := by decide +kernel
theorem d_M_putNumber_156 : decode prog_3_method_12_code 156 = .ok (.imul, 1) := by decide +kernel
theorem d_M_putNumber_157 : decode prog_3_method_12_code 157 = .ok (.invokevirtual 31, 3) := by decide +kernel
theorem d_M_putNumber_160 : decode prog_3_method_12_code 160 = .ok (.aload_n 0, 1) := by decide +kernel
theorem d_M_putNumber_161 : decode prog_3_method_12_code 161 = .ok (.getfield 24, 3) := by decide +kernel
theorem d_M_putNumber_164 : decode prog_3_method_12_code 164 = .ok (.ireturn, 1) := by decide +kernel
theorem d_M_fill_0 : decode prog_3_method_13_code 0 = .ok (.aload_n 0, 1) := by decide +kernel
theorem d_M_fill_1 : decode prog_3_method_13_code 1 = .ok (.iconst (0), 1) := by decide +kernel
theorem d_M_fill_2 : decode prog_3_method_13_code 2 = .ok (.putfield 14, 3) := by decide +kernel
theorem d_M_fill_5 : decode prog_3_method_13_code 5 = .ok (.aload_n 0, 1) := by decide +kernel
theorem d_M_fill_6 : decode prog_3_method_13_code 6 = .ok (.getfield 24, 3) := by decide +kernel
theorem d_M_fill_9 : decode prog_3_method_13_code 9 = .ok (.ifCond .ne (8), 3) := by decide +kernel
theorem d_M_fill_12 : decode prog_3_method_13_code 12 = .ok (.bipush (8), 2) := by decide +kernel
theorem d_M_fill_14 : decode prog_3_method_13_code 14 = .ok (.goto (16), 3) := by decide +kernel
theorem d_M_fill_17 : decode prog_3_method_13_code 17 = .ok (.bipush (8), 2) := by decide +kernel
theorem d_M_fill_19 : decode prog_3_method_13_code 19 = .ok (.aload_n 0, 1) := by decide +kernel
theorem d_M_fill_20 : decode prog_3_method_13_code 20 = .ok (.getfield 24, 3) := by decide +kernel
theorem d_M_fill_23 : decode prog_3_method_13_code 23 = .ok (.bipush (8), 2) := by decide +kernel
theorem d_M_fill_25 : decode prog_3_method_13_code 25 = .ok (.irem, 1) := by decide +kernel
theorem d_M_fill_26 : decode prog_3_method_13_code 26 = .ok (.isub, 1) := by decide +kernel
theorem d_M_fill_27 : decode prog_3_method_13_code 27 = .ok (.bipush (8), 2) := by decide +kernel
theorem d_M_fill_29 : decode prog_3_method_13_code 29 = .ok (.irem, 1) := by decide +kernel
theorem d_M_fill_30 : decode prog_3_method_13_code 30 = .ok (.istore_n 1, 1) := by decide +kernel
theorem d_M_fill_31 : decode prog_3_method_13_code 31 = .ok (.aload_n 0, 1) := by decide +kernel
theorem d_M_fill_32 : decode prog_3_method_13_code 32 = .ok (.lconst 0, 1) := by decide +kernel
theorem d_M_fill_33 : decode prog_3_method_13_code 33 = .ok (.iload_n 1, 1) := by decide +kernel
theorem d_M_fill_34 : decode prog_3_method_13_code 34 = .ok (.iconst (1), 1) := by decide +kernel
theorem d_M_fill_35 : decode prog_3_method_13_code 35 = .ok (.invokevirtual 35, 3) := by decide +kernel
theorem d_M_fill_38 : decode prog_3_method_13_code 38 = .ok (.ireturn, 1) := by decide +kernel
theorem d_M_get_0 : decode prog_3_method_14_code 0 = .ok (.aload_n 0, 1) := by decide +kernel
theorem d_M_get_1 : decode prog_3_method_14_code 1 = .ok (.getfield 57, 3) := by decide +kernel
theorem d_M_get_4 : decode prog_3_method_14_code 4 = .ok (.iload_n 1, 1) := by decide +kernel
theorem d_M_get_5 : decode prog_3_method_14_code 5 = .ok (.iadd, 1) := by decide +kernel
theorem d_M_get_6 : decode prog_3_method_14_code 6 = .ok (.aload_n 0, 1) := by decide +kernel
theorem d_M_get_7 : decode prog_3_method_14_code 7 = .ok (.getfield 24, 3) := by decide +kernel
theorem d_M_get_10 : decode prog_3_method_14_code 10 = .ok (.if_icmp .le (8), 3) := by decide +kernel
theorem d_M_get_13 : decode prog_3_method_14_code 13 = .ok (.aload_n 0, 1) := by decide +kernel
theorem d_M_get_14 : decode prog_3_method_14_code 14 = .ok (.iconst (0), 1) := by decide +kernel
theorem d_M_get_15 : decode prog_3_method_14_code 15 = .ok (.putfield 60, 3) := by decide +kernel
theorem d_M_get_18 : decode prog_3_method_14_code 18 = .ok (.lconst 0, 1) := by decide +kernel
theorem d_M_get_19 : decode prog_3_method_14_code 19 = .ok (.lstore_n 2, 1) := by decide +kernel
theorem d_M_get_20 : decode prog_3_method_14_code 20 = .ok (.iconst (0), 1) := by decide +kernel
theorem d_M_get_21 : decode prog_3_method_14_code 21 = .ok (.istore 4, 2) := by decide +kernel
theorem d_M_get_23 : decode prog_3_method_14_code 23 = .ok (.iload 4, 2) := by decide +kernel
theorem d_M_get_25 : decode prog_3_method_14_code 25 = .ok (.iload_n 1, 1) := by decide +kernel
theorem d_M_get_26 : decode prog_3_method_14_code 26 = .ok (.if_icmp .ge (48), 3) := by decide +kernel
theorem d_M_get_29 : decode prog_3_method_14_code 29 = .ok (.aload_n 0, 1) := by decide +kernel
theorem d_M_get_30 : decode prog_3_method_14_code 30 = .ok (.getfield 60, 3) := by decide +kernel
theorem d_M_get_33 : decode prog_3_method_14_code 33 = .ok (.ifCond .eq (41), 3) := by decide +kernel
theorem d_M_get_36 : decode prog_3_method_14_code 36 = .ok (.lload_n 2, 1) := by decide +kernel
theorem d_M_get_37 : decode prog_3_method_14_code 37 = .ok (.iconst (1), 1) := by decide +kernel
theorem d_M_get_38 : decode prog_3_method_14_code 38 = .ok (.lshl, 1) := by decide +kernel
theorem d_M_get_39 : decode prog_3_method_14_code 39 = .ok (.aload_n 0, 1) := by decide +kernel
theorem d_M_get_40 : decode prog_3_method_14_code 40 = .ok (.getfield 8, 3) := by decide +kernel
theorem d_M_get_43 : decode prog_3_method_14_code 43 = .ok (.aload_n 0, 1) := by decide +kernel
theorem d_M_get_44 : decode prog_3_method_14_code 44 = .ok (.getfield 57, 3) := by decide +kernel
theorem d_M_get_47 : decode prog_3_method_14_code 47 = .ok (.baload, 1) := by decide +kernel
theorem d_M_get_48 : decode prog_3_method_14_code 48 = .ok (.ifCond .eq (7), 3) := by decide +kernel
theorem d_M_get_51 : decode prog_3_method_14_code 51 = .ok (.lconst 1, 1) := by decide +kernel
theorem d_M_get_52 : decode prog_3_method_14_code 52 = .ok (.goto (4), 3) := by decide +kernel
theorem d_M_get_55 : decode prog_3_method_14_code 55 = .ok (.lconst 0, 1) := by decide +kernel
theorem d_M_get_56 : decode prog_3_method_14_code 56 = .ok (.lor, 1) := by decide +kernel
theorem d_M_get_57 : decode prog_3_method_14_code 57 = .ok (.lstore_n 2, 1) := by decide +kernel
theorem d_M_get_58 : decode prog_3_method_14_code 58 = .ok (.aload_n 0, 1) := by decide +kernel
theorem d_M_get_59 : decode prog_3_method_14_code 59 = .ok (.dup, 1) := by decide +kernel
theorem d_M_get_60 : decode prog_3_method_14_code 60 = .ok (.getfield 57, 3) := by decide +kernel
theorem d_M_get_63 : decode prog_3_method_14_code 63 = .ok (.iconst (1), 1) := by decide +kernel
theorem d_M_get_64 : decode prog_3_method_14_code 64 = .ok (.iadd, 1) := by decide +kernel
theorem d_M_get_65 : decode prog_3_method_14_code 65 = .ok (.putfield 57, 3) := by decide +kernel
theorem d_M_get_68 : decode prog_3_method_14_code 68 = .ok (.iinc 4 (1), 3) := by decide +kernel
theorem d_M_get_71 : decode prog_3_method_14_code 71 = .ok (.goto (-48), 3) := by decide +kernel
theorem d_M_get_74 : decode prog_3_method_14_code 74 = .ok (.lload_n 2, 1) := by decide +kernel
theorem d_M_get_75 : decode prog_3_method_14_code 75 = .ok (.lreturn, 1) := by decide +kernel
theorem d_M_begin_0 : decode prog_3_method_15_code 0 = .ok (.aload_n 0, 1) := by decide +kernel
theorem d_M_begin_1 : decode prog_3_method_15_code 1 = .ok (.iconst (0), 1) := by decide +kernel
theorem d_M_begin_2 : decode prog_3_method_15_code 2 = .ok (.putfield 14, 3) := by decide +kernel
theorem d_M_begin_5 : decode prog_3_method_15_code 5 = .ok (.aload_n 0, 1) := by decide +kernel
theorem d_M_begin_6 : decode prog_3_method_15_code 6 = .ok (.aload_n 0, 1) := by decide +kernel
theorem d_M_begin_7 : decode prog_3_method_15_code 7 = .ok (.getfield 64, 3) := by decide +kernel
theorem d_M_begin_10 : decode prog_3_method_15_code 10 = .ok (.putfield 57, 3) := by decide +kernel
theorem d_M_begin_13 : decode prog_3_method_15_code 13 = .ok (.aload_n 0, 1) := by decide +kernel
theorem d_M_begin_14 : decode prog_3_method_15_code 14 = .ok (.iconst (1), 1) := by decide +kernel
theorem d_M_begin_15 : decode prog_3_method_15_code 15 = .ok (.putfield 60, 3) := by decide +kernel
theorem d_M_begin_18 : decode prog_3_method_15_code 18 = .ok (.return_, 1) := by decide +kernel
theorem d_M_done_0 : decode prog_3_method_16_code 0 = .ok (.aload_n 0, 1) := by decide +kernel
theorem d_M_done_1 : decode prog_3_method_16_code 1 = .ok (.getfield 60, 3) := by decide +kernel
theorem d_M_done_4 : decode prog_3_method_16_code 4 = .ok (.ifCond .ne (10), 3) := by decide +kernel
theorem d_M_done_7 : decode prog_3_method_16_code 7 = .ok (.aload_n 0, 1) := by decide +kernel
theorem d_M_done_8 : decode prog_3_method_16_code 8 = .ok (.iload_n 3, 1) := by decide +kernel
theorem d_M_done_9 : decode prog_3_method_16_code 9 = .ok (.invokevirtual 27, 3) := by decide +kernel
theorem d_M_done_12 : decode prog_3_method_16_code 12 = .ok (.i2l, 1) := by decide +kernel
theorem d_M_done_13 : decode prog_3_method_16_code 13 = .ok (.lreturn, 1) := by decide +kernel
theorem d_M_done_14 : decode prog_3_method_16_code 14 = .ok (.aload_n 0, 1) := by decide +kernel
theorem d_M_done_15 : decode prog_3_method_16_code 15 = .ok (.aload_n 0, 1) := by decide +kernel
theorem d_M_done_16 : decode prog_3_method_16_code 16 = .ok (.getfield 57, 3) := by decide +kernel
theorem d_M_done_19 : decode prog_3_method_16_code 19 = .ok (.putfield 64, 3) := by decide +kernel
theorem d_M_done_22 : decode prog_3_method_16_code 22 = .ok (.lload_n 1, 1) := by decide +kernel
theorem d_M_done_23 : decode prog_3_method_16_code 23 = .ok (.lreturn, 1) := by decide +kernel
theorem d_M_take_0 : decode prog_3_method_17_code 0 = .ok (.aload_n 0, 1) := by decide +kernel
theorem d_M_take_1 : decode prog_3_method_17_code 1 = .ok (.invokevirtual 67, 3) := by decide +kernel
theorem d_M_take_4 : decode prog_3_method_17_code 4 = .ok (.iload_n 1, 1) := by decide +kernel
theorem d_M_take_5 : decode prog_3_method_17_code 5 = .ok (.ifCond .lt (9), 3) := by decide +kernel
theorem d_M_take_8 : decode prog_3_method_17_code 8 = .ok (.iload_n 1, 1) := by decide +kernel
theorem d_M_take_9 : decode prog_3_method_17_code 9 = .ok (.bipush (64), 2) := by decide +kernel
theorem d_M_take_11 : decode prog_3_method_17_code 11 = .ok (.if_icmp .le (10), 3) := by decide +kernel
theorem d_M_take_14 : decode prog_3_method_17_code 14 = .ok (.aload_n 0, 1) := by decide +kernel
theorem d_M_take_15 : decode prog_3_method_17_code 15 = .ok (.iconst (1), 1) := by decide +kernel
theorem d_M_take_16 : decode prog_3_method_17_code 16 = .ok (.invokevirtual 27, 3) := by decide +kernel
theorem d_M_take_19 : decode prog_3_method_17_code 19 = .ok (.i2l, 1) := by decide +kernel
theorem d_M_take_20 : decode prog_3_method_17_code 20 = .ok (.lreturn, 1) := by decide +kernel
theorem d_M_take_21 : decode prog_3_method_17_code 21 = .ok (.aload_n 0, 1) := by decide +kernel
theorem d_M_take_22 : decode prog_3_method_17_code 22 = .ok (.aload_n 0, 1) := by decide +kernel
theorem d_M_take_23 : decode prog_3_method_17_code 23 = .ok (.iload_n 1, 1) := by decide +kernel
theorem d_M_take_24 : decode prog_3_method_17_code 24 = .ok (.invokevirtual 70, 3) := by decide +kernel
theorem d_M_take_27 : decode prog_3_method_17_code 27 = .ok (.iconst (2), 1) := by decide +kernel
theorem d_M_take_28 : decode prog_3_method_17_code 28 = .ok (.invokevirtual 74, 3) := by decide +kernel
theorem d_M_take_31 : decode prog_3_method_17_code 31 = .ok (.lreturn, 1) := by decide +kernel
theorem d_M_takeRange_0 : decode prog_3_method_18_code 0 = .ok (.aload_n 0, 1) := by decide +kernel
theorem d_M_takeRange_1 : decode prog_3_method_18_code 1 = .ok (.invokevirtual 67, 3) := by decide +kernel
theorem d_M_takeRange_4 : decode prog_3_method_18_code 4 = .ok (.lload_n 1, 1) := by decide +kernel
theorem d_M_takeRange_5 : decode prog_3_method_18_code 5 = .ok (.lload_n 3, 1) := by decide +kernel
theorem d_M_takeRange_6 : decode prog_3_method_18_code 6 = .ok (.lcmp, 1) := by decide +kernel
theorem d_M_takeRange_7 : decode prog_3_method_18_code 7 = .ok (.ifCond .le (10), 3) := by decide +kernel
theorem d_M_takeRange_10 : decode prog_3_method_18_code 10 = .ok (.aload_n 0, 1) := by decide +kernel
theorem d_M_takeRange_11 : decode prog_3_method_18_code 11 = .ok (.iconst (1), 1) := by decide +kernel
theorem d_M_takeRange_12 : decode prog_3_method_18_code 12 = .ok (.invokevirtual 27, 3) := by decide +kernel
theorem d_M_takeRange_15 : decode prog_3_method_18_code 15 = .ok (.i2l, 1) := by decide +kernel
theorem d_M_takeRange_16 : decode prog_3_method_18_code 16 = .ok (.lreturn, 1) := by decide +kernel
theorem d_M_takeRange_17 : decode prog_3_method_18_code 17 = .ok (.lload_n 3, 1) := by decide +kernel
theorem d_M_takeRange_18 : decode prog_3_method_18_code 18 = .ok (.lload_n 1, 1) := by decide +kernel
theorem d_M_takeRange_19 : decode prog_3_method_18_code 19 = .ok (.lsub, 1) := by decide +kernel
theorem d_M_takeRange_20 : decode prog_3_method_18_code 20 = .ok (.lstore 5, 2) := by decide +kernel
theorem d_M_takeRange_22 : decode prog_3_method_18_code 22 = .ok (.aload_n 0, 1) := by decide +kernel
theorem d_M_takeRange_23 : decode prog_3_method_18_code 23 = .ok (.aload_n 0, 1) := by decide +kernel
theorem d_M_takeRange_24 : decode prog_3_method_18_code 24 = .ok (.lload 5, 2) := by decide +kernel
theorem d_M_takeRange_26 : decode prog_3_method_18_code 26 = .ok (.invokevirtual 18, 3) := by decide +kernel
theorem d_M_takeRange_29 : decode prog_3_method_18_code 29 = .ok (.invokevirtual 70, 3) := by decide +kernel
theorem d_M_takeRange_32 : decode prog_3_method_18_code 32 = .ok (.lstore 7, 2) := by decide +kernel
theorem d_M_takeRange_34 : decode prog_3_method_18_code 34 = .ok (.lload 7, 2) := by decide +kernel
theorem d_M_takeRange_36 : decode prog_3_method_18_code 36 = .ok (.lconst 0, 1) := by decide +kernel
theorem d_M_takeRange_37 : decode prog_3_method_18_code 37 = .ok (.lcmp, 1) := by decide +kernel
theorem d_M_takeRange_38 : decode prog_3_method_18_code 38 = .ok (.ifCond .ge (21), 3) := by decide +kernel
theorem d_M_takeRange_41 : decode prog_3_method_18_code 41 = .ok (.lload 5, 2) := by decide +kernel
theorem d_M_takeRange_43 : decode prog_3_method_18_code 43 = .ok (.lconst 0, 1) := by decide +kernel
theorem d_M_takeRange_44 : decode prog_3_method_18_code 44 = .ok (.lcmp, 1) := by decide +kernel
theorem d_M_takeRange_45 : decode prog_3_method_18_code 45 = .ok (.ifCond .ge (29), 3) := by decide +kernel
theorem d_M_takeRange_48 : decode prog_3_method_18_code 48 = .ok (.lload 7, 2) := by decide +kernel
theorem d_M_takeRange_50 : decode prog_3_method_18_code 50 = .ok (.lload 5, 2) := by decide +kernel
theorem d_M_takeRange_52 : decode prog_3_method_18_code 52 = .ok (.lcmp, 1) := by decide +kernel
theorem d_M_takeRange_53 : decode prog_3_method_18_code 53 = .ok (.ifCond .le (26), 3) := by decide +kernel
theorem d_M_takeRange_56 : decode prog_3_method_18_code 56 = .ok (.goto (18), 3) := by decide +kernel
theorem d_M_takeRange_59 : decode prog_3_method_18_code 59 = .ok (.lload 5, 2) := by decide +kernel
theorem d_M_takeRange_61 : decode prog_3_method_18_code 61 = .ok (.lconst 0, 1) := by decide +kernel
theorem d_M_takeRange_62 : decode prog_3_method_18_code 62 = .ok (.lcmp, 1) := by decide +kernel
theorem d_M_takeRange_63 : decode prog_3_method_18_code 63 = .ok (.ifCond .lt (16), 3) := by decide +kernel
theorem d_M_takeRange_66 : decode prog_3_method_18_code 66 = .ok (.lload 7, 2) := by decide +kernel
theorem d_M_takeRange_68 : decode prog_3_method_18_code 68 = .ok (.lload 5, 2) := by decide +kernel
theorem d_M_takeRange_70 : decode prog_3_method_18_code 70 = .ok (.lcmp, 1) := by decide +kernel
theorem d_M_takeRange_71 : decode prog_3_method_18_code 71 = .ok (.ifCond .le (8), 3) := by decide +kernel
theorem d_M_takeRange_74 : decode prog_3_method_18_code 74 = .ok (.aload_n 0, 1) := by decide +kernel
theorem d_M_takeRange_75 : decode prog_3_method_18_code 75 = .ok (.iconst (0), 1) := by decide +kernel
theorem d_M_takeRange_76 : decode prog_3_method_18_code 76 = .ok (.putfield 60, 3) := by decide +kernel
theorem d_M_takeRange_79 : decode prog_3_method_18_code 79 = .ok (.aload_n 0, 1) := by decide +kernel
theorem d_M_takeRange_80 : decode prog_3_method_18_code 80 = .ok (.lload_n 1, 1) := by decide +kernel
theorem d_M_takeRange_81 : decode prog_3_method_18_code 81 = .ok (.lload 7, 2) := by decide +kernel
theorem d_M_takeRange_83 : decode prog_3_method_18_code 83 = .ok (.ladd, 1) := by decide +kernel
theorem d_M_takeRange_84 : decode prog_3_method_18_code 84 = .ok (.iconst (2), 1) := by decide +kernel
theorem d_M_takeRange_85 : decode prog_3_method_18_code 85 = .ok (.invokevirtual 74, 3) := by decide +kernel
theorem d_M_takeRange_88 : decode prog_3_method_18_code 88 = .ok (.lreturn, 1) := by decide +kernel
theorem d_M_length_0 : decode prog_3_method_19_code 0 = .ok (.aload_n 0, 1) := by decide +kernel
theorem d_M_length_1 : decode prog_3_method_19_code 1 = .ok (.iconst (1), 1) := by decide +kernel
theorem d_M_length_2 : decode prog_3_method_19_code 2 = .ok (.invokevirtual 70, 3) := by decide +kernel
theorem d_M_length_5 : decode prog_3_method_19_code 5 = .ok (.lconst 0, 1) := by decide +kernel
theorem d_M_length_6 : decode prog_3_method_19_code 6 = .ok (.lcmp, 1) := by decide +kernel
theorem d_M_length_7 : decode prog_3_method_19_code 7 = .ok (.ifCond .ne (11), 3) := by decide +kernel
theorem d_M_length_10 : decode prog_3_method_19_code 10 = .ok (.aload_n 0, 1) := by decide +kernel
theorem d_M_length_11 : decode prog_3_method_19_code 11 = .ok (.bipush (7), 2) := by decide +kernel
theorem d_M_length_13 : decode prog_3_method_19_code 13 = .ok (.invokevirtual 70, 3) := by decide +kernel
theorem d_M_length_16 : decode prog_3_method_19_code 16 = .ok (.l2i, 1) := by decide +kernel
theorem d_M_length_17 : decode prog_3_method_19_code 17 = .ok (.ireturn, 1) := by decide +kernel
theorem d_M_length_18 : decode prog_3_method_19_code 18 = .ok (.aload_n 0, 1) := by decide +kernel
theorem d_M_length_19 : decode prog_3_method_19_code 19 = .ok (.iconst (1), 1) := by decide +kernel
theorem d_M_length_20 : decode prog_3_method_19_code 20 = .ok (.invokevirtual 70, 3) := by decide +kernel
theorem d_M_length_23 : decode prog_3_method_19_code 23 = .ok (.lconst 0, 1) := by decide +kernel
theorem d_M_length_24 : decode prog_3_method_19_code 24 = .ok (.lcmp, 1) := by decide +kernel
theorem d_M_length_25 : decode prog_3_method_19_code 25 = .ok (.ifCond .ne (25), 3) := by decide +kernel
theorem d_M_length_28 : decode prog_3_method_19_code 28 = .ok (.aload_n 0, 1) := by decide +kernel
theorem d_M_length_29 : decode prog_3_method_19_code 29 = .ok (.bipush (14), 2) := by decide +kernel
theorem d_M_length_31 : decode prog_3_method_19_code 31 = .ok (.invokevirtual 70, 3) := by decide +kernel
theorem d_M_length_34 : decode prog_3_method_19_code 34 = .ok (.l2i, 1) := by decide +kernel
theorem d_M_length_35 : decode prog_3_method_19_code 35 = .ok (.istore_n 1, 1) := by decide +kernel
theorem d_M_length_36 : decode prog_3_method_19_code 36 = .ok (.iload_n 1, 1) := by decide +kernel
theorem d_M_length_37 : decode prog_3_method_19_code 37 = .ok (.sipush (128), 3) := by decide +kernel
theorem d_M_length_40 : decode prog_3_method_19_code 40 = .ok (.if_icmp .ge (8), 3) := by decide +kernel
theorem d_M_length_43 : decode prog_3_method_19_code 43 = .ok (.aload_n 0, 1) := by decide +kernel
theorem d_M_length_44 : decode prog_3_method_19_code 44 = .ok (.iconst (0), 1) := by decide +kernel
theorem d_M_length_45 : decode prog_3_method_19_code 45 = .ok (.putfield 60, 3) := by decide +kernel
theorem d_M_length_48 : decode prog_3_method_19_code 48 = .ok (.iload_n 1, 1) := by decide +kernel
theorem d_M_length_49 : decode prog_3_method_19_code 49 = .ok (.ireturn, 1) := by decide +kernel
theorem d_M_length_50 : decode prog_3_method_19_code 50 = .ok (.aload_n 0, 1) := by decide +kernel
theorem d_M_length_51 : decode prog_3_method_19_code 51 = .ok (.bipush (6), 2) := by decide +kernel
theorem d_M_length_53 : decode prog_3_method_19_code 53 = .ok (.invokevirtual 70, 3) := by decide +kernel
theorem d_M_length_56 : decode prog_3_method_19_code 56 = .ok (.l2i, 1) := by decide +kernel
theorem d_M_length_57 : decode prog_3_method_19_code 57 = .ok (.istore_n 1, 1) := by decide +kernel
theorem d_M_length_58 : decode prog_3_method_19_code 58 = .ok (.iload_n 1, 1) := by decide +kernel
theorem d_M_length_59 : decode prog_3_method_19_code 59 = .ok (.iconst (1), 1) := by decide +kernel
theorem d_M_length_60 : decode prog_3_method_19_code 60 = .ok (.if_icmp .lt (8), 3) := by decide +kernel
theorem d_M_length_63 : decode prog_3_method_19_code 63 = .ok (.iload_n 1, 1) := by decide +kernel
theorem d_M_length_64 : decode prog_3_method_19_code 64 = .ok (.iconst (4), 1) := by decide +kernel
theorem d_M_length_65 : decode prog_3_method_19_code 65 = .ok (.if_icmp .le (8), 3) := by decide +kernel
theorem d_M_length_68 : decode prog_3_method_19_code 68 = .ok (.aload_n 0, 1) := by decide +kernel
theorem d_M_length_69 : decode prog_3_method_19_code 69 = .ok (.iconst (0), 1) := by decide +kernel
theorem d_M_length_70 : decode prog_3_method_19_code 70 = .ok (.putfield 60, 3) := by decide +kernel
theorem d_M_length_73 : decode prog_3_method_19_code 73 = .ok (.sipush (16384), 3) := by decide +kernel
theorem d_M_length_76 : decode prog_3_method_19_code 76 = .ok (.iload_n 1, 1) := by decide +kernel
theorem d_M_length_77 : decode prog_3_method_19_code 77 = .ok (.imul, 1) := by decide +kernel
theorem d_M_length_78 : decode prog_3_method_19_code 78 = .ok (.ireturn, 1) := by decide +kernel
theorem d_M_takeLength_0 : decode prog_3_method_20_code 0 = .ok (.aload_n 0, 1) := by decide +kernel
theorem d_M_takeLength_1 : decode prog_3_method_20_code 1 = .ok (.invokevirtual 67, 3) := by decide +kernel
theorem d_M_takeLength_4 : decode prog_3_method_20_code 4 = .ok (.aload_n 0, 1) := by decide +kernel
theorem d_M_takeLength_5 : decode prog_3_method_20_code 5 = .ok (.aload_n 0, 1) := by decide +kernel
theorem d_M_takeLength_6 : decode prog_3_method_20_code 6 = .ok (.invokevirtual 78, 3) := by decide +kernel
theorem d_M_takeLength_9 : decode prog_3_method_20_code 9 = .ok (.i2l, 1) := by decide +kernel
theorem d_M_takeLength_10 : decode prog_3_method_20_code 10 = .ok (.iconst (1), 1) := by decide +kernel
theorem d_M_takeLength_11 : decode prog_3_method_20_code 11 = .ok (.invokevirtual 74, 3) := by decide +kernel
theorem d_M_takeLength_14 : decode prog_3_method_20_code 14 = .ok (.l2i, 1) := by decide +kernel
theorem d_M_takeLength_15 : decode prog_3_method_20_code 15 = .ok (.ireturn, 1) := by decide +kernel
theorem d_M_takeNumber_0 : decode prog_3_method_21_code 0 = .ok (.aload_n 0, 1) := by decide +kernel
theorem d_M_takeNumber_1 : decode prog_3_method_21_code 1 = .ok (.invokevirtual 67, 3) := by decide +kernel
theorem d_M_takeNumber_4 : decode prog_3_method_21_code 4 = .ok (.iload_n 1, 1) := by decide +kernel
theorem d_M_takeNumber_5 : decode prog_3_method_21_code 5 = .ok (.ifCond .lt (8), 3) := by decide +kernel
theorem d_M_takeNumber_8 : decode prog_3_method_21_code 8 = .ok (.iload_n 1, 1) := by decide +kernel
theorem d_M_takeNumber_9 : decode prog_3_method_21_code 9 = .ok (.iconst (2), 1) := by decide +kernel
theorem d_M_takeNumber_10 : decode prog_3_method_21_code 10 = .ok (.if_icmp .le (10), 3) := by decide +kernel
theorem d_M_takeNumber_13 : decode prog_3_method_21_code 13 = .ok (.aload_n 0, 1) := by decide +kernel
theorem d_M_takeNumber_14 : decode prog_3_method_21_code 14 = .ok (.iconst (1), 1) := by decide +kernel
theorem d_M_takeNumber_15 : decode prog_3_method_21_code 15 = .ok (.invokevirtual 27, 3) := by decide +kernel
theorem d_M_takeNumber_18 : decode prog_3_method_21_code 18 = .ok (.i2l, 1) := by decide +kernel
theorem d_M_takeNumber_19 : decode prog_3_method_21_code 19 = .ok (.lreturn, 1) := by decide +kernel
theorem d_M_takeNumber_20 : decode prog_3_method_21_code 20 = .ok (.iload_n 1, 1) := by decide +kernel
theorem d_M_takeNumber_21 : decode prog_3_method_21_code 21 = .ok (.iconst (2), 1) := by decide +kernel
theorem d_M_takeNumber_22 : decode prog_3_method_21_code 22 = .ok (.if_icmp .ne (25), 3) := by decide +kernel
theorem d_M_takeNumber_25 : decode prog_3_method_21_code 25 = .ok (.aload_n 0, 1) := by decide +kernel
theorem d_M_takeNumber_26 : decode prog_3_method_21_code 26 = .ok (.iconst (1), 1) := by decide +kernel
theorem d_M_takeNumber_27 : decode prog_3_method_21_code 27 = .ok (.invokevirtual 70, 3) := by decide +kernel
theorem d_M_takeNumber_30 : decode prog_3_method_21_code 30 = .ok (.lconst 0, 1) := by decide +kernel
theorem d_M_takeNumber_31 : decode prog_3_method_21_code 31 = .ok (.lcmp, 1) := by decide +kernel
theorem d_M_takeNumber_32 : decode prog_3_method_21_code 32 = .ok (.ifCond .ne (15), 3) := by decide +kernel
theorem d_M_takeNumber_35 : decode prog_3_method_21_code 35 = .ok (.aload_n 0, 1) := by decide +kernel
theorem d_M_takeNumber_36 : decode prog_3_method_21_code 36 = .ok (.aload_n 0, 1) := by decide +kernel
theorem d_M_takeNumber_37 : decode prog_3_method_21_code 37 = .ok (.bipush (6), 2) := by decide +kernel
theorem d_M_takeNumber_39 : decode prog_3_method_21_code 39 = .ok (.invokevirtual 70, 3) := by decide +kernel
theorem d_M_takeNumber_42 : decode prog_3_method_21_code 42 = .ok (.iconst (2), 1) := by decide +kernel
theorem d_M_takeNumber_43 : decode prog_3_method_21_code 43 = .ok (.invokevirtual 74, 3) := by decide +kernel
theorem d_M_takeNumber_46 : decode prog_3_method_21_code 46 = .ok (.lreturn, 1) := by decide +kernel
theorem d_M_takeNumber_47 : decode prog_3_method_21_code 47 = .ok (.aload_n 0, 1) := by decide +kernel
theorem d_M_takeNumber_48 : decode prog_3_method_21_code 48 = .ok (.invokevirtual 78, 3) := by decide +kernel
theorem d_M_takeNumber_51 : decode prog_3_method_21_code 51 = .ok (.istore_n 2, 1) := by decide +kernel
theorem d_M_takeNumber_52 : decode prog_3_method_21_code 52 = .ok (.iload_n 2, 1) := by decide +kernel
theorem d_M_takeNumber_53 : decode prog_3_method_21_code 53 = .ok (.iconst (1), 1) := by decide +kernel
theorem d_M_takeNumber_54 : decode prog_3_method_21_code 54 = .ok (.if_icmp .lt (9), 3) := by decide +kernel
theorem d_M_takeNumber_57 : decode prog_3_method_21_code 57 = .ok (.iload_n 2, 1) := by decide +kernel
theorem d_M_takeNumber_58 : decode prog_3_method_21_code 58 = .ok (.bipush (8), 2) := by decide +kernel
theorem d_M_takeNumber_60 : decode prog_3_method_21_code 60 = .ok (.if_icmp .le (8), 3) := by decide +kernel
theorem d_M_takeNumber_63 : decode prog_3_method_21_code 63 = .ok (.aload_n 0, 1) := by decide +kernel
theorem d_M_takeNumber_64 : decode prog_3_method_21_code 64 = .ok (.iconst (0), 1) := by decide +kernel
theorem d_M_takeNumber_65 : decode prog_3_method_21_code 65 = .ok (.putfield 60, 3) := by decide +kernel
theorem d_M_takeNumber_68 : decode prog_3_method_21_code 68 = .ok (.aload_n 0, 1) := by decide +kernel
theorem d_M_takeNumber_69 : decode prog_3_method_21_code 69 = .ok (.getfield 60, 3) := by decide +kernel
theorem d_M_takeNumber_72 : decode prog_3_method_21_code 72 = .ok (.ifCond .ne (10), 3) := by decide +kernel
theorem d_M_takeNumber_75 : decode prog_3_method_21_code 75 = .ok (.aload_n 0, 1) := by decide +kernel
theorem d_M_takeNumber_76 : decode prog_3_method_21_code 76 = .ok (.iconst (2), 1) := by decide +kernel
theorem d_M_takeNumber_77 : decode prog_3_method_21_code 77 = .ok (.invokevirtual 27, 3) := by decide +kernel
theorem d_M_takeNumber_80 : decode prog_3_method_21_code 80 = .ok (.i2l, 1) := by decide +kernel
theorem d_M_takeNumber_81 : decode prog_3_method_21_code 81 = .ok (.lreturn, 1) := by decide +kernel
theorem d_M_takeNumber_82 : decode prog_3_method_21_code 82 = .ok (.aload_n 0, 1) := by decide +kernel
theorem d_M_takeNumber_83 : decode prog_3_method_21_code 83 = .ok (.bipush (8), 2) := by decide +kernel
theorem d_M_takeNumber_85 : decode prog_3_method_21_code 85 = .ok (.iload_n 2, 1) := by decide +kernel
theorem d_M_takeNumber_86 : decode prog_3_method_21_code 86 = .ok (.imul, 1) := by decide +kernel
theorem d_M_takeNumber_87 : decode prog_3_method_21_code 87 = .ok (.invokevirtual 70, 3) := by decide +kernel
theorem d_M_takeNumber_90 : decode prog_3_method_21_code 90 = .ok (.lstore_n 3, 1) := by decide +kernel
theorem d_M_takeNumber_91 : decode prog_3_method_21_code 91 = .ok (.iload_n 1, 1) := by decide +kernel
theorem d_M_takeNumber_92 : decode prog_3_method_21_code 92 = .ok (.iconst (1), 1) := by decide +kernel
theorem d_M_takeNumber_93 : decode prog_3_method_21_code 93 = .ok (.if_icmp .ne (21), 3) := by decide +kernel
theorem d_M_takeNumber_96 : decode prog_3_method_21_code 96 = .ok (.lload_n 3, 1) := by decide +kernel
theorem d_M_takeNumber_97 : decode prog_3_method_21_code 97 = .ok (.bipush (64), 2) := by decide +kernel
theorem d_M_takeNumber_99 : decode prog_3_method_21_code 99 = .ok (.bipush (8), 2) := by decide +kernel
theorem d_M_takeNumber_101 : decode prog_3_method_21_code 101 = .ok (.iload_n 2, 1) := by decide +kernel
theorem d_M_takeNumber_102 : decode prog_3_method_21_code 102 = .ok (.imul, 1) := by decide +kernel
theorem d_M_takeNumber_103 : decode prog_3_method_21_code 103 = .ok (.isub, 1) := by decide +kernel
theorem d_M_takeNumber_104 : decode prog_3_method_21_code 104 = .ok (.lshl, 1) := by decide +kernel
theorem d_M_takeNumber_105 : decode prog_3_method_21_code 105 = .ok (.bipush (64), 2) := by decide +kernel
theorem d_M_takeNumber_107 : decode prog_3_method_21_code 107 = .ok (.bipush (8), 2) := by decide +kernel
theorem d_M_takeNumber_109 : decode prog_3_method_21_code 109 = .ok (.iload_n 2, 1) := by decide +kernel
theorem d_M_takeNumber_110 : decode prog_3_method_21_code 110 = .ok (.imul, 1) := by decide +kernel
theorem d_M_takeNumber_111 : decode prog_3_method_21_code 111 = .ok (.isub, 1) := by decide +kernel
theorem d_M_takeNumber_112 : decode prog_3_method_21_code 112 = .ok (.lshr, 1) := by decide +kernel
theorem d_M_takeNumber_113 : decode prog_3_method_21_code 113 = .ok (.lstore_n 3, 1) := by decide +kernel
theorem d_M_takeNumber_114 : decode prog_3_method_21_code 114 = .ok (.iload_n 2, 1) := by decide +kernel
theorem d_M_takeNumber_115 : decode prog_3_method_21_code 115 = .ok (.iload_n 1, 1) := by decide +kernel
theorem d_M_takeNumber_116 : decode prog_3_method_21_code 116 = .ok (.iconst (1), 1) := by decide +kernel
theorem d_M_takeNumber_117 : decode prog_3_method_21_code 117 = .ok (.if_icmp .ne (11), 3) := by decide +kernel
theorem d_M_takeNumber_120 : decode prog_3_method_21_code 120 = .ok (.aload_n 0, 1) := by decide +kernel
theorem d_M_takeNumber_121 : decode prog_3_method_21_code 121 = .ok (.lload_n 3, 1) := by decide +kernel
theorem d_M_takeNumber_122 : decode prog_3_method_21_code 122 = .ok (.invokevirtual 51, 3) := by decide +kernel
theorem d_M_takeNumber_125 : decode prog_3_method_21_code 125 = .ok (.goto (8), 3) := by decide +kernel
theorem d_M_takeNumber_128 : decode prog_3_method_21_code 128 = .ok (.aload_n 0, 1) := by decide +kernel
theorem d_M_takeNumber_129 : decode prog_3_method_21_code 129 = .ok (.lload_n 3, 1) := by decide +kernel
theorem d_M_takeNumber_130 : decode prog_3_method_21_code 130 = .ok (.invokevirtual 54, 3) := by decide +kernel
theorem d_M_takeNumber_133 : decode prog_3_method_21_code 133 = .ok (.if_icmp .ne (22), 3) := by decide +kernel
theorem d_M_takeNumber_136 : decode prog_3_method_21_code 136 = .ok (.iload_n 1, 1) := by decide +kernel
theorem d_M_takeNumber_137 : decode prog_3_method_21_code 137 = .ok (.iconst (2), 1) := by decide +kernel
theorem d_M_takeNumber_138 : decode prog_3_method_21_code 138 = .ok (.if_icmp .ne (22), 3) := by decide +kernel
theorem d_M_takeNumber_141 : decode prog_3_method_21_code 141 = .ok (.lload_n 3, 1) := by decide +kernel
theorem d_M_takeNumber_142 : decode prog_3_method_21_code 142 = .ok (.lconst 0, 1) := by decide +kernel
theorem d_M_takeNumber_143 : decode prog_3_method_21_code 143 = .ok (.lcmp, 1) := by decide +kernel
theorem d_M_takeNumber_144 : decode prog_3_method_21_code 144 = .ok (.ifCond .lt (16), 3) := by decide +kernel
theorem d_M_takeNumber_147 : decode prog_3_method_21_code 147 = .ok (.lload_n 3, 1) := by decide +kernel
theorem d_M_takeNumber_148 : decode prog_3_method_21_code 148 = .ok (.ldc2_w 49, 3) := by decide +kernel
theorem d_M_takeNumber_151 : decode prog_3_method_21_code 151 = .ok (.lcmp, 1) := by decide +kernel
theorem d_M_takeNumber_152 : decode prog_3_method_21_code 152 = .ok (.ifCond .ge (8), 3) := by decide +kernel
theorem d_M_takeNumber_155 : decode prog_3_method_21_code 155 = .ok (.aload_n 0, 1) := by decide +kernel
theorem d_M_takeNumber_156 : decode prog_3_method_21_code 156 = .ok (.iconst (0), 1) := by decide +kernel
theorem d_M_takeNumber_157 : decode prog_3_method_21_code 157 = .ok (.putfield 60, 3) := by decide +kernel
theorem d_M_takeNumber_160 : decode prog_3_method_21_code 160 = .ok (.aload_n 0, 1) := by decide +kernel
theorem d_M_takeNumber_161 : decode prog_3_method_21_code 161 = .ok (.lload_n 3, 1) := by decide +kernel
theorem d_M_takeNumber_162 : decode prog_3_method_21_code 162 = .ok (.iconst (2), 1) := by decide +kernel
theorem d_M_takeNumber_163 : decode prog_3_method_21_code 163 = .ok (.invokevirtual 74, 3) := by decide +kernel
theorem d_M_takeNumber_166 : decode prog_3_method_21_code 166 = .ok (.lreturn, 1) := by decide +kernel
theorem d_M_go_0 : decode prog_3_method_22_code 0 = .ok (.aload_n 0, 1) := by decide +kernel
theorem d_M_go_1 : decode prog_3_method_22_code 1 = .ok (.iconst (0), 1) := by decide +kernel
theorem d_M_go_2 : decode prog_3_method_22_code 2 = .ok (.putfield 14, 3) := by decide +kernel
theorem d_M_go_5 : decode prog_3_method_22_code 5 = .ok (.iload_n 1, 1) := by decide +kernel
theorem d_M_go_6 : decode prog_3_method_22_code 6 = .ok (.ifCond .lt (11), 3) := by decide +kernel
theorem d_M_go_9 : decode prog_3_method_22_code 9 = .ok (.iload_n 1, 1) := by decide +kernel
theorem d_M_go_10 : decode prog_3_method_22_code 10 = .ok (.aload_n 0, 1) := by decide +kernel
theorem d_M_go_11 : decode prog_3_method_22_code 11 = .ok (.getfield 24, 3) := by decide +kernel
theorem d_M_go_14 : decode prog_3_method_22_code 14 = .ok (.if_icmp .le (9), 3) := by decide +kernel
theorem d_M_go_17 : decode prog_3_method_22_code 17 = .ok (.aload_n 0, 1) := by decide +kernel
theorem d_M_go_18 : decode prog_3_method_22_code 18 = .ok (.iconst (1), 1) := by decide +kernel
theorem d_M_go_19 : decode prog_3_method_22_code 19 = .ok (.invokevirtual 27, 3) := by decide +kernel
theorem d_M_go_22 : decode prog_3_method_22_code 22 = .ok (.ireturn, 1) := by decide +kernel
theorem d_M_go_23 : decode prog_3_method_22_code 23 = .ok (.aload_n 0, 1) := by decide +kernel
theorem d_M_go_24 : decode prog_3_method_22_code 24 = .ok (.getfield 64, 3) := by decide +kernel
theorem d_M_go_27 : decode prog_3_method_22_code 27 = .ok (.istore_n 2, 1) := by decide +kernel
theorem d_M_go_28 : decode prog_3_method_22_code 28 = .ok (.aload_n 0, 1) := by decide +kernel
theorem d_M_go_29 : decode prog_3_method_22_code 29 = .ok (.iload_n 1, 1) := by decide +kernel
theorem d_M_go_30 : decode prog_3_method_22_code 30 = .ok (.putfield 64, 3) := by decide +kernel
theorem d_M_go_33 : decode prog_3_method_22_code 33 = .ok (.iload_n 2, 1) := by decide +kernel
theorem d_M_go_34 : decode prog_3_method_22_code 34 = .ok (.ireturn, 1) := by decide +kernel
theorem d_M_turn_0 : decode prog_3_method_23_code 0 = .ok (.aload_n 0, 1) := by decide +kernel
theorem d_M_turn_1 : decode prog_3_method_23_code 1 = .ok (.iconst (0), 1) := by decide +kernel
theorem d_M_turn_2 : decode prog_3_method_23_code 2 = .ok (.putfield 14, 3) := by decide +kernel
theorem d_M_turn_5 : decode prog_3_method_23_code 5 = .ok (.iload_n 1, 1) := by decide +kernel
theorem d_M_turn_6 : decode prog_3_method_23_code 6 = .ok (.ifCond .lt (11), 3) := by decide +kernel
theorem d_M_turn_9 : decode prog_3_method_23_code 9 = .ok (.iload_n 1, 1) := by decide +kernel
theorem d_M_turn_10 : decode prog_3_method_23_code 10 = .ok (.aload_n 0, 1) := by decide +kernel
theorem d_M_turn_11 : decode prog_3_method_23_code 11 = .ok (.getfield 24, 3) := by decide +kernel
theorem d_M_turn_14 : decode prog_3_method_23_code 14 = .ok (.if_icmp .lt (17), 3) := by decide +kernel
theorem d_M_turn_17 : decode prog_3_method_23_code 17 = .ok (.aload_n 0, 1) := by decide +kernel
theorem d_M_turn_18 : decode prog_3_method_23_code 18 = .ok (.iconst (1), 1) := by decide +kernel
theorem d_M_turn_19 : decode prog_3_method_23_code 19 = .ok (.invokevirtual 27, 3) := by decide +kernel
theorem d_M_turn_22 : decode prog_3_method_23_code 22 = .ok (.ifCond .le (7), 3) := by decide +kernel
theorem d_M_turn_25 : decode prog_3_method_23_code 25 = .ok (.iconst (1), 1) := by decide +kernel
theorem d_M_turn_26 : decode prog_3_method_23_code 26 = .ok (.goto (4), 3) := by decide +kernel
theorem d_M_turn_29 : decode prog_3_method_23_code 29 = .ok (.iconst (0), 1) := by decide +kernel
theorem d_M_turn_30 : decode prog_3_method_23_code 30 = .ok (.ireturn, 1) := by decide +kernel
theorem d_M_turn_31 : decode prog_3_method_23_code 31 = .ok (.aload_n 0, 1) := by decide +kernel
theorem d_M_turn_32 : decode prog_3_method_23_code 32 = .ok (.getfield 8, 3) := by decide +kernel
theorem d_M_turn_35 : decode prog_3_method_23_code 35 = .ok (.iload_n 1, 1) := by decide +kernel
theorem d_M_turn_36 : decode prog_3_method_23_code 36 = .ok (.aload_n 0, 1) := by decide +kernel
theorem d_M_turn_37 : decode prog_3_method_23_code 37 = .ok (.getfield 8, 3) := by decide +kernel
theorem d_M_turn_40 : decode prog_3_method_23_code 40 = .ok (.iload_n 1, 1) := by decide +kernel
theorem d_M_turn_41 : decode prog_3_method_23_code 41 = .ok (.baload, 1) := by decide +kernel
theorem d_M_turn_42 : decode prog_3_method_23_code 42 = .ok (.ifCond .ne (7), 3) := by decide +kernel
theorem d_M_turn_45 : decode prog_3_method_23_code 45 = .ok (.iconst (1), 1) := by decide +kernel
theorem d_M_turn_46 : decode prog_3_method_23_code 46 = .ok (.goto (4), 3) := by decide +kernel
theorem d_M_turn_49 : decode prog_3_method_23_code 49 = .ok (.iconst (0), 1) := by decide +kernel
theorem d_M_turn_50 : decode prog_3_method_23_code 50 = .ok (.bastore, 1) := by decide +kernel
theorem d_M_turn_51 : decode prog_3_method_23_code 51 = .ok (.aload_n 0, 1) := by decide +kernel
theorem d_M_turn_52 : decode prog_3_method_23_code 52 = .ok (.getfield 8, 3) := by decide +kernel
theorem d_M_turn_55 : decode prog_3_method_23_code 55 = .ok (.iload_n 1, 1) := by decide +kernel
theorem d_M_turn_56 : decode prog_3_method_23_code 56 = .ok (.baload, 1) := by decide +kernel
theorem d_M_turn_57 : decode prog_3_method_23_code 57 = .ok (.ireturn, 1) := by decide +kernel
theorem d_M_cut_0 : decode prog_3_method_24_code 0 = .ok (.aload_n 0, 1) := by decide +kernel
theorem d_M_cut_1 : decode prog_3_method_24_code 1 = .ok (.iconst (0), 1) := by decide +kernel
theorem d_M_cut_2 : decode prog_3_method_24_code 2 = .ok (.putfield 14, 3) := by decide +kernel
theorem d_M_cut_5 : decode prog_3_method_24_code 5 = .ok (.iload_n 1, 1) := by decide +kernel
theorem d_M_cut_6 : decode prog_3_method_24_code 6 = .ok (.ifCond .lt (11), 3) := by decide +kernel
theorem d_M_cut_9 : decode prog_3_method_24_code 9 = .ok (.iload_n 1, 1) := by decide +kernel
theorem d_M_cut_10 : decode prog_3_method_24_code 10 = .ok (.aload_n 0, 1) := by decide +kernel
theorem d_M_cut_11 : decode prog_3_method_24_code 11 = .ok (.getfield 24, 3) := by decide +kernel
theorem d_M_cut_14 : decode prog_3_method_24_code 14 = .ok (.if_icmp .le (9), 3) := by decide +kernel
theorem d_M_cut_17 : decode prog_3_method_24_code 17 = .ok (.aload_n 0, 1) := by decide +kernel
theorem d_M_cut_18 : decode prog_3_method_24_code 18 = .ok (.iconst (1), 1) := by decide +kernel
theorem d_M_cut_19 : decode prog_3_method_24_code 19 = .ok (.invokevirtual 27, 3) := by decide +kernel
theorem d_M_cut_22 : decode prog_3_method_24_code 22 = .ok (.ireturn, 1) := by decide +kernel
theorem d_M_cut_23 : decode prog_3_method_24_code 23 = .ok (.aload_n 0, 1) := by decide +kernel
theorem d_M_cut_24 : decode prog_3_method_24_code 24 = .ok (.getfield 24, 3) := by decide +kernel
theorem d_M_cut_27 : decode prog_3_method_24_code 27 = .ok (.istore_n 2, 1) := by decide +kernel
theorem d_M_cut_28 : decode prog_3_method_24_code 28 = .ok (.aload_n 0, 1) := by decide +kernel
theorem d_M_cut_29 : decode prog_3_method_24_code 29 = .ok (.iload_n 1, 1) := by decide +kernel
theorem d_M_cut_30 : decode prog_3_method_24_code 30 = .ok (.putfield 24, 3) := by decide +kernel
theorem d_M_cut_33 : decode prog_3_method_24_code 33 = .ok (.aload_n 0, 1) := by decide +kernel
theorem d_M_cut_34 : decode prog_3_method_24_code 34 = .ok (.aload_n 0, 1) := by decide +kernel
theorem d_M_cut_35 : decode prog_3_method_24_code 35 = .ok (.getfield 64, 3) := by decide +kernel
theorem d_M_cut_38 : decode prog_3_method_24_code 38 = .ok (.iload_n 1, 1) := by decide +kernel
theorem d_M_cut_39 : decode prog_3_method_24_code 39 = .ok (.invokestatic 39, 3) := by decide +kernel
theorem d_M_cut_42 : decode prog_3_method_24_code 42 = .ok (.putfield 64, 3) := by decide +kernel
theorem d_M_cut_45 : decode prog_3_method_24_code 45 = .ok (.iload_n 2, 1) := by decide +kernel
theorem d_M_cut_46 : decode prog_3_method_24_code 46 = .ok (.ireturn, 1) := by decide +kernel
theorem d_M_count_0 : decode prog_3_method_25_code 0 = .ok (.aload_n 0, 1) := by decide +kernel
theorem d_M_count_1 : decode prog_3_method_25_code 1 = .ok (.iconst (0), 1) := by decide +kernel
theorem d_M_count_2 : decode prog_3_method_25_code 2 = .ok (.putfield 14, 3) := by decide +kernel
theorem d_M_count_5 : decode prog_3_method_25_code 5 = .ok (.iload_n 1, 1) := by decide +kernel
theorem d_M_count_6 : decode prog_3_method_25_code 6 = .ok (.ifCond .ne (10), 3) := by decide +kernel
theorem d_M_count_9 : decode prog_3_method_25_code 9 = .ok (.aload_n 0, 1) := by decide +kernel
theorem d_M_count_10 : decode prog_3_method_25_code 10 = .ok (.getfield 24, 3) := by decide +kernel
theorem d_M_count_13 : decode prog_3_method_25_code 13 = .ok (.goto (20), 3) := by decide +kernel
theorem d_M_count_16 : decode prog_3_method_25_code 16 = .ok (.iload_n 1, 1) := by decide +kernel
theorem d_M_count_17 : decode prog_3_method_25_code 17 = .ok (.iconst (1), 1) := by decide +kernel
theorem d_M_count_18 : decode prog_3_method_25_code 18 = .ok (.if_icmp .ne (10), 3) := by decide +kernel
theorem d_M_count_21 : decode prog_3_method_25_code 21 = .ok (.aload_n 0, 1) := by decide +kernel
theorem d_M_count_22 : decode prog_3_method_25_code 22 = .ok (.getfield 64, 3) := by decide +kernel
theorem d_M_count_25 : decode prog_3_method_25_code 25 = .ok (.goto (8), 3) := by decide +kernel
theorem d_M_count_28 : decode prog_3_method_25_code 28 = .ok (.aload_n 0, 1) := by decide +kernel
theorem d_M_count_29 : decode prog_3_method_25_code 29 = .ok (.iconst (1), 1) := by decide +kernel
theorem d_M_count_30 : decode prog_3_method_25_code 30 = .ok (.invokevirtual 27, 3) := by decide +kernel
theorem d_M_count_33 : decode prog_3_method_25_code 33 = .ok (.ireturn, 1) := by decide +kernel
theorem d_L_put_0 : decode method_3_code 0 = .ok (.aload 4, 2) := by decide +kernel
theorem d_L_put_2 : decode method_3_code 2 = .ok (.iconst (0), 1) := by decide +kernel
theorem d_L_put_3 : decode method_3_code 3 = .ok (.aload_n 0, 1) := by decide +kernel
theorem d_L_put_4 : decode method_3_code 4 = .ok (.lload_n 1, 1) := by decide +kernel
theorem d_L_put_5 : decode method_3_code 5 = .ok (.iload_n 3, 1) := by decide +kernel
theorem d_L_put_6 : decode method_3_code 6 = .ok (.invokevirtual 7, 3) := by decide +kernel
theorem d_L_put_9 : decode method_3_code 9 = .ok (.i2l, 1) := by decide +kernel
theorem d_L_put_10 : decode method_3_code 10 = .ok (.lastore, 1) := by decide +kernel
theorem d_L_put_11 : decode method_3_code 11 = .ok (.goto (11), 3) := by decide +kernel
theorem d_L_put_14 : decode method_3_code 14 = .ok (.astore 5, 2) := by decide +kernel
theorem d_L_put_16 : decode method_3_code 16 = .ok (.iconst (1), 1) := by decide +kernel
theorem d_L_put_17 : decode method_3_code 17 = .ok (.ireturn, 1) := by decide +kernel
theorem d_L_put_18 : decode method_3_code 18 = .ok (.astore 5, 2) := by decide +kernel
theorem d_L_put_20 : decode method_3_code 20 = .ok (.iconst (2), 1) := by decide +kernel
theorem d_L_put_21 : decode method_3_code 21 = .ok (.ireturn, 1) := by decide +kernel
theorem d_L_put_22 : decode method_3_code 22 = .ok (.iconst (0), 1) := by decide +kernel
theorem d_L_put_23 : decode method_3_code 23 = .ok (.ireturn, 1) := by decide +kernel
theorem d_L_putRange_0 : decode method_4_code 0 = .ok (.aload 7, 2) := by decide +kernel
theorem d_L_putRange_2 : decode method_4_code 2 = .ok (.iconst (0), 1) := by decide +kernel
theorem d_L_putRange_3 : decode method_4_code 3 = .ok (.aload_n 0, 1) := by decide +kernel
theorem d_L_putRange_4 : decode method_4_code 4 = .ok (.lload_n 1, 1) := by decide +kernel
theorem d_L_putRange_5 : decode method_4_code 5 = .ok (.lload_n 3, 1) := by decide +kernel
theorem d_L_putRange_6 : decode method_4_code 6 = .ok (.lload 5, 2) := by decide +kernel
theorem d_L_putRange_8 : decode method_4_code 8 = .ok (.invokevirtual 17, 3) := by decide +kernel
theorem d_L_putRange_11 : decode method_4_code 11 = .ok (.i2l, 1) := by decide +kernel
theorem d_L_putRange_12 : decode method_4_code 12 = .ok (.lastore, 1) := by decide +kernel
theorem d_L_putRange_13 : decode method_4_code 13 = .ok (.goto (11), 3) := by decide +kernel
theorem d_L_putRange_16 : decode method_4_code 16 = .ok (.astore 8, 2) := by decide +kernel
theorem d_L_putRange_18 : decode method_4_code 18 = .ok (.iconst (1), 1) := by decide +kernel
theorem d_L_putRange_19 : decode method_4_code 19 = .ok (.ireturn, 1) := by decide +kernel
theorem d_L_putRange_20 : decode method_4_code 20 = .ok (.astore 8, 2) := by decide +kernel
theorem d_L_putRange_22 : decode method_4_code 22 = .ok (.iconst (2), 1) := by decide +kernel
theorem d_L_putRange_23 : decode method_4_code 23 = .ok (.ireturn, 1) := by decide +kernel
theorem d_L_putRange_24 : decode method_4_code 24 = .ok (.iconst (0), 1) := by decide +kernel
theorem d_L_putRange_25 : decode method_4_code 25 = .ok (.ireturn, 1) := by decide +kernel
theorem d_L_putLength_0 : decode method_5_code 0 = .ok (.aload_n 2, 1) := by decide +kernel
theorem d_L_putLength_1 : decode method_5_code 1 = .ok (.iconst (0), 1) := by decide +kernel
theorem d_L_putLength_2 : decode method_5_code 2 = .ok (.aload_n 0, 1) := by decide +kernel
theorem d_L_putLength_3 : decode method_5_code 3 = .ok (.iload_n 1, 1) := by decide +kernel
theorem d_L_putLength_4 : decode method_5_code 4 = .ok (.invokevirtual 21, 3) := by decide +kernel
theorem d_L_putLength_7 : decode method_5_code 7 = .ok (.i2l, 1) := by decide +kernel
theorem d_L_putLength_8 : decode method_5_code 8 = .ok (.lastore, 1) := by decide +kernel
theorem d_L_putLength_9 : decode method_5_code 9 = .ok (.goto (9), 3) := by decide +kernel
theorem d_L_putLength_12 : decode method_5_code 12 = .ok (.astore_n 3, 1) := by decide +kernel
theorem d_L_putLength_13 : decode method_5_code 13 = .ok (.iconst (1), 1) := by decide +kernel
theorem d_L_putLength_14 : decode method_5_code 14 = .ok (.ireturn, 1) := by decide +kernel
theorem d_L_putLength_15 : decode method_5_code 15 = .ok (.astore_n 3, 1) := by decide +kernel
theorem d_L_putLength_16 : decode method_5_code 16 = .ok (.iconst (2), 1) := by decide +kernel
theorem d_L_putLength_17 : decode method_5_code 17 = .ok (.ireturn, 1) := by decide +kernel
theorem d_L_putLength_18 : decode method_5_code 18 = .ok (.iconst (0), 1) := by decide +kernel
theorem d_L_putLength_19 : decode method_5_code 19 = .ok (.ireturn, 1) := by decide +kernel
theorem d_L_putNumber_0 : decode method_6_code 0 = .ok (.aload 4, 2) := by decide +kernel
theorem d_L_putNumber_2 : decode method_6_code 2 = .ok (.iconst (0), 1) := by decide +kernel
theorem d_L_putNumber_3 : decode method_6_code 3 = .ok (.aload_n 0, 1) := by decide +kernel
theorem d_L_putNumber_4 : decode method_6_code 4 = .ok (.iload_n 1, 1) := by decide +kernel
theorem d_L_putNumber_5 : decode method_6_code 5 = .ok (.lload_n 2, 1) := by decide +kernel
theorem d_L_putNumber_6 : decode method_6_code 6 = .ok (.invokevirtual 25, 3) := by decide +kernel
theorem d_L_putNumber_9 : decode method_6_code 9 = .ok (.i2l, 1) := by decide +kernel
theorem d_L_putNumber_10 : decode method_6_code 10 = .ok (.lastore, 1) := by decide +kernel
theorem d_L_putNumber_11 : decode method_6_code 11 = .ok (.goto (11), 3) := by decide +kernel
theorem d_L_putNumber_14 : decode method_6_code 14 = .ok (.astore 5, 2) := by decide +kernel
theorem d_L_putNumber_16 : decode method_6_code 16 = .ok (.iconst (1), 1) := by decide +kernel
theorem d_L_putNumber_17 : decode method_6_code 17 = .ok (.ireturn, 1) := by decide +kernel
theorem d_L_putNumber_18 : decode method_6_code 18 = .ok (.astore 5, 2) := by decide +kernel
theorem d_L_putNumber_20 : decode method_6_code 20 = .ok (.iconst (2), 1) := by decide +kernel
theorem d_L_putNumber_21 : decode method_6_code 21 = .ok (.ireturn, 1) := by decide +kernel
theorem d_L_putNumber_22 : decode method_6_code 22 = .ok (.iconst (0), 1) := by decide +kernel
theorem d_L_putNumber_23 : decode method_6_code 23 = .ok (.ireturn, 1) := by decide +kernel
theorem d_L_fill_0 : decode method_7_code 0 = .ok (.aload_n 1, 1) := by decide +kernel
theorem d_L_fill_1 : decode method_7_code 1 = .ok (.iconst (0), 1) := by decide +kernel
theorem d_L_fill_2 : decode method_7_code 2 = .ok (.aload_n 0, 1) := by decide +kernel
theorem d_L_fill_3 : decode method_7_code 3 = .ok (.invokevirtual 29, 3) := by decide +kernel
theorem d_L_fill_6 : decode method_7_code 6 = .ok (.i2l, 1) := by decide +kernel
theorem d_L_fill_7 : decode method_7_code 7 = .ok (.lastore, 1) := by decide +kernel
theorem d_L_fill_8 : decode method_7_code 8 = .ok (.goto (6), 3) := by decide +kernel
theorem d_L_fill_11 : decode method_7_code 11 = .ok (.astore_n 2, 1) := by decide +kernel
theorem d_L_fill_12 : decode method_7_code 12 = .ok (.iconst (1), 1) := by decide +kernel
theorem d_L_fill_13 : decode method_7_code 13 = .ok (.ireturn, 1) := by decide +kernel
theorem d_L_fill_14 : decode method_7_code 14 = .ok (.iconst (0), 1) := by decide +kernel
theorem d_L_fill_15 : decode method_7_code 15 = .ok (.ireturn, 1) := by decide +kernel
theorem d_L_take_0 : decode method_8_code 0 = .ok (.aload_n 2, 1) := by decide +kernel
theorem d_L_take_1 : decode method_8_code 1 = .ok (.iconst (0), 1) := by decide +kernel
theorem d_L_take_2 : decode method_8_code 2 = .ok (.aload_n 0, 1) := by decide +kernel
theorem d_L_take_3 : decode method_8_code 3 = .ok (.iload_n 1, 1) := by decide +kernel
theorem d_L_take_4 : decode method_8_code 4 = .ok (.invokevirtual 33, 3) := by decide +kernel
theorem d_L_take_7 : decode method_8_code 7 = .ok (.lastore, 1) := by decide +kernel
theorem d_L_take_8 : decode method_8_code 8 = .ok (.goto (9), 3) := by decide +kernel
theorem d_L_take_11 : decode method_8_code 11 = .ok (.astore_n 3, 1) := by decide +kernel
theorem d_L_take_12 : decode method_8_code 12 = .ok (.iconst (1), 1) := by decide +kernel
theorem d_L_take_13 : decode method_8_code 13 = .ok (.ireturn, 1) := by decide +kernel
theorem d_L_take_14 : decode method_8_code 14 = .ok (.astore_n 3, 1) := by decide +kernel
theorem d_L_take_15 : decode method_8_code 15 = .ok (.iconst (2), 1) := by decide +kernel
theorem d_L_take_16 : decode method_8_code 16 = .ok (.ireturn, 1) := by decide +kernel
theorem d_L_take_17 : decode method_8_code 17 = .ok (.iconst (0), 1) := by decide +kernel
theorem d_L_take_18 : decode method_8_code 18 = .ok (.ireturn, 1) := by decide +kernel
theorem d_L_takeRange_0 : decode method_9_code 0 = .ok (.aload 5, 2) := by decide +kernel
theorem d_L_takeRange_2 : decode method_9_code 2 = .ok (.iconst (0), 1) := by decide +kernel
theorem d_L_takeRange_3 : decode method_9_code 3 = .ok (.aload_n 0, 1) := by decide +kernel
theorem d_L_takeRange_4 : decode method_9_code 4 = .ok (.lload_n 1, 1) := by decide +kernel
theorem d_L_takeRange_5 : decode method_9_code 5 = .ok (.lload_n 3, 1) := by decide +kernel
theorem d_L_takeRange_6 : decode method_9_code 6 = .ok (.invokevirtual 39, 3) := by decide +kernel
theorem d_L_takeRange_9 : decode method_9_code 9 = .ok (.lastore, 1) := by decide +kernel
theorem d_L_takeRange_10 : decode method_9_code 10 = .ok (.goto (11), 3) := by decide +kernel
theorem d_L_takeRange_13 : decode method_9_code 13 = .ok (.astore 6, 2) := by decide +kernel
theorem d_L_takeRange_15 : decode method_9_code 15 = .ok (.iconst (1), 1) := by decide +kernel
theorem d_L_takeRange_16 : decode method_9_code 16 = .ok (.ireturn, 1) := by decide +kernel
theorem d_L_takeRange_17 : decode method_9_code 17 = .ok (.astore 6, 2) := by decide +kernel
theorem d_L_takeRange_19 : decode method_9_code 19 = .ok (.iconst (2), 1) := by decide +kernel
theorem d_L_takeRange_20 : decode method_9_code 20 = .ok (.ireturn, 1) := by decide +kernel
theorem d_L_takeRange_21 : decode method_9_code 21 = .ok (.iconst (0), 1) := by decide +kernel
theorem d_L_takeRange_22 : decode method_9_code 22 = .ok (.ireturn, 1) := by decide +kernel
theorem d_L_takeLength_0 : decode method_10_code 0 = .ok (.aload_n 1, 1) := by decide +kernel
theorem d_L_takeLength_1 : decode method_10_code 1 = .ok (.iconst (0), 1) := by decide +kernel
theorem d_L_takeLength_2 : decode method_10_code 2 = .ok (.aload_n 0, 1) := by decide +kernel
theorem d_L_takeLength_3 : decode method_10_code 3 = .ok (.invokevirtual 43, 3) := by decide +kernel
theorem d_L_takeLength_6 : decode method_10_code 6 = .ok (.i2l, 1) := by decide +kernel
theorem d_L_takeLength_7 : decode method_10_code 7 = .ok (.lastore, 1) := by decide +kernel
theorem d_L_takeLength_8 : decode method_10_code 8 = .ok (.goto (6), 3) := by decide +kernel
theorem d_L_takeLength_11 : decode method_10_code 11 = .ok (.astore_n 2, 1) := by decide +kernel
theorem d_L_takeLength_12 : decode method_10_code 12 = .ok (.iconst (1), 1) := by decide +kernel
theorem d_L_takeLength_13 : decode method_10_code 13 = .ok (.ireturn, 1) := by decide +kernel
theorem d_L_takeLength_14 : decode method_10_code 14 = .ok (.iconst (0), 1) := by decide +kernel
theorem d_L_takeLength_15 : decode method_10_code 15 = .ok (.ireturn, 1) := by decide +kernel
theorem d_L_takeNumber_0 : decode method_11_code 0 = .ok (.aload_n 2, 1) := by decide +kernel
theorem d_L_takeNumber_1 : decode method_11_code 1 = .ok (.iconst (0), 1) := by decide +kernel
theorem d_L_takeNumber_2 : decode method_11_code 2 = .ok (.aload_n 0, 1) := by decide +kernel
theorem d_L_takeNumber_3 : decode method_11_code 3 = .ok (.iload_n 1, 1) := by decide +kernel
theorem d_L_takeNumber_4 : decode method_11_code 4 = .ok (.invokevirtual 46, 3) := by decide +kernel
theorem d_L_takeNumber_7 : decode method_11_code 7 = .ok (.lastore, 1) := by decide +kernel
theorem d_L_takeNumber_8 : decode method_11_code 8 = .ok (.goto (9), 3) := by decide +kernel
theorem d_L_takeNumber_11 : decode method_11_code 11 = .ok (.astore_n 3, 1) := by decide +kernel
theorem d_L_takeNumber_12 : decode method_11_code 12 = .ok (.iconst (1), 1) := by decide +kernel
theorem d_L_takeNumber_13 : decode method_11_code 13 = .ok (.ireturn, 1) := by decide +kernel
theorem d_L_takeNumber_14 : decode method_11_code 14 = .ok (.astore_n 3, 1) := by decide +kernel
theorem d_L_takeNumber_15 : decode method_11_code 15 = .ok (.iconst (2), 1) := by decide +kernel
theorem d_L_takeNumber_16 : decode method_11_code 16 = .ok (.ireturn, 1) := by decide +kernel
theorem d_L_takeNumber_17 : decode method_11_code 17 = .ok (.iconst (0), 1) := by decide +kernel
theorem d_L_takeNumber_18 : decode method_11_code 18 = .ok (.ireturn, 1) := by decide +kernel
theorem d_L_go_0 : decode method_12_code 0 = .ok (.aload_n 2, 1) := by decide +kernel
theorem d_L_go_1 : decode method_12_code 1 = .ok (.iconst (0), 1) := by decide +kernel
theorem d_L_go_2 : decode method_12_code 2 = .ok (.aload_n 0, 1) := by decide +kernel
theorem d_L_go_3 : decode method_12_code 3 = .ok (.iload_n 1, 1) := by decide +kernel
theorem d_L_go_4 : decode method_12_code 4 = .ok (.invokevirtual 49, 3) := by decide +kernel
theorem d_L_go_7 : decode method_12_code 7 = .ok (.i2l, 1) := by decide +kernel
theorem d_L_go_8 : decode method_12_code 8 = .ok (.lastore, 1) := by decide +kernel
theorem d_L_go_9 : decode method_12_code 9 = .ok (.goto (6), 3) := by decide +kernel
theorem d_L_go_12 : decode method_12_code 12 = .ok (.astore_n 3, 1) := by decide +kernel
theorem d_L_go_13 : decode method_12_code 13 = .ok (.iconst (1), 1) := by decide +kernel
theorem d_L_go_14 : decode method_12_code 14 = .ok (.ireturn, 1) := by decide +kernel
theorem d_L_go_15 : decode method_12_code 15 = .ok (.iconst (0), 1) := by decide +kernel
theorem d_L_go_16 : decode method_12_code 16 = .ok (.ireturn, 1) := by decide +kernel
theorem d_L_turn_0 : decode method_13_code 0 = .ok (.aload_n 2, 1) := by decide +kernel
theorem d_L_turn_1 : decode method_13_code 1 = .ok (.iconst (0), 1) := by decide +kernel
theorem d_L_turn_2 : decode method_13_code 2 = .ok (.aload_n 0, 1) := by decide +kernel
theorem d_L_turn_3 : decode method_13_code 3 = .ok (.iload_n 1, 1) := by decide +kernel
theorem d_L_turn_4 : decode method_13_code 4 = .ok (.invokevirtual 52, 3) := by decide +kernel
theorem d_L_turn_7 : decode method_13_code 7 = .ok (.ifCond .eq (7), 3) := by decide +kernel
theorem d_L_turn_10 : decode method_13_code 10 = .ok (.lconst 1, 1) := by decide +kernel
theorem d_L_turn_11 : decode method_13_code 11 = .ok (.goto (4), 3) := by decide +kernel
theorem d_L_turn_14 : decode method_13_code 14 = .ok (.lconst 0, 1) := by decide +kernel
theorem d_L_turn_15 : decode method_13_code 15 = .ok (.lastore, 1) := by decide +kernel
theorem d_L_turn_16 : decode method_13_code 16 = .ok (.goto (6), 3) := by decide +kernel
theorem d_L_turn_19 : decode method_13_code 19 = .ok (.astore_n 3, 1) := by decide +kernel
theorem d_L_turn_20 : decode method_13_code 20 = .ok (.iconst (1), 1) := by decide +kernel
theorem d_L_turn_21 : decode method_13_code 21 = .ok (.ireturn, 1) := by decide +kernel
theorem d_L_turn_22 : decode method_13_code 22 = .ok (.iconst (0), 1) := by decide +kernel
theorem d_L_turn_23 : decode method_13_code 23 = .ok (.ireturn, 1) := by decide +kernel
theorem d_L_cut_0 : decode method_14_code 0 = .ok (.aload_n 2, 1) := by decide +kernel
theorem d_L_cut_1 : decode method_14_code 1 = .ok (.iconst (0), 1) := by decide +kernel
theorem d_L_cut_2 : decode method_14_code 2 = .ok (.aload_n 0, 1) := by decide +kernel
theorem d_L_cut_3 : decode method_14_code 3 = .ok (.iload_n 1, 1) := by decide +kernel
theorem d_L_cut_4 : decode method_14_code 4 = .ok (.invokevirtual 56, 3) := by decide +kernel
theorem d_L_cut_7 : decode method_14_code 7 = .ok (.i2l, 1) := by decide +kernel
theorem d_L_cut_8 : decode method_14_code 8 = .ok (.lastore, 1) := by decide +kernel
theorem d_L_cut_9 : decode method_14_code 9 = .ok (.goto (6), 3) := by decide +kernel
theorem d_L_cut_12 : decode method_14_code 12 = .ok (.astore_n 3, 1) := by decide +kernel
theorem d_L_cut_13 : decode method_14_code 13 = .ok (.iconst (1), 1) := by decide +kernel
theorem d_L_cut_14 : decode method_14_code 14 = .ok (.ireturn, 1) := by decide +kernel
theorem d_L_cut_15 : decode method_14_code 15 = .ok (.iconst (0), 1) := by decide +kernel
theorem d_L_cut_16 : decode method_14_code 16 = .ok (.ireturn, 1) := by decide +kernel
theorem d_L_count_0 : decode method_15_code 0 = .ok (.aload_n 2, 1) := by decide +kernel
theorem d_L_count_1 : decode method_15_code 1 = .ok (.iconst (0), 1) := by decide +kernel
theorem d_L_count_2 : decode method_15_code 2 = .ok (.aload_n 0, 1) := by decide +kernel
theorem d_L_count_3 : decode method_15_code 3 = .ok (.iload_n 1, 1) := by decide +kernel
theorem d_L_count_4 : decode method_15_code 4 = .ok (.invokevirtual 59, 3) := by decide +kernel
theorem d_L_count_7 : decode method_15_code 7 = .ok (.i2l, 1) := by decide +kernel
theorem d_L_count_8 : decode method_15_code 8 = .ok (.lastore, 1) := by decide +kernel
theorem d_L_count_9 : decode method_15_code 9 = .ok (.goto (6), 3) := by decide +kernel
theorem d_L_count_12 : decode method_15_code 12 = .ok (.astore_n 3, 1) := by decide +kernel
theorem d_L_count_13 : decode method_15_code 13 = .ok (.iconst (1), 1) := by decide +kernel
theorem d_L_count_14 : decode method_15_code 14 = .ok (.ireturn, 1) := by decide +kernel
theorem d_L_count_15 : decode method_15_code 15 = .ok (.iconst (0), 1) := by decide +kernel
theorem d_L_count_16 : decode method_15_code 16 = .ok (.ireturn, 1) := by decide +kernel
theorem d_Math_min_0 : decode prog_7_method_69_code 0 = .ok (.iload_n 0, 1) := by decide +kernel
theorem d_Math_min_1 : decode prog_7_method_69_code 1 = .ok (.iload_n 1, 1) := by decide +kernel
theorem d_Math_min_2 : decode prog_7_method_69_code 2 = .ok (.if_icmp .gt 7, 3) := by decide +kernel
theorem d_Math_min_5 : decode prog_7_method_69_code 5 = .ok (.iload_n 0, 1) := by decide +kernel
theorem d_Math_min_6 : decode prog_7_method_69_code 6 = .ok (.goto 4, 3) := by decide +kernel
theorem d_Math_min_9 : decode prog_7_method_69_code 9 = .ok (.iload_n 1, 1) := by decide +kernel
theorem d_Math_min_10 : decode prog_7_method_69_code 10 = .ok (.ireturn, 1) := by decide +kernel
end
section
/-! part 06: facts of each call (printed by gen/g05.py) -/
theorem f_X_26 : pb_VF "PackedBits" 26 "PackedBits" y_X_bit 3 1 := ⟨pb_k127, pb_k129, pb_p2, pb_k1, pb_code_of pb_k130, by decide +kernel, by decide +kernel⟩
theorem f_X_30 : pb_SF "PackedBits" 30 y_X_in 1 1 := ⟨pb_k38, pb_k39, pb_k1, pb_code_of pb_k40, by decide +kernel, by decide +kernel⟩
theorem f_X_34 : pb_SF "PackedBits" 34 y_X_room 1 1 := ⟨pb_k105, pb_k106, pb_k1, pb_code_of pb_k107, by decide +kernel, by decide +kernel⟩
theorem f_X_37 : pb_VF "PackedBits" 37 "PackedBits" y_X_bits 5 2 := ⟨pb_k123, pb_k125, pb_p1, pb_k1, pb_code_of pb_k126, by decide +kernel, by decide +kernel⟩
theorem f_X_41 : pb_SF "PackedBits" 41 y_X_fieldBits 3 1 := ⟨pb_k138, pb_k139, pb_k1, pb_code_of pb_k140, by decide +kernel, by decide +kernel⟩
theorem f_X_50 : pb_SF "PackedBits" 50 y_X_bytes 4 2 := ⟨pb_k157, pb_k158, pb_k1, pb_code_of pb_k159, by decide +kernel, by decide +kernel⟩
theorem f_X_57 : pb_SF "PackedBits" 57 y_X_need 1 1 := ⟨pb_k180, pb_k181, pb_k1, pb_code_of pb_k182, by decide +kernel, by decide +kernel⟩
theorem f_X_60 : pb_VF "PackedBits" 60 "PackedBits" y_X_read 5 1 := ⟨pb_k176, pb_k178, pb_p3, pb_k1, pb_code_of pb_k179, by decide +kernel, by decide +kernel⟩
theorem f_X_68 : pb_VF "PackedBits" 68 "PackedBits" y_X_length 2 0 := ⟨pb_k213, pb_k215, pb_p4, pb_k1, pb_code_of pb_k216, by decide +kernel, by decide +kernel⟩
theorem f_X_74 : pb_VF "PackedBits" 74 "PackedBits" y_X_number 5 1 := ⟨pb_k224, pb_k226, pb_p5, pb_k1, pb_code_of pb_k227, by decide +kernel, by decide +kernel⟩
theorem f_M_18 : pb_VF "PackedBitsModel" 18 "PackedBitsModel" y_M_width 4 1 := ⟨pb_k308, pb_k310, pb_p9, pb_k2, pb_code_of pb_k311, by decide +kernel, by decide +kernel⟩
theorem f_M_27 : pb_VF "PackedBitsModel" 27 "PackedBitsModel" y_M_fail 2 1 := ⟨pb_k292, pb_k294, pb_p6, pb_k2, pb_code_of pb_k295, by decide +kernel, by decide +kernel⟩
theorem f_M_31 : pb_VF "PackedBitsModel" 31 "PackedBitsModel" y_M_append 5 2 := ⟨pb_k300, pb_k302, pb_p8, pb_k2, pb_code_of pb_k303, by decide +kernel, by decide +kernel⟩
theorem f_M_35 : pb_VF "PackedBitsModel" 35 "PackedBitsModel" y_M_write 5 3 := ⟨pb_k296, pb_k298, pb_p7, pb_k2, pb_code_of pb_k299, by decide +kernel, by decide +kernel⟩
theorem f_M_39 : pb_SF "PackedBitsModel" 39 y_Math_min 2 2 := ⟨pb_k316, pb_k317, pb_k8, pb_code_of pb_k318, by decide +kernel, by decide +kernel⟩
theorem f_M_51 : pb_VF "PackedBitsModel" 51 "PackedBitsModel" y_M_complement 4 1 := ⟨pb_k326, pb_k328, pb_p10, pb_k2, pb_code_of pb_k329, by decide +kernel, by decide +kernel⟩
theorem f_M_54 : pb_VF "PackedBitsModel" 54 "PackedBitsModel" y_M_bytesOf 3 1 := ⟨pb_k331, pb_k333, pb_p11, pb_k2, pb_code_of pb_k334, by decide +kernel, by decide +kernel⟩
theorem f_M_67 : pb_VF "PackedBitsModel" 67 "PackedBitsModel" y_M_begin 1 0 := ⟨pb_k343, pb_k345, pb_p12, pb_k2, pb_code_of pb_k346, by decide +kernel, by decide +kernel⟩
theorem f_M_70 : pb_VF "PackedBitsModel" 70 "PackedBitsModel" y_M_get 5 1 := ⟨pb_k347, pb_k349, pb_p13, pb_k2, pb_code_of pb_k350, by decide +kernel, by decide +kernel⟩
theorem f_M_74 : pb_VF "PackedBitsModel" 74 "PackedBitsModel" y_M_done 4 2 := ⟨pb_k351, pb_k353, pb_p14, pb_k2, pb_code_of pb_k354, by decide +kernel, by decide +kernel⟩
theorem f_M_78 : pb_VF "PackedBitsModel" 78 "PackedBitsModel" y_M_length 2 0 := ⟨pb_k363, pb_k365, pb_p15, pb_k2, pb_code_of pb_k366, by decide +kernel, by decide +kernel⟩
theorem f_L_7 : pb_VF "PackedBitsLaw" 7 "PackedBits" y_X_put 4 2 := ⟨pb_k34, pb_k35, pb_k36, pb_k1, pb_code_of pb_k37, by decide +kernel, by decide +kernel⟩
theorem f_L_17 : pb_VF "PackedBitsLaw" 17 "PackedBits" y_X_putRange 8 3 := ⟨pb_k134, pb_k135, pb_k136, pb_k1, pb_code_of pb_k137, by decide +kernel, by decide +kernel⟩
theorem f_L_21 : pb_VF "PackedBitsLaw" 21 "PackedBits" y_X_putLength 3 1 := ⟨pb_k144, pb_k145, pb_k146, pb_k1, pb_code_of pb_k147, by decide +kernel, by decide +kernel⟩
theorem f_L_25 : pb_VF "PackedBitsLaw" 25 "PackedBits" y_X_putNumber 5 2 := ⟨pb_k152, pb_k153, pb_k154, pb_k1, pb_code_of pb_k155, by decide +kernel, by decide +kernel⟩
theorem f_L_29 : pb_VF "PackedBitsLaw" 29 "PackedBits" y_X_fill 1 0 := ⟨pb_k164, pb_k165, pb_k166, pb_k1, pb_code_of pb_k167, by decide +kernel, by decide +kernel⟩
theorem f_L_33 : pb_VF "PackedBitsLaw" 33 "PackedBits" y_X_take 2 1 := ⟨pb_k172, pb_k173, pb_k174, pb_k1, pb_code_of pb_k175, by decide +kernel, by decide +kernel⟩
theorem f_L_39 : pb_VF "PackedBitsLaw" 39 "PackedBits" y_X_takeRange 10 2 := ⟨pb_k201, pb_k202, pb_k203, pb_k1, pb_code_of pb_k204, by decide +kernel, by decide +kernel⟩
theorem f_L_43 : pb_VF "PackedBitsLaw" 43 "PackedBits" y_X_takeLength 3 0 := ⟨pb_k209, pb_k210, pb_k211, pb_k1, pb_code_ofW pb_k212, by decide +kernel, by decide +kernel⟩
theorem f_L_46 : pb_VF "PackedBitsLaw" 46 "PackedBits" y_X_takeNumber 4 1 := ⟨pb_k220, pb_k221, pb_k222, pb_k1, pb_code_ofW pb_k223, by decide +kernel, by decide +kernel⟩
theorem f_L_49 : pb_VF "PackedBitsLaw" 49 "PackedBits" y_X_go 3 1 := ⟨pb_k232, pb_k233, pb_k234, pb_k1, pb_code_of pb_k235, by decide +kernel, by decide +kernel⟩
theorem f_L_52 : pb_VF "PackedBitsLaw" 52 "PackedBits" y_X_turn 2 1 := ⟨pb_k239, pb_k240, pb_k241, pb_k1, pb_code_of pb_k242, by decide +kernel, by decide +kernel⟩
theorem f_L_56 : pb_VF "PackedBitsLaw" 56 "PackedBits" y_X_cut 3 1 := ⟨pb_k246, pb_k247, pb_k248, pb_k1, pb_code_of pb_k249, by decide +kernel, by decide +kernel⟩
theorem f_L_59 : pb_VF "PackedBitsLaw" 59 "PackedBits" y_X_count 2 1 := ⟨pb_k253, pb_k254, pb_k255, pb_k1, pb_code_of pb_k256, by decide +kernel, by decide +kernel⟩
theorem f_L_68 : pb_SF "PackedBitsLaw" 68 y_L_put 6 4 := ⟨pb_k29, pb_k30, pb_k0, pb_code_ofW pb_k31, by decide +kernel, by decide +kernel⟩
theorem f_L_73 : pb_VF "PackedBitsLaw" 73 "PackedBitsModel" y_M_put 4 2 := ⟨pb_k288, pb_k289, pb_k290, pb_k2, pb_code_of pb_k291, by decide +kernel, by decide +kernel⟩
theorem f_L_74 : pb_VF "PackedBitsLaw" 74 "PackedBitsModel" y_M_thrown 1 0 := ⟨pb_k284, pb_k285, pb_k286, pb_k2, pb_code_of pb_k287, by decide +kernel, by decide +kernel⟩
theorem f_L_77 : pb_SF "PackedBitsLaw" 77 y_L_putRange 9 5 := ⟨pb_k131, pb_k132, pb_k0, pb_code_ofW pb_k133, by decide +kernel, by decide +kernel⟩
theorem f_L_80 : pb_VF "PackedBitsLaw" 80 "PackedBitsModel" y_M_putRange 7 3 := ⟨pb_k304, pb_k305, pb_k306, pb_k2, pb_code_of pb_k307, by decide +kernel, by decide +kernel⟩
theorem f_L_81 : pb_SF "PackedBitsLaw" 81 y_L_putLength 4 3 := ⟨pb_k141, pb_k142, pb_k0, pb_code_ofW pb_k143, by decide +kernel, by decide +kernel⟩
theorem f_L_84 : pb_VF "PackedBitsLaw" 84 "PackedBitsModel" y_M_putLength 4 1 := ⟨pb_k312, pb_k313, pb_k314, pb_k2, pb_code_of pb_k315, by decide +kernel, by decide +kernel⟩
theorem f_L_85 : pb_SF "PackedBitsLaw" 85 y_L_putNumber 6 4 := ⟨pb_k149, pb_k150, pb_k0, pb_code_ofW pb_k151, by decide +kernel, by decide +kernel⟩
theorem f_L_88 : pb_VF "PackedBitsLaw" 88 "PackedBitsModel" y_M_putNumber 7 2 := ⟨pb_k321, pb_k322, pb_k323, pb_k2, pb_code_of pb_k324, by decide +kernel, by decide +kernel⟩
theorem f_L_89 : pb_SF "PackedBitsLaw" 89 y_L_fill 3 2 := ⟨pb_k161, pb_k162, pb_k0, pb_code_ofW pb_k163, by decide +kernel, by decide +kernel⟩
theorem f_L_92 : pb_VF "PackedBitsLaw" 92 "PackedBitsModel" y_M_fill 2 0 := ⟨pb_k335, pb_k336, pb_k337, pb_k2, pb_code_of pb_k338, by decide +kernel, by decide +kernel⟩
theorem f_L_93 : pb_SF "PackedBitsLaw" 93 y_L_take 4 3 := ⟨pb_k168, pb_k169, pb_k0, pb_code_ofW pb_k170, by decide +kernel, by decide +kernel⟩
theorem f_L_95 : pb_VF "PackedBitsLaw" 95 "PackedBitsModel" y_M_take 2 1 := ⟨pb_k339, pb_k340, pb_k341, pb_k2, pb_code_of pb_k342, by decide +kernel, by decide +kernel⟩
theorem f_L_96 : pb_SF "PackedBitsLaw" 96 y_L_takeRange 7 4 := ⟨pb_k198, pb_k199, pb_k0, pb_code_ofW pb_k200, by decide +kernel, by decide +kernel⟩
theorem f_L_99 : pb_VF "PackedBitsLaw" 99 "PackedBitsModel" y_M_takeRange 9 2 := ⟨pb_k355, pb_k356, pb_k357, pb_k2, pb_code_of pb_k358, by decide +kernel, by decide +kernel⟩
theorem f_L_100 : pb_SF "PackedBitsLaw" 100 y_L_takeLength 3 2 := ⟨pb_k206, pb_k207, pb_k0, pb_code_ofW pb_k208, by decide +kernel, by decide +kernel⟩
theorem f_L_102 : pb_VF "PackedBitsLaw" 102 "PackedBitsModel" y_M_takeLength 1 0 := ⟨pb_k359, pb_k360, pb_k361, pb_k2, pb_code_of pb_k362, by decide +kernel, by decide +kernel⟩
theorem f_L_103 : pb_SF "PackedBitsLaw" 103 y_L_takeNumber 4 3 := ⟨pb_k217, pb_k218, pb_k0, pb_code_ofW pb_k219, by decide +kernel, by decide +kernel⟩
theorem f_L_105 : pb_VF "PackedBitsLaw" 105 "PackedBitsModel" y_M_takeNumber 5 1 := ⟨pb_k367, pb_k368, pb_k369, pb_k2, pb_code_of pb_k370, by decide +kernel, by decide +kernel⟩
theorem f_L_106 : pb_SF "PackedBitsLaw" 106 y_L_go 4 3 := ⟨pb_k229, pb_k230, pb_k0, pb_code_ofW pb_k231, by decide +kernel, by decide +kernel⟩
theorem f_L_108 : pb_VF "PackedBitsLaw" 108 "PackedBitsModel" y_M_go 3 1 := ⟨pb_k371, pb_k372, pb_k373, pb_k2, pb_code_of pb_k374, by decide +kernel, by decide +kernel⟩
theorem f_L_109 : pb_SF "PackedBitsLaw" 109 y_L_turn 4 3 := ⟨pb_k236, pb_k237, pb_k0, pb_code_ofW pb_k238, by decide +kernel, by decide +kernel⟩
theorem f_L_111 : pb_VF "PackedBitsLaw" 111 "PackedBitsModel" y_M_turn 2 1 := ⟨pb_k375, pb_k376, pb_k377, pb_k2, pb_code_of pb_k378, by decide +kernel, by decide +kernel⟩
theorem f_L_112 : pb_SF "PackedBitsLaw" 112 y_L_cut 4 3 := ⟨pb_k243, pb_k244, pb_k0, pb_code_ofW pb_k245, by decide +kernel, by decide +kernel⟩
theorem f_L_114 : pb_VF "PackedBitsLaw" 114 "PackedBitsModel" y_M_cut 3 1 := ⟨pb_k379, pb_k380, pb_k381, pb_k2, pb_code_of pb_k382, by decide +kernel, by decide +kernel⟩
theorem f_L_115 : pb_SF "PackedBitsLaw" 115 y_L_count 4 3 := ⟨pb_k250, pb_k251, pb_k0, pb_code_ofW pb_k252, by decide +kernel, by decide +kernel⟩
theorem f_L_117 : pb_VF "PackedBitsLaw" 117 "PackedBitsModel" y_M_count 2 1 := ⟨pb_k383, pb_k384, pb_k385, pb_k2, pb_code_of pb_k386, by decide +kernel, by decide +kernel⟩
end
section
/-! part 07: what the two classes compute, in plain Lean; the arithmetic of the bits -/
def lb (x : Int64) (i : Nat) : Bool := x.toBitVec.getLsbD i
/-- n bits of x, the highest first, written at e -/
def wrt (x : Int64) : Nat → Nat → (Nat → Bool) → (Nat → Bool)
  | 0, _, b => b
  | n + 1, e, b => wrt x n (e + 1) (upb b e (lb x n))
/-- n bits read from p on -/
def rdv (b : Nat → Bool) (p : Nat) : Nat → Int64
  | 0 => 0
  | k + 1 => (rdv b p k <<< ((1 : Int32).toInt64 &&& 63)) ||| (if b (p + k) then 1 else 0)
/-- the machine's shifts of a long by a number -/
def l_us (x : Int64) (n : Nat) : Int64 := (x.toUInt64 >>> ((nI n).toInt64.toUInt64 &&& Int64.toUInt64 63)).toInt64
def l_sh (x : Int64) (n : Nat) : Int64 := x >>> ((nI n).toInt64 &&& 63)
def wgo (x : Int64) : Nat → Nat → Nat
  | 0, n => n
  | f + 1, n => if n < 64 ∧ l_us x n ≠ 0 then wgo x f (n + 1) else n
def wid (x : Int64) : Nat := wgo x 64 0
def bgo (x : Int64) : Nat → Nat → Nat
  | 0, k => k
  | f + 1, k => if k < 8 ∧ 0 < l_us x (8 * k) then bgo x f (k + 1) else k
def sgo (x : Int64) : Nat → Nat → Nat
  | 0, k => k
  | f + 1, k => if k < 8 ∧ l_sh x (8 * k - 1) ≠ 0 ∧ l_sh x (8 * k - 1) ≠ -1 then sgo x f (k + 1) else k
def byU (x : Int64) : Nat := bgo x 7 1
def byS (x : Int64) : Nat := sgo x 7 1
def byM (x : Int64) : Nat := if wid x = 0 then 1 else (wid x + 7) / 8
theorem wgo_le (x : Int64) : ∀ f n, n ≤ 64 → wgo x f n ≤ 64
  | 0, n, h => h
  | f + 1, n, h => by
    unfold wgo
    split
    · exact wgo_le x f (n + 1) (by omega)
    · exact h
theorem wid_le (x : Int64) : wid x ≤ 64 := wgo_le x 64 0 (by decide)
theorem bgo_in (x : Int64) : ∀ f k, 1 ≤ k → k ≤ 8 → 1 ≤ bgo x f k ∧ bgo x f k ≤ 8
  | 0, k, h, h' => ⟨h, h'⟩
  | f + 1, k, h, h' => by
    unfold bgo
    split
    · exact bgo_in x f (k + 1) (by omega) (by omega)
    · exact ⟨h, h'⟩
theorem sgo_in (x : Int64) : ∀ f k, 1 ≤ k → k ≤ 8 → 1 ≤ sgo x f k ∧ sgo x f k ≤ 8
  | 0, k, h, h' => ⟨h, h'⟩
  | f + 1, k, h, h' => by
    unfold sgo
    split
    · exact sgo_in x f (k + 1) (by omega) (by omega)
    · exact ⟨h, h'⟩
theorem byU_in (x : Int64) : 1 ≤ byU x ∧ byU x ≤ 8 := bgo_in x 7 1 (by decide) (by decide)
theorem byS_in (x : Int64) : 1 ≤ byS x ∧ byS x ≤ 8 := sgo_in x 7 1 (by decide) (by decide)
-- the bits of a byte
def pb_mask (i : Nat) : Int32 := (128 : Int32) >>> (nI i &&& 31)
def co8 (a b c d e f g h : Bool) : Nat := a.toNat * 128 + b.toNat * 64 + c.toNat * 32 + d.toNat * 16 + e.toNat * 8 + f.toNat * 4 + g.toNat * 2 + h.toNat
def by8 (a b c d e f g h : Bool) : Int32 := (nI (co8 a b c d e f g h)).toInt8.toInt32
def up8 (i k : Nat) (v o : Bool) : Bool := if i = k then v else o
def at8 (i : Nat) (a b c d e f g h : Bool) : Bool := match i with
  | 0 => a
  | 1 => b
  | 2 => c
  | 3 => d
  | 4 => e
  | 5 => f
  | 6 => g
  | _ => h
set_option maxRecDepth 100000 in
theorem by8_set : ∀ i, i < 8 → ∀ a b c d e f g h : Bool, (by8 a b c d e f g h ||| pb_mask i).toInt8.toInt32 = by8 (up8 i 0 true a) (up8 i 1 true b) (up8 i 2 true c) (up8 i 3 true d) (up8 i 4 true e) (up8 i 5 true f) (up8 i 6 true g) (up8 i 7 true h) := by decide +kernel
set_option maxRecDepth 100000 in
theorem by8_clr : ∀ i, i < 8 → ∀ a b c d e f g h : Bool, (by8 a b c d e f g h &&& (pb_mask i ^^^ -1)).toInt8.toInt32 = by8 (up8 i 0 false a) (up8 i 1 false b) (up8 i 2 false c) (up8 i 3 false d) (up8 i 4 false e) (up8 i 5 false f) (up8 i 6 false g) (up8 i 7 false h) := by decide +kernel
set_option maxRecDepth 100000 in
theorem by8_flip : ∀ i, i < 8 → ∀ a b c d e f g h : Bool, (by8 a b c d e f g h ^^^ pb_mask i).toInt8.toInt32 = by8 (up8 i 0 (!a) a) (up8 i 1 (!b) b) (up8 i 2 (!c) c) (up8 i 3 (!d) d) (up8 i 4 (!e) e) (up8 i 5 (!f) f) (up8 i 6 (!g) g) (up8 i 7 (!h) h) := by decide +kernel
set_option maxRecDepth 100000 in
theorem by8_get : ∀ i, i < 8 → ∀ a b c d e f g h : Bool, (by8 a b c d e f g h >>> ((7 - nI i) &&& 31)) &&& 1 = bI (at8 i a b c d e f g h) := by decide +kernel
theorem pb_by8 (b : Nat → Bool) (k : Nat) : pb_by b k = by8 (b (8 * k)) (b (8 * k + 1)) (b (8 * k + 2)) (b (8 * k + 3)) (b (8 * k + 4)) (b (8 * k + 5)) (b (8 * k + 6)) (b (8 * k + 7)) := rfl
theorem upb_at (b : Nat → Bool) (k i j : Nat) (v : Bool) : upb b (8 * k + i) v (8 * k + j) = up8 i j v (b (8 * k + j)) := by
  unfold upb up8
  by_cases h : i = j
  · rw [if_pos h, if_pos (by omega)]
  · rw [if_neg h, if_neg (by omega)]
theorem pb_by_up (b : Nat → Bool) (k i : Nat) (v : Bool) : pb_by (upb b (8 * k + i) v) k = by8 (up8 i 0 v (b (8 * k))) (up8 i 1 v (b (8 * k + 1))) (up8 i 2 v (b (8 * k + 2))) (up8 i 3 v (b (8 * k + 3))) (up8 i 4 v (b (8 * k + 4))) (up8 i 5 v (b (8 * k + 5))) (up8 i 6 v (b (8 * k + 6))) (up8 i 7 v (b (8 * k + 7))) := by
  rw [pb_by8, upb_at, upb_at, upb_at, upb_at, upb_at, upb_at, upb_at, show upb b (8 * k + i) v (8 * k) = up8 i 0 v (b (8 * k)) from upb_at b k i 0 v]
theorem pb_by_off (b : Nat → Bool) {k i j : Nat} (hi : i < 8) (v : Bool) (h : j ≠ k) : pb_by (upb b (8 * k + i) v) j = pb_by b j := by
  have e : ∀ q, q < 8 → upb b (8 * k + i) v (8 * j + q) = b (8 * j + q) := fun q hq => by
    unfold upb
    rw [if_neg (by omega)]
  rw [pb_by8, pb_by8, show upb b (8 * k + i) v (8 * j) = b (8 * j) from e 0 (by decide), e 1 (by decide), e 2 (by decide), e 3 (by decide), e 4 (by decide), e 5 (by decide), e 6 (by decide), e 7 (by decide)]
/-- the four things that X does to a byte, at the bit number n of all -/
theorem by_set (b : Nat → Bool) (n : Nat) : (pb_by b (n / 8) ||| pb_mask (n % 8)).toInt8.toInt32 = pb_by (upb b n true) (n / 8) := by
  have e : 8 * (n / 8) + n % 8 = n := Nat.div_add_mod n 8
  have h := pb_by_up b (n / 8) (n % 8) true
  rw [e] at h
  rw [h, pb_by8, by8_set _ (Nat.mod_lt _ (by decide))]
theorem by_clr (b : Nat → Bool) (n : Nat) : (pb_by b (n / 8) &&& (pb_mask (n % 8) ^^^ -1)).toInt8.toInt32 = pb_by (upb b n false) (n / 8) := by
  have e : 8 * (n / 8) + n % 8 = n := Nat.div_add_mod n 8
  have h := pb_by_up b (n / 8) (n % 8) false
  rw [e] at h
  rw [h, pb_by8, by8_clr _ (Nat.mod_lt _ (by decide))]
theorem at8_b (b : Nat → Bool) (k i : Nat) (hi : i < 8) : at8 i (b (8 * k)) (b (8 * k + 1)) (b (8 * k + 2)) (b (8 * k + 3)) (b (8 * k + 4)) (b (8 * k + 5)) (b (8 * k + 6)) (b (8 * k + 7)) = b (8 * k + i) := by
  rcases (by omega : i = 0 ∨ i = 1 ∨ i = 2 ∨ i = 3 ∨ i = 4 ∨ i = 5 ∨ i = 6 ∨ i = 7) with h | h | h | h | h | h | h | h <;> subst h <;> rfl
theorem by_get (b : Nat → Bool) (n : Nat) : (pb_by b (n / 8) >>> ((7 - nI (n % 8)) &&& 31)) &&& 1 = bI (b n) := by
  have e : 8 * (n / 8) + n % 8 = n := Nat.div_add_mod n 8
  rw [pb_by8, by8_get _ (Nat.mod_lt _ (by decide)), at8_b _ _ _ (Nat.mod_lt _ (by decide)), e]
theorem up8_n (i k : Nat) (v o : Bool) (h : i = k → v = !o) : up8 i k v o = up8 i k (!o) o := by
  unfold up8
  by_cases hi : i = k
  · rw [if_pos hi, if_pos hi, h hi]
  · rw [if_neg hi, if_neg hi]
theorem by_flip (b : Nat → Bool) (n : Nat) : (pb_by b (n / 8) ^^^ pb_mask (n % 8)).toInt8.toInt32 = pb_by (upb b n (!b n)) (n / 8) := by
  have e : 8 * (n / 8) + n % 8 = n := Nat.div_add_mod n 8
  have h := pb_by_up b (n / 8) (n % 8) (!b n)
  have q : ∀ j, n % 8 = j → (!b n) = !b (8 * (n / 8) + j) := fun j hj => by rw [← hj, e]
  rw [e] at h
  rw [h, pb_by8, by8_flip _ (Nat.mod_lt _ (by decide)), up8_n (n % 8) 0 (!b n) (b (8 * (n / 8))) (q 0), up8_n _ 1 _ _ (q 1), up8_n _ 2 _ _ (q 2), up8_n _ 3 _ _ (q 3), up8_n _ 4 _ _ (q 4), up8_n _ 5 _ _ (q 5), up8_n _ 6 _ _ (q 6), up8_n _ 7 _ _ (q 7)]
theorem by_off (b : Nat → Bool) (n j : Nat) (v : Bool) (h : j ≠ n / 8) : pb_by (upb b n v) j = pb_by b j := by
  have e : 8 * (n / 8) + n % 8 = n := Nat.div_add_mod n 8
  have h2 := pb_by_off b (k := n / 8) (i := n % 8) (j := j) (Nat.mod_lt _ (by decide)) v h
  rw [e] at h2
  exact h2
theorem i_and7 {n : Nat} (h : n < 2 ^ 31) : nI n &&& 7 = nI (n % 8) := pk_andN (Nat.lt_trans h (by decide)) 3 (by decide)
theorem i_shr3 {n : Nat} (h : n < 2 ^ 31) : nI n >>> ((3 : Int32) &&& 31) = nI (n / 8) := pk_shrN h _ 3 (by decide)
theorem i_m1 (n : Nat) (h : 0 < n) : nI n - 1 = nI (n - 1) := by
  obtain ⟨k, rfl⟩ : ∃ k, n = k + 1 := ⟨n - 1, by omega⟩
  exact nI_pred k
-- a bit of a long
theorem s_amt : ∀ k, k < 64 → (((nI k).toInt64 &&& 63).toBitVec.smod 64).toNat = k := by decide +kernel
theorem u_amt : ∀ k, k < 64 → ((nI k).toInt64.toUInt64 &&& Int64.toUInt64 63).toNat % 64 = k := by decide +kernel
theorem i64_ext {x y : Int64} (h : ∀ i, i < 64 → x.toBitVec.getLsbD i = y.toBitVec.getLsbD i) : x = y := by
  apply Int64.toBitVec_inj.mp
  apply BitVec.eq_of_getLsbD_eq
  intro i hi
  exact h i hi
theorem l_and1 (x : Int64) : (x &&& 1 = 1) ↔ x.toBitVec.getLsbD 0 = true := by
  have e1 : ∀ i, i < 64 → (1 : Int64).toBitVec.getLsbD i = decide (i = 0) := by decide +kernel
  constructor
  · intro h
    have h2 := congrArg (fun z : Int64 => z.toBitVec.getLsbD 0) h
    simp only [Int64.toBitVec_and, BitVec.getLsbD_and, e1 0 (by decide)] at h2
    simpa using h2
  · intro h
    apply i64_ext
    intro i hi
    rw [Int64.toBitVec_and, BitVec.getLsbD_and, e1 i hi]
    by_cases hi0 : i = 0
    · subst hi0
      simp [h]
    · simp [hi0]
theorem l_sbit (x : Int64) {k : Nat} (hk : k < 64) : (x >>> ((nI k).toInt64 &&& 63) &&& 1 = 1) ↔ lb x k = true := by
  rw [l_and1]
  have e : (x >>> ((nI k).toInt64 &&& 63)).toBitVec.getLsbD 0 = lb x k := by
    show (x.toBitVec.sshiftRight' (((nI k).toInt64 &&& 63).toBitVec.smod 64)).getLsbD 0 = _
    rw [BitVec.sshiftRight_eq', s_amt k hk, BitVec.getLsbD_sshiftRight]
    simp [lb, hk]
  rw [e]
theorem l_ubit (x : Int64) {k : Nat} (hk : k < 64) : ((x.toUInt64 >>> ((nI k).toInt64.toUInt64 &&& Int64.toUInt64 63)).toInt64 &&& 1 = 1) ↔ lb x k = true := by
  rw [l_and1]
  have e : ((x.toUInt64 >>> ((nI k).toInt64.toUInt64 &&& Int64.toUInt64 63)).toInt64).toBitVec.getLsbD 0 = lb x k := by
    show ((x.toUInt64 >>> ((nI k).toInt64.toUInt64 &&& Int64.toUInt64 63))).toBitVec.getLsbD 0 = _
    rw [UInt64.toBitVec_shiftRight]
    show (x.toBitVec >>> (((nI k).toInt64.toUInt64 &&& Int64.toUInt64 63).toBitVec % 64)).getLsbD 0 = _
    rw [BitVec.ushiftRight_eq', BitVec.getLsbD_ushiftRight]
    have e2 : ((((nI k).toInt64.toUInt64 &&& Int64.toUInt64 63).toBitVec % 64).toNat) = k := by
      rw [BitVec.toNat_umod]
      exact u_amt k hk
    rw [e2]
    simp [lb]
  rw [e]
theorem bI_l (b : Bool) : (bI b).toInt64 = if b then 1 else 0 := by cases b <;> rfl
-- loops
theorem up_loop {P : Nat → Prop} (N : Nat) (h : ∀ n, n ≤ N → (n < N → P (n + 1)) → P n) : ∀ n, n ≤ N → P n := by
  have key : ∀ f n, n + f = N → P n := by
    intro f
    induction f with
    | zero => intro n hn; exact h n (by omega) (fun z => absurd z (by omega))
    | succ f ih => intro n hn; exact h n (by omega) (fun _ => ih (n + 1) (by omega))
  intro n hn
  exact key (N - n) n (by omega)
theorem dn_loop {P : Nat → Prop} (h : ∀ k, (∀ j, k = j + 1 → P j) → P k) : ∀ k, P k := by
  intro k
  induction k with
  | zero => exact h 0 (fun j hj => by omega)
  | succ k ih => exact h (k + 1) (fun j hj => by cases hj; exact ih)
theorem wgo_stop {x : Int64} {n : Nat} (h : ¬ (n < 64 ∧ l_us x n ≠ 0)) : wgo x (64 - n) n = n := by
  cases hf : 64 - n with
  | zero => rfl
  | succ f =>
    unfold wgo
    rw [if_neg h]
theorem wgo_next {x : Int64} {n : Nat} (h1 : n < 64) (h2 : l_us x n ≠ 0) : wgo x (64 - n) n = wgo x (64 - (n + 1)) (n + 1) := by
  obtain ⟨f, hf⟩ : ∃ f, 64 - n = f + 1 := ⟨64 - n - 1, by omega⟩
  have hg : 64 - (n + 1) = f := by omega
  rw [hf, hg]
  show (if n < 64 ∧ l_us x n ≠ 0 then wgo x f (n + 1) else n) = _
  rw [if_pos ⟨h1, h2⟩]
theorem bgo_stop {x : Int64} {n : Nat} (h : ¬ (n < 8 ∧ 0 < l_us x (8 * n))) : bgo x (8 - n) n = n := by
  cases hf : 8 - n with
  | zero => rfl
  | succ f =>
    unfold bgo
    rw [if_neg h]
theorem bgo_next {x : Int64} {n : Nat} (h1 : n < 8) (h2 : 0 < l_us x (8 * n)) : bgo x (8 - n) n = bgo x (8 - (n + 1)) (n + 1) := by
  obtain ⟨f, hf⟩ : ∃ f, 8 - n = f + 1 := ⟨8 - n - 1, by omega⟩
  have hg : 8 - (n + 1) = f := by omega
  rw [hf, hg]
  show (if n < 8 ∧ 0 < l_us x (8 * n) then bgo x f (n + 1) else n) = _
  rw [if_pos ⟨h1, h2⟩]
theorem sgo_stop {x : Int64} {n : Nat} (h : ¬ (n < 8 ∧ l_sh x (8 * n - 1) ≠ 0 ∧ l_sh x (8 * n - 1) ≠ -1)) : sgo x (8 - n) n = n := by
  cases hf : 8 - n with
  | zero => rfl
  | succ f =>
    unfold sgo
    rw [if_neg h]
theorem sgo_next {x : Int64} {n : Nat} (h1 : n < 8) (h2 : l_sh x (8 * n - 1) ≠ 0) (h3 : l_sh x (8 * n - 1) ≠ -1) : sgo x (8 - n) n = sgo x (8 - (n + 1)) (n + 1) := by
  obtain ⟨f, hf⟩ : ∃ f, 8 - n = f + 1 := ⟨8 - n - 1, by omega⟩
  have hg : 8 - (n + 1) = f := by omega
  rw [hf, hg]
  show (if n < 8 ∧ l_sh x (8 * n - 1) ≠ 0 ∧ l_sh x (8 * n - 1) ≠ -1 then sgo x f (n + 1) else n) = _
  rw [if_pos ⟨h1, h2, h3⟩]
theorem i_8 (k : Nat) : (8 : Int32) * nI k = nI (8 * k) := pk_mul 8 k
theorem i_8m1 {k : Nat} (h : 1 ≤ k) : (8 : Int32) * nI k - 1 = nI (8 * k - 1) := by
  rw [i_8, i_m1 _ (by omega)]
-- results
def r_in (C : String) (n : Int32) (S : St) (T : Mt) (ov : Int64) : Rs := if n = 0 then (.inr C, S, T, ov) else (.inl none, S, T, ov)
/-- a bit at the end -/
def pb1 (v : Bool) (S : St) : St := (S.1, S.2.1 + 1, upb S.2.2 S.2.1 v)
/-- n bits of x at the end -/
def pw (x : Int64) (n : Nat) (S : St) : St := (S.1, S.2.1 + n, wrt x n S.2.1 S.2.2)
theorem pw_succ (x : Int64) (n : Nat) (S : St) : pw x (n + 1) S = pw x n (pb1 (lb x n) S) := by
  obtain ⟨a, e, b⟩ := S
  show (a, e + (n + 1), wrt x n (e + 1) (upb b e (lb x n))) = (a, e + 1 + n, wrt x n (e + 1) (upb b e (lb x n)))
  rw [show e + (n + 1) = e + 1 + n by omega]
def pb_ok (S : St) : Prop := S.1 ≤ S.2.1 ∧ S.2.1 ≤ 65536
end
section
/-! part 08: entering a method; calls by the kind of their answer; a compare of longs and the branch behind it -/
section PB8
variable {p : Program} {l : Launch} {e : Env} {R : Room} {s : State} {m : MethodId} {args : Array Value} {below : List Frame} {meth : Method} {c : Code} {H : Heap} {locs : List Loc} {cells slots : Nat} {Q : State → Prop}
variable {cc : ByteArray} {pc nL : Nat} {ls : Array Slot} {rest : List Value} {w : Wc} {S : St} {T : Mt} {ov : Int64}
theorem pb_enter {y : MethodName} {rm : Room} {av : List Value} {r : Rs} {maxL : Nat} {ret : Option FieldType} {own : String} (hy : plainName y.cls = true) (hw : Cond.code y cc maxL ret ∈ pb_ws) (hcls : y.cls = own) (hlen : (lg_sl av).length ≤ maxL)
    (body : ∀ (p : Program) (e : Env) (s : State) (m : MethodId) (below : List Frame) (meth : Method) (c : Code) (ls : Array Slot), pb_CF p m c cc maxL s av.toArray own → meth.sig.returnType = ret → meth.locks = false → c.exceptionTable.toList = [] → w_N w ≤ s.heap.size → pb_Wd w S T ov s s.heap → va_S (w_A w) s.heap s.heap [] → lv_has ls maxL (lv_args 0 av) →
      W p l e rm s m av.toArray below meth c s.heap [] 0 0 (pb_MQA below (pb_Q w r) av.toArray s rm.cells rm.slots (w_A w)) (F0 m 0 ls [])) : pb_C l w y rm av S T ov r := by
  refine pb_ofW hy hw ?_
  intro p e s m args below meth c hx hb hml hown hts hr hlocks hno hv
  obtain ⟨rfl, hw⟩ := hv
  have hl := lv_entry av (n := maxL) hlen
  rw [lg_entry_eq]
  exact body p e s m below meth c _ ⟨hx, hb, hml, by rw [← hcls]; exact hown, hts⟩ hr hlocks hno (pb_Wd_N hw) hw va_S.rf hl
theorem pb_enterW {y : MethodName} {rm : Room} {av : List Value} {r : Rs} {maxL : Nat} {ret : Option FieldType} {own : String} {hs : List (Nat × Nat × Nat × Nat)} (hy : plainName y.cls = true) (hw : Cond.codeWith y cc maxL ret hs ∈ pb_ws) (hcls : y.cls = own) (hlen : (lg_sl av).length ≤ maxL)
    (body : ∀ (p : Program) (e : Env) (s : State) (m : MethodId) (below : List Frame) (meth : Method) (c : Code) (ls : Array Slot), pb_CF p m c cc maxL s av.toArray own → meth.sig.returnType = ret → meth.locks = false → c.exceptionTable.toList = tableOf hs → w_N w ≤ s.heap.size → pb_Wd w S T ov s s.heap → va_S (w_A w) s.heap s.heap [] → lv_has ls maxL (lv_args 0 av) →
      W p l e rm s m av.toArray below meth c s.heap [] 0 0 (pb_MQA below (pb_Q w r) av.toArray s rm.cells rm.slots (w_A w)) (F0 m 0 ls [])) : pb_C l w y rm av S T ov r := by
  refine pb_ofWW hy hw ?_
  intro p e s m args below meth c hx hb hml hown hts hr hlocks hno hv
  obtain ⟨rfl, hw⟩ := hv
  have hl := lv_entry av (n := maxL) hlen
  rw [lg_entry_eq]
  exact body p e s m below meth c _ ⟨hx, hb, hml, by rw [← hcls]; exact hown, hts⟩ hr hlocks hno (pb_Wd_N hw) hw va_S.rf hl
theorem pb_S {rm : Room} {own : String} {index maxL n : Nat} {y : MethodName} {r : Rs} {av st0 : List Value} (C : pb_CF p m c cc nL s args own) (F : pb_SF own index y maxL n) (hR : pb_RM R rm maxL cells slots) (hM : pb_C l w y rm av S T ov r) (hw : pb_Wd w S T ov s H) (hl : ls.size = nL) (hn : av.length = n) (hst : st0 = av.reverse ++ rest) (hrest : (rest.map fun v => v.category).sum ≤ 8) (hdg : decode cc pc = .ok (.invokestatic index, 3)) :
    ∀ U : State, U.heap = H → Stand p l e R s m args below meth c U locs cells slots → pb_Post p l e R rm s m args below meth c U locs cells slots (F0 m pc ls st0) rest (pb_Q w r av.toArray) (w_A w) := by
  subst hst
  exact pb_pS C F hR hM hw hl hn hrest hdg
theorem pb_V {rm : Room} {own K : String} {index maxL n : Nat} {y : MethodName} {r : Rs} {b : Addr} {av st0 : List Value} (C : pb_CF p m c cc nL s args own) (F : pb_VF own index K y maxL n) (hR : pb_RM R rm maxL cells slots) (hM : pb_C l w y rm (.ref b :: av) S T ov r) (hw : pb_Wd w S T ov s H) (hrc : ∃ cell : Cell, H[b]? = some cell ∧ cell.vm.isStatics = false ∧ s.vm.findClass K = some cell.cls) (hl : ls.size = nL) (hn : av.length = n) (hst : st0 = av.reverse ++ .ref b :: rest) (hrest : (rest.map fun v => v.category).sum ≤ 8) (hdg : decode cc pc = .ok (.invokevirtual index, 3)) :
    ∀ U : State, U.heap = H → Stand p l e R s m args below meth c U locs cells slots → pb_Post p l e R rm s m args below meth c U locs cells slots (F0 m pc ls st0) rest (pb_Q w r (Value.ref b :: av).toArray) (w_A w) := by
  subst hst
  exact pb_pV C F hR hM hw hrc hl hn hrest hdg
theorem pb_retI {rm : Room} {r : Rs} {v : Int32} {S1 : St} {T1 : Mt} {o1 : Int64} {a : Array Value} {st0 : List Value}
    (h : ∀ U : State, U.heap = H → Stand p l e R s m args below meth c U locs cells slots → pb_Post p l e R rm s m args below meth c U locs cells slots (F0 m pc ls st0) rest (pb_Q w r a) (w_A w)) (hS : va_S (w_A w) s.heap H locs) (hq : r = (.inl (some (.int v)), S1, T1, o1))
    (k : ∀ (H1 : Heap) (locs1 : List Loc), pb_Wd w S1 T1 o1 s H1 → va_S (w_A w) s.heap H1 locs1 → W p l e R s m args below meth c H1 locs1 (cells + rm.cells) (slots + rm.slots) Q (F0 m (pc + 3) ls (.int v :: rest))) : W p l e R s m args below meth c H locs cells slots Q (F0 m pc ls st0) :=
  pb_ret (g := F0 m pc ls st0) h hS hq k
theorem pb_retL {rm : Room} {r : Rs} {v : Int64} {S1 : St} {T1 : Mt} {o1 : Int64} {a : Array Value} {st0 : List Value}
    (h : ∀ U : State, U.heap = H → Stand p l e R s m args below meth c U locs cells slots → pb_Post p l e R rm s m args below meth c U locs cells slots (F0 m pc ls st0) rest (pb_Q w r a) (w_A w)) (hS : va_S (w_A w) s.heap H locs) (hq : r = (.inl (some (.long v)), S1, T1, o1))
    (k : ∀ (H1 : Heap) (locs1 : List Loc), pb_Wd w S1 T1 o1 s H1 → va_S (w_A w) s.heap H1 locs1 → W p l e R s m args below meth c H1 locs1 (cells + rm.cells) (slots + rm.slots) Q (F0 m (pc + 3) ls (.long v :: rest))) : W p l e R s m args below meth c H locs cells slots Q (F0 m pc ls st0) :=
  pb_ret (g := F0 m pc ls st0) h hS hq k
theorem pb_retV {rm : Room} {r : Rs}  {S1 : St} {T1 : Mt} {o1 : Int64} {a : Array Value} {st0 : List Value}
    (h : ∀ U : State, U.heap = H → Stand p l e R s m args below meth c U locs cells slots → pb_Post p l e R rm s m args below meth c U locs cells slots (F0 m pc ls st0) rest (pb_Q w r a) (w_A w)) (hS : va_S (w_A w) s.heap H locs) (hq : r = (.inl (none), S1, T1, o1))
    (k : ∀ (H1 : Heap) (locs1 : List Loc), pb_Wd w S1 T1 o1 s H1 → va_S (w_A w) s.heap H1 locs1 → W p l e R s m args below meth c H1 locs1 (cells + rm.cells) (slots + rm.slots) Q (F0 m (pc + 3) ls (rest))) : W p l e R s m args below meth c H locs cells slots Q (F0 m pc ls st0) :=
  pb_ret (g := F0 m pc ls st0) h hS hq k
theorem lc_eq (hb : p.tables.exec = Jvm.exec ∧ c.code = cc) {x y : Int64} {off : Int} {tgt : Nat} (h1 : decode cc pc = .ok (.lcmp, 1)) (h2 : decode cc (pc + 1) = .ok (.ifCond .eq off, 3)) (ht : ((pc + 1 : Nat) : Int) + off = (tgt : Int))
    (kt : x = y → W p l e R s m args below meth c H locs cells slots Q (F0 m tgt ls rest)) (kf : ¬ x = y → W p l e R s m args below meth c H locs cells slots Q (F0 m (pc + 1 + 3) ls rest)) : W p l e R s m args below meth c H locs cells slots Q (F0 m pc ls (.long y :: .long x :: rest)) :=
  W.lcmp hb.1 hb.2 h1 (lv_if_eq hb.1 hb.2 h2 ht (fun h => kt ((lg_cmp_eq x y).mp h)) (fun h => kf (fun z => h ((lg_cmp_eq x y).mpr z))))
theorem lc_ne (hb : p.tables.exec = Jvm.exec ∧ c.code = cc) {x y : Int64} {off : Int} {tgt : Nat} (h1 : decode cc pc = .ok (.lcmp, 1)) (h2 : decode cc (pc + 1) = .ok (.ifCond .ne off, 3)) (ht : ((pc + 1 : Nat) : Int) + off = (tgt : Int))
    (kt : ¬ x = y → W p l e R s m args below meth c H locs cells slots Q (F0 m tgt ls rest)) (kf : x = y → W p l e R s m args below meth c H locs cells slots Q (F0 m (pc + 1 + 3) ls rest)) : W p l e R s m args below meth c H locs cells slots Q (F0 m pc ls (.long y :: .long x :: rest)) :=
  W.lcmp hb.1 hb.2 h1 (lv_if_ne hb.1 hb.2 h2 ht (fun h => kt (fun z => h ((lg_cmp_eq x y).mpr z))) (fun h => kf ((lg_cmp_eq x y).mp h)))
theorem lc_lt (hb : p.tables.exec = Jvm.exec ∧ c.code = cc) {x y : Int64} {off : Int} {tgt : Nat} (h1 : decode cc pc = .ok (.lcmp, 1)) (h2 : decode cc (pc + 1) = .ok (.ifCond .lt off, 3)) (ht : ((pc + 1 : Nat) : Int) + off = (tgt : Int))
    (kt : x < y → W p l e R s m args below meth c H locs cells slots Q (F0 m tgt ls rest)) (kf : ¬ x < y → W p l e R s m args below meth c H locs cells slots Q (F0 m (pc + 1 + 3) ls rest)) : W p l e R s m args below meth c H locs cells slots Q (F0 m pc ls (.long y :: .long x :: rest)) :=
  W.lcmp hb.1 hb.2 h1 (lv_if_lt hb.1 hb.2 h2 ht (fun h => kt ((lg_cmp_lt x y).mp h)) (fun h => kf (fun z => h ((lg_cmp_lt x y).mpr z))))
theorem lc_ge (hb : p.tables.exec = Jvm.exec ∧ c.code = cc) {x y : Int64} {off : Int} {tgt : Nat} (h1 : decode cc pc = .ok (.lcmp, 1)) (h2 : decode cc (pc + 1) = .ok (.ifCond .ge off, 3)) (ht : ((pc + 1 : Nat) : Int) + off = (tgt : Int))
    (kt : y ≤ x → W p l e R s m args below meth c H locs cells slots Q (F0 m tgt ls rest)) (kf : ¬ y ≤ x → W p l e R s m args below meth c H locs cells slots Q (F0 m (pc + 1 + 3) ls rest)) : W p l e R s m args below meth c H locs cells slots Q (F0 m pc ls (.long y :: .long x :: rest)) :=
  W.lcmp hb.1 hb.2 h1 (lv_if_ge hb.1 hb.2 h2 ht (fun h => kt ((lg_cmp_ge x y).mp h)) (fun h => kf (fun z => h ((lg_cmp_ge x y).mpr z))))
theorem lc_gt (hb : p.tables.exec = Jvm.exec ∧ c.code = cc) {x y : Int64} {off : Int} {tgt : Nat} (h1 : decode cc pc = .ok (.lcmp, 1)) (h2 : decode cc (pc + 1) = .ok (.ifCond .gt off, 3)) (ht : ((pc + 1 : Nat) : Int) + off = (tgt : Int))
    (kt : y < x → W p l e R s m args below meth c H locs cells slots Q (F0 m tgt ls rest)) (kf : ¬ y < x → W p l e R s m args below meth c H locs cells slots Q (F0 m (pc + 1 + 3) ls rest)) : W p l e R s m args below meth c H locs cells slots Q (F0 m pc ls (.long y :: .long x :: rest)) :=
  W.lcmp hb.1 hb.2 h1 (lv_if_gt hb.1 hb.2 h2 ht (fun h => kt ((lg_cmp_gt x y).mp h)) (fun h => kf (fun z => h ((lg_cmp_gt x y).mpr z))))
theorem lc_le (hb : p.tables.exec = Jvm.exec ∧ c.code = cc) {x y : Int64} {off : Int} {tgt : Nat} (h1 : decode cc pc = .ok (.lcmp, 1)) (h2 : decode cc (pc + 1) = .ok (.ifCond .le off, 3)) (ht : ((pc + 1 : Nat) : Int) + off = (tgt : Int))
    (kt : x ≤ y → W p l e R s m args below meth c H locs cells slots Q (F0 m tgt ls rest)) (kf : ¬ x ≤ y → W p l e R s m args below meth c H locs cells slots Q (F0 m (pc + 1 + 3) ls rest)) : W p l e R s m args below meth c H locs cells slots Q (F0 m pc ls (.long y :: .long x :: rest)) :=
  W.lcmp hb.1 hb.2 h1 (lv_if_le hb.1 hb.2 h2 ht (fun h => kt ((lg_cmp_le x y).mp h)) (fun h => kf (fun z => h ((lg_cmp_le x y).mpr z))))
end PB8
theorem pb_Wd_nc {w : Wc} {S : St} {T : Mt} {ov : Int64} {U : State} {H : Heap} (h : pb_Wd w S T ov U H) : va_Nc R_IOB R_IAE U := by
  obtain ⟨f, r, g, h1, h2, h3, hP, hD, hK, hE⟩ := h
  exact hE.2.2.1
theorem pb_Wd_nc2 {w : Wc} {S : St} {T : Mt} {ov : Int64} {U : State} {H : Heap} (h : pb_Wd w S T ov U H) : va_Nc R_UOE R_IAE U := by
  obtain ⟨f, r, g, h1, h2, h3, hP, hD, hK, hE⟩ := h
  exact hE.2.2.2
end
section
/-! part 10: leaves (printed by gen/g10.py): in, need, room, fieldBits, width -/
abbrev rm_X_in : Room := { frames := 6, cells := 1, slots := 6, locals := 90 }
set_option maxHeartbeats 4000000 in
set_option maxRecDepth 100000 in
theorem c_X_in (l : Launch) (hfl : l.stackTraces = false) (w : Wc) (S : St) (T : Mt) (ov : Int64) (n : Int32) : pb_C l w y_X_in rm_X_in [.int n] S T ov (r_in R_IAE n S T ov) := by
  refine pb_enter (cc := prog_1_method_2_code) (maxL := 1) (ret := none) (own := "PackedBits") (by decide) pb_k40 rfl (Nat.le_of_ble_eq_true rfl) ?_
  intro p e s m below meth c ls C hr hlocks hno hN hw hS hl
  have hx := C.1
  have hb := C.2.1
  have hown := C.2.2.2.1
  have hts := C.2.2.2.2
  have hl : lv_has ls 1 [(0, .int n)] := hl
  refine lv_iload_n hx hb d_X_in_0 rfl (lv_at hl 0 rfl) ?_
  refine lv_if_ne (tgt := 12) hx hb d_X_in_1 (by decide) (fun h => ?_) (fun h => ?_)
  · exact e_v ⟨hx, hb⟩ hr hlocks hw hS (if_neg h) (by decide) (by decide) d_X_in_12
  · exact pb_new C hfl hlocks pb_k41 pb_k42 pb_k6 pb_fit_IAE pb_namesfit pb_at_IAE hw hS hl.1 d_X_in_4 d_X_in_7 d_X_in_8 d_X_in_11 (by rw [hno]; intro x h; cases h) (by decide) (by decide) (by decide) (by decide) (by decide) (by decide) (if_pos h)
abbrev rm_X_need : Room := { frames := 6, cells := 1, slots := 6, locals := 90 }
set_option maxHeartbeats 4000000 in
set_option maxRecDepth 100000 in
theorem c_X_need (l : Launch) (hfl : l.stackTraces = false) (w : Wc) (S : St) (T : Mt) (ov : Int64) (n : Int32) : pb_C l w y_X_need rm_X_need [.int n] S T ov (r_in R_UOE n S T ov) := by
  refine pb_enter (cc := prog_1_method_3_code) (maxL := 1) (ret := none) (own := "PackedBits") (by decide) pb_k182 rfl (Nat.le_of_ble_eq_true rfl) ?_
  intro p e s m below meth c ls C hr hlocks hno hN hw hS hl
  have hx := C.1
  have hb := C.2.1
  have hown := C.2.2.2.1
  have hts := C.2.2.2.2
  have hl : lv_has ls 1 [(0, .int n)] := hl
  refine lv_iload_n hx hb d_X_need_0 rfl (lv_at hl 0 rfl) ?_
  refine lv_if_ne (tgt := 12) hx hb d_X_need_1 (by decide) (fun h => ?_) (fun h => ?_)
  · exact e_v ⟨hx, hb⟩ hr hlocks hw hS (if_neg h) (by decide) (by decide) d_X_need_12
  · exact pb_new C hfl hlocks pb_k183 pb_k184 pb_k9 pb_fit_UOE pb_namesfit pb_at_UOE hw hS hl.1 d_X_need_4 d_X_need_7 d_X_need_8 d_X_need_11 (by rw [hno]; intro x h; cases h) (by decide) (by decide) (by decide) (by decide) (by decide) (by decide) (if_pos h)
abbrev rm_X_room : Room := { frames := 6, cells := 1, slots := 6, locals := 90 }
set_option maxHeartbeats 4000000 in
set_option maxRecDepth 100000 in
theorem c_X_room (l : Launch) (hfl : l.stackTraces = false) (w : Wc) (S : St) (T : Mt) (ov : Int64) (n : Int32) : pb_C l w y_X_room rm_X_room [.int n] S T ov (r_in R_IOB n S T ov) := by
  refine pb_enter (cc := prog_1_method_4_code) (maxL := 1) (ret := none) (own := "PackedBits") (by decide) pb_k107 rfl (Nat.le_of_ble_eq_true rfl) ?_
  intro p e s m below meth c ls C hr hlocks hno hN hw hS hl
  have hx := C.1
  have hb := C.2.1
  have hown := C.2.2.2.1
  have hts := C.2.2.2.2
  have hl : lv_has ls 1 [(0, .int n)] := hl
  refine lv_iload_n hx hb d_X_room_0 rfl (lv_at hl 0 rfl) ?_
  refine lv_if_ne (tgt := 12) hx hb d_X_room_1 (by decide) (fun h => ?_) (fun h => ?_)
  · exact e_v ⟨hx, hb⟩ hr hlocks hw hS (if_neg h) (by decide) (by decide) d_X_room_12
  · exact pb_new C hfl hlocks pb_k108 pb_k109 pb_k7 pb_fit_IOB pb_namesfit pb_at_IOB hw hS hl.1 d_X_room_4 d_X_room_7 d_X_room_8 d_X_room_11 (by rw [hno]; intro x h; cases h) (by decide) (by decide) (by decide) (by decide) (by decide) (by decide) (if_pos h)
abbrev rm_X_fieldBits : Room := { frames := 0, cells := 0, slots := 0, locals := 0 }
set_option maxHeartbeats 4000000 in
set_option maxRecDepth 100000 in
theorem c_X_fieldBits (l : Launch) (w : Wc) (S : St) (T : Mt) (ov : Int64) (x : Int64) : pb_C l w y_X_fieldBits rm_X_fieldBits [.long x] S T ov (.inl (some (.int (nI (wid x)))), S, T, ov) := by
  refine pb_enter (cc := prog_1_method_5_code) (maxL := 3) (ret := some .int) (own := "PackedBits") (by decide) pb_k140 rfl (Nat.le_of_ble_eq_true rfl) ?_
  intro p e s m below meth c ls C hr hlocks hno hN hw hS hl
  have hx := C.1
  have hb := C.2.1
  have hown := C.2.2.2.1
  have hts := C.2.2.2.2
  have hl : lv_has ls 3 [(0, .long x)] := hl
  refine lv_iconst (v := 0) hx hb d_X_fieldBits_0 (by decide) ?_
  refine lv_istore_n (lv' := [(2, .int 0), (0, .long x)]) hx hb d_X_fieldBits_1 rfl hl (by decide) rfl (fun ls hl => ?_)
  have loop : ∀ n, n ≤ 64 → (wgo x (64 - n) n = wid x → ∀ ls : Array Slot, lv_has ls 3 [(2, .int (nI n)), (0, .long x)] → W p l e rm_X_fieldBits s m ([.long x] : List Value).toArray below meth c s.heap [] 0 0 (pb_MQA below (pb_Q w (.inl (some (.int (nI (wid x)))), S, T, ov)) ([.long x] : List Value).toArray s rm_X_fieldBits.cells rm_X_fieldBits.slots (w_A w)) (F0 m 2 ls [])) := by
    refine up_loop 64 (fun n hn ih => ?_)
    intro hg ls hl
    refine lv_iload_n hx hb d_X_fieldBits_2 rfl (lv_at hl 0 rfl) ?_
    refine lv_bipush (v := 64) hx hb d_X_fieldBits_3 (by decide) ?_
    refine lv_icmp_ge (tgt := 22) hx hb d_X_fieldBits_5 (by decide) (fun h1 => ?_) (fun h1 => ?_)
    · refine lv_iload_n hx hb d_X_fieldBits_22 rfl (lv_at hl 0 rfl) ?_
      have h2 : wgo x (64 - n) n = n := wgo_stop (fun z => absurd h1 (nI_ge z.1 (by decide)))
      rw [← hg, h2]
      exact e_i ⟨hx, hb⟩ hr hlocks hw hS (rfl) (by decide) (by decide) d_X_fieldBits_23
    · have h2 : n < 64 := Nat.lt_of_not_le (fun z => h1 ((nI_leI (by decide) (by omega)).mpr z))
      refine lv_lload_n hx hb d_X_fieldBits_8 rfl (lv_at hl 1 rfl) ?_
      refine lv_iload_n hx hb d_X_fieldBits_9 rfl (lv_at hl 0 rfl) ?_
      refine lv_lushr hx hb d_X_fieldBits_10 rfl ?_
      refine lv_lconst (v := 0) hx hb d_X_fieldBits_11 (by decide) ?_
      refine lc_eq (tgt := 22) ⟨hx, hb⟩ d_X_fieldBits_12 d_X_fieldBits_13 (by decide) (fun h3 => ?_) (fun h3 => ?_)
      · refine lv_iload_n hx hb d_X_fieldBits_22 rfl (lv_at hl 0 rfl) ?_
        have h2 : wgo x (64 - n) n = n := wgo_stop (fun z => z.2 h3)
        rw [← hg, h2]
        exact e_i ⟨hx, hb⟩ hr hlocks hw hS (rfl) (by decide) (by decide) d_X_fieldBits_23
      · refine lv_iinc (k := 0) (v := nI (n + 1)) (lv' := [(2, .int (nI (n + 1))), (0, .long x)]) hx hb d_X_fieldBits_16 hl rfl (nI_1 n) (by decide) rfl (fun ls hl => ?_)
        refine lv_goto (tgt := 2) hx hb d_X_fieldBits_19 (by decide) ?_
        exact ih h2 (by rw [← wgo_next h2 h3]; exact hg) ls hl
  exact loop 0 (by decide) rfl ls hl
abbrev rm_M_width : Room := { frames := 0, cells := 0, slots := 0, locals := 0 }
set_option maxHeartbeats 4000000 in
set_option maxRecDepth 100000 in
theorem c_M_width (l : Launch) (w : Wc) (S : St) (T : Mt) (ov : Int64) (x : Int64) : pb_C l w y_M_width rm_M_width [.ref (w_m w), .long x] S T ov (.inl (some (.int (nI (wid x)))), S, T, ov) := by
  refine pb_enter (cc := prog_3_method_4_code) (maxL := 4) (ret := some .int) (own := "PackedBitsModel") (by decide) pb_k311 rfl (Nat.le_of_ble_eq_true rfl) ?_
  intro p e s m below meth c ls C hr hlocks hno hN hw hS hl
  have hx := C.1
  have hb := C.2.1
  have hown := C.2.2.2.1
  have hts := C.2.2.2.2
  have hl : lv_has ls 4 [(0, .ref (w_m w)), (1, .long x)] := hl
  refine lv_iconst (v := 0) hx hb d_M_width_0 (by decide) ?_
  refine lv_istore_n (lv' := [(3, .int 0), (0, .ref (w_m w)), (1, .long x)]) hx hb d_M_width_1 rfl hl (by decide) rfl (fun ls hl => ?_)
  have loop : ∀ n, n ≤ 64 → (wgo x (64 - n) n = wid x → ∀ ls : Array Slot, lv_has ls 4 [(3, .int (nI n)), (0, .ref (w_m w)), (1, .long x)] → W p l e rm_M_width s m ([.ref (w_m w), .long x] : List Value).toArray below meth c s.heap [] 0 0 (pb_MQA below (pb_Q w (.inl (some (.int (nI (wid x)))), S, T, ov)) ([.ref (w_m w), .long x] : List Value).toArray s rm_M_width.cells rm_M_width.slots (w_A w)) (F0 m 2 ls [])) := by
    refine up_loop 64 (fun n hn ih => ?_)
    intro hg ls hl
    refine lv_iload_n hx hb d_M_width_2 rfl (lv_at hl 0 rfl) ?_
    refine lv_bipush (v := 64) hx hb d_M_width_3 (by decide) ?_
    refine lv_icmp_ge (tgt := 22) hx hb d_M_width_5 (by decide) (fun h1 => ?_) (fun h1 => ?_)
    · refine lv_iload_n hx hb d_M_width_22 rfl (lv_at hl 0 rfl) ?_
      have h2 : wgo x (64 - n) n = n := wgo_stop (fun z => absurd h1 (nI_ge z.1 (by decide)))
      rw [← hg, h2]
      exact e_i ⟨hx, hb⟩ hr hlocks hw hS (rfl) (by decide) (by decide) d_M_width_23
    · have h2 : n < 64 := Nat.lt_of_not_le (fun z => h1 ((nI_leI (by decide) (by omega)).mpr z))
      refine lv_lload_n hx hb d_M_width_8 rfl (lv_at hl 2 rfl) ?_
      refine lv_iload_n hx hb d_M_width_9 rfl (lv_at hl 0 rfl) ?_
      refine lv_lushr hx hb d_M_width_10 rfl ?_
      refine lv_lconst (v := 0) hx hb d_M_width_11 (by decide) ?_
      refine lc_eq (tgt := 22) ⟨hx, hb⟩ d_M_width_12 d_M_width_13 (by decide) (fun h3 => ?_) (fun h3 => ?_)
      · refine lv_iload_n hx hb d_M_width_22 rfl (lv_at hl 0 rfl) ?_
        have h2 : wgo x (64 - n) n = n := wgo_stop (fun z => z.2 h3)
        rw [← hg, h2]
        exact e_i ⟨hx, hb⟩ hr hlocks hw hS (rfl) (by decide) (by decide) d_M_width_23
      · refine lv_iinc (k := 0) (v := nI (n + 1)) (lv' := [(3, .int (nI (n + 1))), (0, .ref (w_m w)), (1, .long x)]) hx hb d_M_width_16 hl rfl (nI_1 n) (by decide) rfl (fun ls hl => ?_)
        refine lv_goto (tgt := 2) hx hb d_M_width_19 (by decide) ?_
        exact ih h2 (by rw [← wgo_next h2 h3]; exact hg) ls hl
  exact loop 0 (by decide) rfl ls hl
end
section
/-! part 11: more leaves (printed by gen/g11.py): bit, bits, bytes, complement, bytesOf -/
abbrev rm_X_bit : Room := { frames := 0, cells := 0, slots := 0, locals := 0 }
set_option maxHeartbeats 4000000 in
set_option maxRecDepth 100000 in
theorem c_X_bit (l : Launch) (w : Wc) (S : St) (T : Mt) (ov : Int64) (v : Bool) (he : S.2.1 < 65536) : pb_C l w y_X_bit rm_X_bit [.ref (w_x w), .int (bI v)] S T ov (.inl none, pb1 v S, T, ov) := by
  refine pb_enter (cc := prog_1_method_6_code) (maxL := 3) (ret := none) (own := "PackedBits") (by decide) pb_k130 rfl (Nat.le_of_ble_eq_true rfl) ?_
  intro p e s m below meth c ls C hr hlocks hno hN hw hS hl
  have hx := C.1
  have hb := C.2.1
  have hown := C.2.2.2.1
  have hts := C.2.2.2.2
  have hl : lv_has ls 3 [(0, .ref (w_x w)), (1, .int (bI v))] := hl
  refine lv_sipush (v := 128) hx hb d_X_bit_0 (by decide) ?_
  refine lv_aload_n hx hb d_X_bit_3 rfl (lv_at hl 0 rfl) ?_
  refine g_X_end C hw d_X_bit_4 ?_
  refine lv_bipush (v := 7) hx hb d_X_bit_7 (by decide) ?_
  refine lv_iand hx hb d_X_bit_9 ?_
  refine lv_eqi (y := nI (S.2.1 % 8)) (i_and7 (by omega)) ?_
  refine lv_ishr hx hb d_X_bit_10 ?_
  refine lv_eqi (y := pb_mask (S.2.1 % 8)) (rfl) ?_
  refine lv_istore_n (lv' := [(2, .int (pb_mask (S.2.1 % 8))), (0, .ref (w_x w)), (1, .int (bI v))]) hx hb d_X_bit_11 rfl hl (by decide) rfl (fun ls hl => ?_)
  refine lv_iload_n hx hb d_X_bit_12 rfl (lv_at hl 2 rfl) ?_
  refine lv_if_eq (tgt := 35) hx hb d_X_bit_13 (by decide) (fun h1 => ?_) (fun h1 => ?_)
  · have hv : v = false := by
      cases v
      · rfl
      · exact absurd h1 (by decide)
    subst hv
    refine lv_aload_n hx hb d_X_bit_35 rfl (lv_at hl 1 rfl) ?_
    refine g_X_out C hw d_X_bit_36 ?_
    refine lv_aload_n hx hb d_X_bit_39 rfl (lv_at hl 1 rfl) ?_
    refine g_X_end C hw d_X_bit_40 ?_
    refine lv_iconst (v := 3) hx hb d_X_bit_43 (by decide) ?_
    refine lv_ishr hx hb d_X_bit_44 ?_
    refine lv_eqi (y := nI (S.2.1 / 8)) (i_shr3 (by omega)) ?_
    refine lv_dup2_11 hx hb d_X_bit_45 rfl rfl ?_
    refine b_ld ⟨hx, hb⟩ hw (k := S.2.1 / 8) (by omega) d_X_bit_46 ?_
    refine lv_iload_n hx hb d_X_bit_47 rfl (lv_at hl 0 rfl) ?_
    refine lv_iconst (v := -1) hx hb d_X_bit_48 (by decide) ?_
    refine lv_ixor hx hb d_X_bit_49 ?_
    refine lv_iand hx hb d_X_bit_50 ?_
    refine lv_i2b hx hb d_X_bit_51 rfl ?_
    refine b_st ⟨hx, hb⟩ hN hw hS (k := S.2.1 / 8) (upb S.2.2 S.2.1 false) (by omega) (by rw [pk_vb]; exact by_clr _ _) (fun j _ hj => by_off _ _ _ _ hj) d_X_bit_52 (fun H locs hw hS => ?_)
    refine lv_aload_n hx hb d_X_bit_53 rfl (lv_at hl 1 rfl) ?_
    refine lv_dup hx hb d_X_bit_54 rfl ?_
    refine g_X_end C hw d_X_bit_55 ?_
    refine lv_iconst (v := 1) hx hb d_X_bit_58 (by decide) ?_
    refine lv_iadd hx hb d_X_bit_59 ?_
    refine lv_eqi (y := nI (S.2.1 + 1)) (nI_1 _) ?_
    refine p_X_end C hN hw hS (S.2.1 + 1) d_X_bit_60 (fun H locs hw hS => ?_)
    exact e_v ⟨hx, hb⟩ hr hlocks hw hS (rfl) (by decide) (by decide) d_X_bit_63
  · have hv : v = true := by
      cases v
      · exact absurd rfl h1
      · rfl
    subst hv
    refine lv_aload_n hx hb d_X_bit_16 rfl (lv_at hl 1 rfl) ?_
    refine g_X_out C hw d_X_bit_17 ?_
    refine lv_aload_n hx hb d_X_bit_20 rfl (lv_at hl 1 rfl) ?_
    refine g_X_end C hw d_X_bit_21 ?_
    refine lv_iconst (v := 3) hx hb d_X_bit_24 (by decide) ?_
    refine lv_ishr hx hb d_X_bit_25 ?_
    refine lv_eqi (y := nI (S.2.1 / 8)) (i_shr3 (by omega)) ?_
    refine lv_dup2_11 hx hb d_X_bit_26 rfl rfl ?_
    refine b_ld ⟨hx, hb⟩ hw (k := S.2.1 / 8) (by omega) d_X_bit_27 ?_
    refine lv_iload_n hx hb d_X_bit_28 rfl (lv_at hl 0 rfl) ?_
    refine lv_ior hx hb d_X_bit_29 ?_
    refine lv_i2b hx hb d_X_bit_30 rfl ?_
    refine b_st ⟨hx, hb⟩ hN hw hS (k := S.2.1 / 8) (upb S.2.2 S.2.1 true) (by omega) (by rw [pk_vb]; exact by_set _ _) (fun j _ hj => by_off _ _ _ _ hj) d_X_bit_31 (fun H locs hw hS => ?_)
    refine lv_goto (tgt := 53) hx hb d_X_bit_32 (by decide) ?_
    refine lv_aload_n hx hb d_X_bit_53 rfl (lv_at hl 1 rfl) ?_
    refine lv_dup hx hb d_X_bit_54 rfl ?_
    refine g_X_end C hw d_X_bit_55 ?_
    refine lv_iconst (v := 1) hx hb d_X_bit_58 (by decide) ?_
    refine lv_iadd hx hb d_X_bit_59 ?_
    refine lv_eqi (y := nI (S.2.1 + 1)) (nI_1 _) ?_
    refine p_X_end C hN hw hS (S.2.1 + 1) d_X_bit_60 (fun H locs hw hS => ?_)
    exact e_v ⟨hx, hb⟩ hr hlocks hw hS (rfl) (by decide) (by decide) d_X_bit_63
abbrev rm_X_bits : Room := { frames := 1, cells := 0, slots := 0, locals := 22 }
set_option maxHeartbeats 4000000 in
set_option maxRecDepth 100000 in
theorem c_X_bits (l : Launch) (w : Wc) (S : St) (T : Mt) (ov : Int64) (x : Int64) (n : Nat) (hn : n ≤ 64) (he : S.2.1 + n ≤ 65536) : pb_C l w y_X_bits rm_X_bits [.ref (w_x w), .long x, .int (nI n)] S T ov (.inl (some (.int (nI (S.2.1 + n)))), pw x n S, T, ov) := by
  refine pb_enter (cc := prog_1_method_7_code) (maxL := 5) (ret := some .int) (own := "PackedBits") (by decide) pb_k126 rfl (Nat.le_of_ble_eq_true rfl) ?_
  intro p e s m below meth c ls C hr hlocks hno hN hw hS hl
  have hx := C.1
  have hb := C.2.1
  have hown := C.2.2.2.1
  have hts := C.2.2.2.2
  have hl : lv_has ls 5 [(0, .ref (w_x w)), (1, .long x), (3, .int (nI n))] := hl
  refine lv_iload_n hx hb d_X_bits_0 rfl (lv_at hl 2 rfl) ?_
  refine lv_iconst (v := 1) hx hb d_X_bits_1 (by decide) ?_
  refine lv_isub hx hb d_X_bits_2 ?_
  refine lv_istore (lv' := [(4, .int ((nI n) - (1))), (0, .ref (w_x w)), (1, .long x), (3, .int (nI n))]) hx hb d_X_bits_3 hl (by decide) rfl (fun ls hl => ?_)
  have loop : ∀ k, ∀ (Z : St) (H : Heap) (locs : List Loc) (ls : Array Slot), k ≤ 64 → Z.2.1 + k ≤ 65536 → pw x k Z = pw x n S → pb_Wd w Z T ov s H → va_S (w_A w) s.heap H locs → lv_has ls 5 [(4, .int (nI k - 1)), (0, .ref (w_x w)), (1, .long x), (3, .int (nI n))] → W p l e rm_X_bits s m ([.ref (w_x w), .long x, .int (nI n)] : List Value).toArray below meth c H locs 0 0 (pb_MQA below (pb_Q w (.inl (some (.int (nI (S.2.1 + n)))), pw x n S, T, ov)) ([.ref (w_x w), .long x, .int (nI n)] : List Value).toArray s rm_X_bits.cells rm_X_bits.slots (w_A w)) (F0 m 5 ls []) := by
    refine dn_loop (fun k ih => ?_)
    intro Z H locs ls hk hz hg hw hS hl
    refine lv_iload hx hb d_X_bits_5 (lv_at hl 0 rfl) ?_
    refine lv_if_lt (tgt := 36) hx hb d_X_bits_7 (by decide) (fun h1 => ?_) (fun h1 => ?_)
    · have hk0 : k = 0 := by
        cases k with
        | zero => rfl
        | succ j => rw [nI_pred] at h1; exact absurd h1 (nI_pos (by omega))
      subst hk0
      have hz2 : Z = pw x n S := hg
      subst hz2
      refine lv_aload_n hx hb d_X_bits_36 rfl (lv_at hl 1 rfl) ?_
      refine g_X_end C hw d_X_bits_37 ?_
      exact e_i ⟨hx, hb⟩ hr hlocks hw hS (rfl) (by decide) (by decide) d_X_bits_40
    · obtain ⟨j, rfl⟩ : ∃ j, k = j + 1 := by
        cases k with
        | zero => exact absurd (by decide : nI 0 - 1 < 0) h1
        | succ j => exact ⟨j, rfl⟩
      refine lv_aload_n hx hb d_X_bits_10 rfl (lv_at hl 1 rfl) ?_
      refine lv_lload_n hx hb d_X_bits_11 rfl (lv_at hl 2 rfl) ?_
      refine lv_iload hx hb d_X_bits_12 (lv_at hl 0 rfl) ?_
      refine lv_eqi (y := nI j) (nI_pred j) ?_
      refine lv_lshr hx hb d_X_bits_14 rfl ?_
      refine lv_lconst (v := 1) hx hb d_X_bits_15 (by decide) ?_
      refine lv_land hx hb d_X_bits_16 ?_
      refine lv_lconst (v := 1) hx hb d_X_bits_17 (by decide) ?_
      refine lc_ne (tgt := 26) ⟨hx, hb⟩ d_X_bits_18 d_X_bits_19 (by decide) (fun h2 => ?_) (fun h2 => ?_)
      · have hv : lb x j = false := Bool.eq_false_iff.mpr (fun z => h2 ((l_sbit x (by omega)).mpr z))
        refine lv_iconst (v := 0) hx hb d_X_bits_26 (by decide) ?_
        refine pb_retV (pb_V (rest := []) C f_X_26 ⟨by decide, by decide, by decide, by decide⟩ (c_X_bit l w Z T ov false (by omega)) hw (pb_Wd_x hw) hl.1 rfl rfl (Nat.le_of_ble_eq_true rfl) d_X_bits_27) hS (rfl) (fun H locs hw hS => ?_)
        refine lv_iinc (k := 0) (v := nI j - 1) (lv' := [(4, .int (nI j - 1)), (0, .ref (w_x w)), (1, .long x), (3, .int (nI n))]) hx hb d_X_bits_30 hl rfl (by rw [nI_pred]; exact (Int32.sub_eq_add_neg (nI j) 1).symm) (by decide) rfl (fun ls hl => ?_)
        refine lv_goto (tgt := 5) hx hb d_X_bits_33 (by decide) ?_
        exact ih j rfl (pb1 false Z) H locs ls (by omega) (by show Z.2.1 + 1 + j ≤ 65536; omega) (by rw [← hg, pw_succ, hv]) hw hS hl
      · have hv : lb x j = true := (l_sbit x (by omega)).mp h2
        refine lv_iconst (v := 1) hx hb d_X_bits_22 (by decide) ?_
        refine lv_goto (tgt := 27) hx hb d_X_bits_23 (by decide) ?_
        refine pb_retV (pb_V (rest := []) C f_X_26 ⟨by decide, by decide, by decide, by decide⟩ (c_X_bit l w Z T ov true (by omega)) hw (pb_Wd_x hw) hl.1 rfl rfl (Nat.le_of_ble_eq_true rfl) d_X_bits_27) hS (rfl) (fun H locs hw hS => ?_)
        refine lv_iinc (k := 0) (v := nI j - 1) (lv' := [(4, .int (nI j - 1)), (0, .ref (w_x w)), (1, .long x), (3, .int (nI n))]) hx hb d_X_bits_30 hl rfl (by rw [nI_pred]; exact (Int32.sub_eq_add_neg (nI j) 1).symm) (by decide) rfl (fun ls hl => ?_)
        refine lv_goto (tgt := 5) hx hb d_X_bits_33 (by decide) ?_
        exact ih j rfl (pb1 true Z) H locs ls (by omega) (by show Z.2.1 + 1 + j ≤ 65536; omega) (by rw [← hg, pw_succ, hv]) hw hS hl
  exact loop n S s.heap [] ls hn he rfl hw hS hl
abbrev rm_X_bytes : Room := { frames := 0, cells := 0, slots := 0, locals := 0 }
set_option maxHeartbeats 4000000 in
set_option maxRecDepth 100000 in
theorem c_X_bytes (l : Launch) (w : Wc) (S : St) (T : Mt) (ov : Int64) (sg : Bool) (x : Int64) : pb_C l w y_X_bytes rm_X_bytes [.int (bI sg), .long x] S T ov (.inl (some (.int (nI (if sg then byS x else byU x)))), S, T, ov) := by
  refine pb_enter (cc := prog_1_method_11_code) (maxL := 4) (ret := some .int) (own := "PackedBits") (by decide) pb_k159 rfl (Nat.le_of_ble_eq_true rfl) ?_
  intro p e s m below meth c ls C hr hlocks hno hN hw hS hl
  have hx := C.1
  have hb := C.2.1
  have hown := C.2.2.2.1
  have hts := C.2.2.2.2
  have hl : lv_has ls 4 [(0, .int (bI sg)), (1, .long x)] := hl
  refine lv_iconst (v := 1) hx hb d_X_bytes_0 (by decide) ?_
  refine lv_istore_n (lv' := [(3, .int 1), (0, .int (bI sg)), (1, .long x)]) hx hb d_X_bytes_1 rfl hl (by decide) rfl (fun ls hl => ?_)
  refine lv_iload_n hx hb d_X_bytes_2 rfl (lv_at hl 1 rfl) ?_
  refine lv_if_eq (tgt := 46) hx hb d_X_bytes_3 (by decide) (fun h1 => ?_) (fun h1 => ?_)
  · have hv : sg = false := by
      cases sg
      · rfl
      · exact absurd h1 (by decide)
    subst hv
    have loop : ∀ n, n ≤ 8 → (1 ≤ n → bgo x (8 - n) n = byU x → ∀ ls : Array Slot, lv_has ls 4 [(3, .int (nI n)), (0, .int (bI false)), (1, .long x)] → W p l e rm_X_bytes s m ([.int (bI false), .long x] : List Value).toArray below meth c s.heap [] 0 0 (pb_MQA below (pb_Q w (.inl (some (.int (nI (if false then byS x else byU x)))), S, T, ov)) ([.int (bI false), .long x] : List Value).toArray s rm_X_bytes.cells rm_X_bytes.slots (w_A w)) (F0 m 46 ls [])) := by
      refine up_loop 8 (fun n hn ih => ?_)
      intro hn1 hg ls hl
      refine lv_iload_n hx hb d_X_bytes_46 rfl (lv_at hl 0 rfl) ?_
      refine lv_bipush (v := 8) hx hb d_X_bytes_47 (by decide) ?_
      refine lv_icmp_ge (tgt := 69) hx hb d_X_bytes_49 (by decide) (fun h1 => ?_) (fun h1 => ?_)
      · refine lv_iload_n hx hb d_X_bytes_69 rfl (lv_at hl 0 rfl) ?_
        have h2 : bgo x (8 - n) n = n := bgo_stop (fun z => absurd h1 (nI_ge z.1 (by decide)))
        have h3 : byU x = n := hg.symm.trans h2
        exact e_i ⟨hx, hb⟩ hr hlocks hw hS (by rw [← h3]; rfl) (by decide) (by decide) d_X_bytes_70
      · have h2 : n < 8 := Nat.lt_of_not_le (fun z => h1 ((nI_leI (by decide) (by omega)).mpr z))
        refine lv_lload_n hx hb d_X_bytes_52 rfl (lv_at hl 2 rfl) ?_
        refine lv_bipush (v := 8) hx hb d_X_bytes_53 (by decide) ?_
        refine lv_iload_n hx hb d_X_bytes_55 rfl (lv_at hl 0 rfl) ?_
        refine lv_imul hx hb d_X_bytes_56 ?_
        refine lv_eqi (y := nI (8 * n)) (i_8 n) ?_
        refine lv_lushr hx hb d_X_bytes_57 rfl ?_
        refine lv_lconst (v := 0) hx hb d_X_bytes_58 (by decide) ?_
        refine lc_le (tgt := 69) ⟨hx, hb⟩ d_X_bytes_59 d_X_bytes_60 (by decide) (fun h3 => ?_) (fun h3 => ?_)
        · refine lv_iload_n hx hb d_X_bytes_69 rfl (lv_at hl 0 rfl) ?_
          have h5 : bgo x (8 - n) n = n := bgo_stop (fun z => absurd h3 (lg_lt_not_le z.2))
          have h3 : byU x = n := hg.symm.trans h5
          exact e_i ⟨hx, hb⟩ hr hlocks hw hS (by rw [← h3]; rfl) (by decide) (by decide) d_X_bytes_70
        · refine lv_iinc (k := 0) (v := nI (n + 1)) (lv' := [(3, .int (nI (n + 1))), (0, .int (bI false)), (1, .long x)]) hx hb d_X_bytes_63 hl rfl (nI_1 n) (by decide) rfl (fun ls hl => ?_)
          refine lv_goto (tgt := 46) hx hb d_X_bytes_66 (by decide) ?_
          exact ih h2 (by omega) (by rw [← bgo_next h2 (Int64.not_le.mp h3)]; exact hg) ls hl
    exact loop 1 (by decide) (by decide) rfl ls hl
  · have hv : sg = true := by
      cases sg
      · exact absurd rfl h1
      · rfl
    subst hv
    have loop : ∀ n, n ≤ 8 → (1 ≤ n → sgo x (8 - n) n = byS x → ∀ ls : Array Slot, lv_has ls 4 [(3, .int (nI n)), (0, .int (bI true)), (1, .long x)] → W p l e rm_X_bytes s m ([.int (bI true), .long x] : List Value).toArray below meth c s.heap [] 0 0 (pb_MQA below (pb_Q w (.inl (some (.int (nI (if true then byS x else byU x)))), S, T, ov)) ([.int (bI true), .long x] : List Value).toArray s rm_X_bytes.cells rm_X_bytes.slots (w_A w)) (F0 m 6 ls [])) := by
      refine up_loop 8 (fun n hn ih => ?_)
      intro hn1 hg ls hl
      refine lv_iload_n hx hb d_X_bytes_6 rfl (lv_at hl 0 rfl) ?_
      refine lv_bipush (v := 8) hx hb d_X_bytes_7 (by decide) ?_
      refine lv_icmp_ge (tgt := 69) hx hb d_X_bytes_9 (by decide) (fun h1 => ?_) (fun h1 => ?_)
      · refine lv_iload_n hx hb d_X_bytes_69 rfl (lv_at hl 0 rfl) ?_
        have h2 : sgo x (8 - n) n = n := sgo_stop (fun z => absurd h1 (nI_ge z.1 (by decide)))
        have h3 : byS x = n := hg.symm.trans h2
        exact e_i ⟨hx, hb⟩ hr hlocks hw hS (by rw [← h3]; rfl) (by decide) (by decide) d_X_bytes_70
      · have h2 : n < 8 := Nat.lt_of_not_le (fun z => h1 ((nI_leI (by decide) (by omega)).mpr z))
        refine lv_lload_n hx hb d_X_bytes_12 rfl (lv_at hl 2 rfl) ?_
        refine lv_bipush (v := 8) hx hb d_X_bytes_13 (by decide) ?_
        refine lv_iload_n hx hb d_X_bytes_15 rfl (lv_at hl 0 rfl) ?_
        refine lv_imul hx hb d_X_bytes_16 ?_
        refine lv_iconst (v := 1) hx hb d_X_bytes_17 (by decide) ?_
        refine lv_isub hx hb d_X_bytes_18 ?_
        refine lv_eqi (y := nI (8 * n - 1)) (i_8m1 hn1) ?_
        refine lv_lshr hx hb d_X_bytes_19 rfl ?_
        refine lv_lconst (v := 0) hx hb d_X_bytes_20 (by decide) ?_
        refine lc_eq (tgt := 69) ⟨hx, hb⟩ d_X_bytes_21 d_X_bytes_22 (by decide) (fun h3 => ?_) (fun h3 => ?_)
        · refine lv_iload_n hx hb d_X_bytes_69 rfl (lv_at hl 0 rfl) ?_
          have h5 : sgo x (8 - n) n = n := sgo_stop (fun z => z.2.1 h3)
          have h3 : byS x = n := hg.symm.trans h5
          exact e_i ⟨hx, hb⟩ hr hlocks hw hS (by rw [← h3]; rfl) (by decide) (by decide) d_X_bytes_70
        · refine lv_lload_n hx hb d_X_bytes_25 rfl (lv_at hl 2 rfl) ?_
          refine lv_bipush (v := 8) hx hb d_X_bytes_26 (by decide) ?_
          refine lv_iload_n hx hb d_X_bytes_28 rfl (lv_at hl 0 rfl) ?_
          refine lv_imul hx hb d_X_bytes_29 ?_
          refine lv_iconst (v := 1) hx hb d_X_bytes_30 (by decide) ?_
          refine lv_isub hx hb d_X_bytes_31 ?_
          refine lv_eqi (y := nI (8 * n - 1)) (i_8m1 hn1) ?_
          refine lv_lshr hx hb d_X_bytes_32 rfl ?_
          refine lv_ldc2 hx hb hown (hts _ pb_k160) d_X_bytes_33 ?_
          refine lc_eq (tgt := 69) ⟨hx, hb⟩ d_X_bytes_36 d_X_bytes_37 (by decide) (fun h4 => ?_) (fun h4 => ?_)
          · refine lv_iload_n hx hb d_X_bytes_69 rfl (lv_at hl 0 rfl) ?_
            have h5 : sgo x (8 - n) n = n := sgo_stop (fun z => z.2.2 h4)
            have h3 : byS x = n := hg.symm.trans h5
            exact e_i ⟨hx, hb⟩ hr hlocks hw hS (by rw [← h3]; rfl) (by decide) (by decide) d_X_bytes_70
          · refine lv_iinc (k := 0) (v := nI (n + 1)) (lv' := [(3, .int (nI (n + 1))), (0, .int (bI true)), (1, .long x)]) hx hb d_X_bytes_40 hl rfl (nI_1 n) (by decide) rfl (fun ls hl => ?_)
            refine lv_goto (tgt := 6) hx hb d_X_bytes_43 (by decide) ?_
            exact ih h2 (by omega) (by rw [← sgo_next h2 h3 h4]; exact hg) ls hl
    exact loop 1 (by decide) (by decide) rfl ls hl
abbrev rm_M_complement : Room := { frames := 0, cells := 0, slots := 0, locals := 0 }
set_option maxHeartbeats 4000000 in
set_option maxRecDepth 100000 in
theorem c_M_complement (l : Launch) (w : Wc) (S : St) (T : Mt) (ov : Int64) (x : Int64) : pb_C l w y_M_complement rm_M_complement [.ref (w_m w), .long x] S T ov (.inl (some (.int (nI (byS x)))), S, T, ov) := by
  refine pb_enter (cc := prog_3_method_6_code) (maxL := 4) (ret := some .int) (own := "PackedBitsModel") (by decide) pb_k329 rfl (Nat.le_of_ble_eq_true rfl) ?_
  intro p e s m below meth c ls C hr hlocks hno hN hw hS hl
  have hx := C.1
  have hb := C.2.1
  have hown := C.2.2.2.1
  have hts := C.2.2.2.2
  have hl : lv_has ls 4 [(0, .ref (w_m w)), (1, .long x)] := hl
  refine lv_iconst (v := 1) hx hb d_M_complement_0 (by decide) ?_
  refine lv_istore_n (lv' := [(3, .int 1), (0, .ref (w_m w)), (1, .long x)]) hx hb d_M_complement_1 rfl hl (by decide) rfl (fun ls hl => ?_)
  have loop : ∀ n, n ≤ 8 → (1 ≤ n → sgo x (8 - n) n = byS x → ∀ ls : Array Slot, lv_has ls 4 [(3, .int (nI n)), (0, .ref (w_m w)), (1, .long x)] → W p l e rm_M_complement s m ([.ref (w_m w), .long x] : List Value).toArray below meth c s.heap [] 0 0 (pb_MQA below (pb_Q w (.inl (some (.int (nI (byS x)))), S, T, ov)) ([.ref (w_m w), .long x] : List Value).toArray s rm_M_complement.cells rm_M_complement.slots (w_A w)) (F0 m 2 ls [])) := by
    refine up_loop 8 (fun n hn ih => ?_)
    intro hn1 hg ls hl
    refine lv_iload_n hx hb d_M_complement_2 rfl (lv_at hl 0 rfl) ?_
    refine lv_bipush (v := 8) hx hb d_M_complement_3 (by decide) ?_
    refine lv_icmp_ge (tgt := 42) hx hb d_M_complement_5 (by decide) (fun h1 => ?_) (fun h1 => ?_)
    · refine lv_iload_n hx hb d_M_complement_42 rfl (lv_at hl 0 rfl) ?_
      have h2 : sgo x (8 - n) n = n := sgo_stop (fun z => absurd h1 (nI_ge z.1 (by decide)))
      have h3 : byS x = n := hg.symm.trans h2
      exact e_i ⟨hx, hb⟩ hr hlocks hw hS (by rw [← h3]) (by decide) (by decide) d_M_complement_43
    · have h2 : n < 8 := Nat.lt_of_not_le (fun z => h1 ((nI_leI (by decide) (by omega)).mpr z))
      refine lv_lload_n hx hb d_M_complement_8 rfl (lv_at hl 2 rfl) ?_
      refine lv_bipush (v := 8) hx hb d_M_complement_9 (by decide) ?_
      refine lv_iload_n hx hb d_M_complement_11 rfl (lv_at hl 0 rfl) ?_
      refine lv_imul hx hb d_M_complement_12 ?_
      refine lv_iconst (v := 1) hx hb d_M_complement_13 (by decide) ?_
      refine lv_isub hx hb d_M_complement_14 ?_
      refine lv_eqi (y := nI (8 * n - 1)) (i_8m1 hn1) ?_
      refine lv_lshr hx hb d_M_complement_15 rfl ?_
      refine lv_lconst (v := 0) hx hb d_M_complement_16 (by decide) ?_
      refine lc_eq (tgt := 42) ⟨hx, hb⟩ d_M_complement_17 d_M_complement_18 (by decide) (fun h3 => ?_) (fun h3 => ?_)
      · refine lv_iload_n hx hb d_M_complement_42 rfl (lv_at hl 0 rfl) ?_
        have h5 : sgo x (8 - n) n = n := sgo_stop (fun z => z.2.1 h3)
        have h3 : byS x = n := hg.symm.trans h5
        exact e_i ⟨hx, hb⟩ hr hlocks hw hS (by rw [← h3]) (by decide) (by decide) d_M_complement_43
      · refine lv_lload_n hx hb d_M_complement_21 rfl (lv_at hl 2 rfl) ?_
        refine lv_bipush (v := 8) hx hb d_M_complement_22 (by decide) ?_
        refine lv_iload_n hx hb d_M_complement_24 rfl (lv_at hl 0 rfl) ?_
        refine lv_imul hx hb d_M_complement_25 ?_
        refine lv_iconst (v := 1) hx hb d_M_complement_26 (by decide) ?_
        refine lv_isub hx hb d_M_complement_27 ?_
        refine lv_eqi (y := nI (8 * n - 1)) (i_8m1 hn1) ?_
        refine lv_lshr hx hb d_M_complement_28 rfl ?_
        refine lv_ldc2 hx hb hown (hts _ pb_k330) d_M_complement_29 ?_
        refine lc_eq (tgt := 42) ⟨hx, hb⟩ d_M_complement_32 d_M_complement_33 (by decide) (fun h4 => ?_) (fun h4 => ?_)
        · refine lv_iload_n hx hb d_M_complement_42 rfl (lv_at hl 0 rfl) ?_
          have h5 : sgo x (8 - n) n = n := sgo_stop (fun z => z.2.2 h4)
          have h3 : byS x = n := hg.symm.trans h5
          exact e_i ⟨hx, hb⟩ hr hlocks hw hS (by rw [← h3]) (by decide) (by decide) d_M_complement_43
        · refine lv_iinc (k := 0) (v := nI (n + 1)) (lv' := [(3, .int (nI (n + 1))), (0, .ref (w_m w)), (1, .long x)]) hx hb d_M_complement_36 hl rfl (nI_1 n) (by decide) rfl (fun ls hl => ?_)
          refine lv_goto (tgt := 2) hx hb d_M_complement_39 (by decide) ?_
          exact ih h2 (by omega) (by rw [← sgo_next h2 h3 h4]; exact hg) ls hl
  exact loop 1 (by decide) (by decide) rfl ls hl
abbrev rm_M_bytesOf : Room := { frames := 1, cells := 0, slots := 0, locals := 23 }
set_option maxHeartbeats 4000000 in
set_option maxRecDepth 100000 in
theorem c_M_bytesOf (l : Launch) (w : Wc) (S : St) (T : Mt) (ov : Int64) (x : Int64) : pb_C l w y_M_bytesOf rm_M_bytesOf [.ref (w_m w), .long x] S T ov (.inl (some (.int (nI (byM x)))), S, T, ov) := by
  refine pb_enter (cc := prog_3_method_5_code) (maxL := 3) (ret := some .int) (own := "PackedBitsModel") (by decide) pb_k334 rfl (Nat.le_of_ble_eq_true rfl) ?_
  intro p e s m below meth c ls C hr hlocks hno hN hw hS hl
  have hx := C.1
  have hb := C.2.1
  have hown := C.2.2.2.1
  have hts := C.2.2.2.2
  have hl : lv_has ls 3 [(0, .ref (w_m w)), (1, .long x)] := hl
  have hwid := wid_le x
  refine lv_aload_n hx hb d_M_bytesOf_0 rfl (lv_at hl 0 rfl) ?_
  refine lv_lload_n hx hb d_M_bytesOf_1 rfl (lv_at hl 1 rfl) ?_
  refine pb_retI (pb_V (rest := []) C f_M_18 ⟨by decide, by decide, by decide, by decide⟩ (c_M_width l w S T ov x) hw (pb_Wd_m hw) hl.1 rfl rfl (Nat.le_of_ble_eq_true rfl) d_M_bytesOf_2) hS (rfl) (fun H locs hw hS => ?_)
  refine lv_if_ne (tgt := 12) hx hb d_M_bytesOf_5 (by decide) (fun h1 => ?_) (fun h1 => ?_)
  · refine lv_aload_n hx hb d_M_bytesOf_12 rfl (lv_at hl 0 rfl) ?_
    refine lv_lload_n hx hb d_M_bytesOf_13 rfl (lv_at hl 1 rfl) ?_
    refine pb_retI (pb_V (rest := []) C f_M_18 ⟨by decide, by decide, by decide, by decide⟩ (c_M_width l w S T ov x) hw (pb_Wd_m hw) hl.1 rfl rfl (Nat.le_of_ble_eq_true rfl) d_M_bytesOf_14) hS (rfl) (fun H locs hw hS => ?_)
    refine lv_bipush (v := 7) hx hb d_M_bytesOf_17 (by decide) ?_
    refine lv_iadd hx hb d_M_bytesOf_19 ?_
    refine lv_bipush (v := 8) hx hb d_M_bytesOf_20 (by decide) ?_
    refine lv_idiv hx hb d_M_bytesOf_22 (by decide) ?_
    refine lv_eqi (y := nI ((wid x + 7) / 8)) (by rw [show nI (wid x) + 7 = nI (wid x + 7) from nI_add _ 7]; exact pk_div (d := 8) (by omega) (by decide) (by decide)) ?_
    have h2 : byM x = (wid x + 7) / 8 := if_neg (fun z => h1 (by rw [z]; rfl))
    exact e_i ⟨hx, hb⟩ hr hlocks hw hS (by rw [h2]) (by decide) (by decide) d_M_bytesOf_23
  · refine lv_iconst (v := 1) hx hb d_M_bytesOf_8 (by decide) ?_
    refine lv_goto (tgt := 23) hx hb d_M_bytesOf_9 (by decide) ?_
    have h2 : byM x = 1 := if_pos ((nI_eq (a := wid x) (b := 0) (by omega) (by decide)).mp h1)
    exact e_i ⟨hx, hb⟩ hr hlocks hw hS (by rw [h2]; rfl) (by decide) (by decide) d_M_bytesOf_23
end
section
/-! part 12: the commands, as both classes answer them: code (0: done), answer, new state -/
def o_w (x : Int64) (k : Nat) (S : St) : Nat × Int32 × St := if 65536 < S.2.1 + k then (2, 0, S) else (0, nI (S.2.1 + k), pw x k S)
def o_put (x : Int64) (n : Int32) (S : St) : Nat × Int32 × St := if n < 0 ∨ 64 < n then (1, 0, S) else o_w x n.toNatClampNeg S
def o_putRange (lo hi n : Int64) (S : St) : Nat × Int32 × St := if n < lo ∨ hi < n then (1, 0, S) else o_w (n - lo) (wid (hi - lo)) S
def o_kk (n : Int32) : Int32 := if n / 16384 < 4 then n / 16384 else 4
def o_lenw (n : Int32) (S : St) : Nat × Int32 × St := if n < 128 then o_w n.toInt64 8 S else if n < 16384 then o_w (32768 ||| n).toInt64 16 S else o_w (192 ||| o_kk n).toInt64 8 S
def o_putLength (n : Int32) (S : St) : Nat × Int32 × St := if n < 0 then (1, 0, S) else ((o_lenw n S).1, if (o_lenw n S).1 = 0 then (if n < 16384 then n else o_kk n * 16384) else 0, (o_lenw n S).2.2)
def o_by (kind : Int32) (n : Int64) : Nat := if kind = 1 then byS n else byU n
def o_1 (kind : Int32) : Nat := if kind = 2 then 1 else 0
def o_big (kind : Int32) (n : Int64) (S : St) : Nat × Int32 × St :=
  if 65536 < S.2.1 + (8 + 8 * o_by kind n + o_1 kind) then (2, 0, S)
  else (0, nI (S.2.1 + (8 + 8 * o_by kind n + o_1 kind)), pw n (8 * o_by kind n) (pw (nI (o_by kind n)).toInt64 8 (if kind = 2 then pb1 true S else S)))
def o_putNumber (kind : Int32) (n : Int64) (S : St) : Nat × Int32 × St := if kind < 0 ∨ 2 < kind then (1, 0, S) else if kind = 2 ∧ 0 ≤ n ∧ n < 64 then o_w n 7 S else o_big kind n S
def o_more (e : Nat) : Nat := if e = 0 then 8 else (8 - e % 8) % 8
def o_fill (S : St) : Nat × Int32 × St := (0, nI (S.2.1 + o_more S.2.1), pw 0 (o_more S.2.1) S)
def o_rd (k : Nat) (S : St) : Nat × Int64 × St := if S.1 + k ≤ S.2.1 then (0, rdv S.2.2 S.1 k, (S.1 + k, S.2)) else (2, 0, S)
def o_take (n : Int32) (S : St) : Nat × Int64 × St := if n < 0 ∨ 64 < n then (1, 0, S) else o_rd n.toNatClampNeg S
def o_takeRange (lo hi : Int64) (S : St) : Nat × Int64 × St := if hi < lo then (1, 0, S) else
  if (o_rd (wid (hi - lo)) S).1 = 0 then (if (hi - lo) + (-9223372036854775808) < (o_rd (wid (hi - lo)) S).2.1 + (-9223372036854775808) then (2, 0, S) else (0, lo + (o_rd (wid (hi - lo)) S).2.1, (o_rd (wid (hi - lo)) S).2.2)) else (2, 0, S)
/-- length(): its answer (or none: the exception), and where it leaves X -/
def x_len3 (S : St) : Option Int32 × St := if (o_rd 14 S).1 = 0 then (if 127 < (o_rd 14 S).2.1.toInt32 then (some (o_rd 14 S).2.1.toInt32, (o_rd 14 S).2.2) else (none, (o_rd 14 S).2.2)) else (none, S)
def x_len4 (S : St) : Option Int32 × St := if (o_rd 6 S).1 = 0 then (if 0 < (o_rd 6 S).2.1.toInt32 ∧ (o_rd 6 S).2.1.toInt32 < 5 then (some ((o_rd 6 S).2.1.toInt32 * 16384), (o_rd 6 S).2.2) else (none, (o_rd 6 S).2.2)) else (none, S)
def x_len2 (S : St) : Option Int32 × St := if (o_rd 1 S).1 = 0 then (if (o_rd 1 S).2.1 = 0 then x_len3 (o_rd 1 S).2.2 else x_len4 (o_rd 1 S).2.2) else (none, S)
def x_len1 (S : St) : Option Int32 × St := if (o_rd 7 S).1 = 0 then (some (o_rd 7 S).2.1.toInt32, (o_rd 7 S).2.2) else (none, S)
def x_len (S : St) : Option Int32 × St := if (o_rd 1 S).1 = 0 then (if (o_rd 1 S).2.1 = 0 then x_len1 (o_rd 1 S).2.2 else x_len2 (o_rd 1 S).2.2) else (none, S)
def o_takeLength (S : St) : Nat × Int32 × St := match x_len S with
  | (some v, Z) => (0, v, Z)
  | (none, _) => (1, 0, S)
def o_fix (kind : Int32) (k : Nat) (n : Int64) : Int64 := if kind = 1 then (n <<< ((64 - nI (8 * k)).toInt64 &&& 63)) >>> ((64 - nI (8 * k)).toInt64 &&& 63) else n
/-- number() behind length(): k bytes -/
def x_num3 (kind : Int32) (k : Nat) (S : St) : Option Int64 × St := if (o_rd (8 * k) S).1 = 0 then
    (if o_by kind (o_fix kind k (o_rd (8 * k) S).2.1) = k ∧ (kind < 2 ∨ o_fix kind k (o_rd (8 * k) S).2.1 < 0 ∨ 63 < o_fix kind k (o_rd (8 * k) S).2.1) then (some (o_fix kind k (o_rd (8 * k) S).2.1), (o_rd (8 * k) S).2.2) else (none, (o_rd (8 * k) S).2.2))
  else (none, S)
def x_num2 (kind : Int32) (S : St) : Option Int64 × St := match x_len S with
  | (some v, Z) => if 0 < v ∧ v < 9 then x_num3 kind v.toNatClampNeg Z else (none, Z)
  | (none, Z) => (none, Z)
def x_num1 (S : St) : Option Int64 × St := if (o_rd 6 S).1 = 0 then (some (o_rd 6 S).2.1, (o_rd 6 S).2.2) else (none, S)
def x_num (kind : Int32) (S : St) : Option Int64 × St := if kind = 2 then (if (o_rd 1 S).1 = 0 then (if (o_rd 1 S).2.1 = 0 then x_num1 (o_rd 1 S).2.2 else x_num2 kind (o_rd 1 S).2.2) else (none, S)) else x_num2 kind S
def o_takeNumber (kind : Int32) (S : St) : Nat × Int64 × St := if kind < 0 ∨ 2 < kind then (1, 0, S) else match x_num kind S with
  | (some v, Z) => (0, v, Z)
  | (none, _) => (2, 0, S)
def o_go (p : Int32) (S : St) : Nat × Int32 × St := if p < 0 ∨ nI S.2.1 < p then (1, 0, S) else (0, nI S.1, (p.toNatClampNeg, S.2))
def o_turn (i : Int32) (S : St) : Nat × Bool × St := if i < 0 ∨ nI S.2.1 ≤ i then (1, false, S) else (0, !S.2.2 i.toNatClampNeg, (S.1, S.2.1, upb S.2.2 i.toNatClampNeg (!S.2.2 i.toNatClampNeg)))
def o_cut (n : Int32) (S : St) : Nat × Int32 × St := if n < 0 ∨ nI S.2.1 < n then (1, 0, S) else (0, nI S.2.1, (min S.1 n.toNatClampNeg, n.toNatClampNeg, S.2.2))
def o_count (k : Int32) (S : St) : Nat × Int32 × St := if k = 0 then (0, nI S.2.1, S) else if k = 1 then (0, nI S.1, S) else (1, 0, S)
/-- what X's method gives: the answer, or the exception of its code -/
def xI (cs : List String) (T : Mt) (ov : Int64) (q : Nat × Int32 × St) : Rs := (match q.1 with
  | 0 => .inl (some (.int q.2.1))
  | k + 1 => .inr (cs.getD k ""), q.2.2, T, ov)
def xL (cs : List String) (T : Mt) (ov : Int64) (q : Nat × Int64 × St) : Rs := (match q.1 with
  | 0 => .inl (some (.long q.2.1))
  | k + 1 => .inr (cs.getD k ""), q.2.2, T, ov)
def xZ (cs : List String) (T : Mt) (ov : Int64) (q : Nat × Bool × St) : Rs := (match q.1 with
  | 0 => .inl (some (.int (bI q.2.1)))
  | k + 1 => .inr (cs.getD k ""), q.2.2, T, ov)
def xO (T : Mt) (ov : Int64) (q : Option Int32 × St) : Rs := (match q.1 with
  | some v => .inl (some (.int v))
  | none => .inr R_UOE, q.2, T, ov)
def xOl (T : Mt) (ov : Int64) (q : Option Int64 × St) : Rs := (match q.1 with
  | some v => .inl (some (.long v))
  | none => .inr R_UOE, q.2, T, ov)
abbrev cs_put : List String := [R_IAE, R_IOB]
abbrev cs_take : List String := [R_IAE, R_UOE]
abbrev cs_one : List String := [R_IAE]
theorem o_w_no {x : Int64} {k : Nat} {S : St} (h : 65536 < S.2.1 + k) : o_w x k S = (2, 0, S) := if_pos h
theorem o_w_ok {x : Int64} {k : Nat} {S : St} (h : ¬ 65536 < S.2.1 + k) : o_w x k S = (0, nI (S.2.1 + k), pw x k S) := if_neg h
theorem o_rd_ok {k : Nat} {S : St} (h : S.1 + k ≤ S.2.1) : o_rd k S = (0, rdv S.2.2 S.1 k, (S.1 + k, S.2)) := if_pos h
theorem o_rd_no {k : Nat} {S : St} (h : ¬ S.1 + k ≤ S.2.1) : o_rd k S = (2, 0, S) := if_neg h
theorem i_gt {e k : Nat} (he : e + k < 2 ^ 31) : (65536 : Int32) < nI e + nI k ↔ 65536 < e + k := by
  rw [nI_add]
  exact nI_ltI (a := 65536) (b := e + k) (by decide) he
theorem i_ofc {n M : Int32} {N : Nat} (hM : M.toInt = N) (h0 : ¬ n < 0) (h1 : ¬ M < n) : n.toNatClampNeg ≤ N ∧ n = nI n.toNatClampNeg ∧ N < 2 ^ 31 := by
  have hN : N < 2 ^ 31 := by
    have h3 := M.toInt_lt
    omega
  obtain ⟨j, hj, rfl⟩ := nI_of2 hM h0 (Int32.not_lt.mp h1)
  have e : (nI j).toNatClampNeg = j := nI_clamp (Nat.lt_of_le_of_lt hj hN)
  rw [e]
  exact ⟨hj, rfl, hN⟩
theorem i_of {n : Int32} (h0 : ¬ n < 0) : n = nI n.toNatClampNeg ∧ n.toNatClampNeg < 2 ^ 31 := by
  obtain ⟨j, hj, rfl⟩ := nI_of h0
  rw [nI_clamp hj]
  exact ⟨rfl, hj⟩
theorem o_put_k {x : Int64} {k : Nat} {S : St} (hk : k ≤ 64) : o_put x (nI k) S = o_w x k S := by
  unfold o_put
  rw [if_neg, nI_clamp (by omega)]
  intro h
  rcases h with h | h
  · exact nI_pos (by omega) h
  · exact absurd ((nI_ltI (a := 64) (by decide) (by omega)).mp h) (by omega)
theorem o_putRange_k {lo hi n : Int64} {S : St} (h1 : ¬ n < lo) (h2 : ¬ hi < n) : o_putRange lo hi n S = o_w (n - lo) (wid (hi - lo)) S := if_neg (fun h => h.elim h1 h2)
theorem o_putLength_no {n : Int32} {S : St} {x : Int64} {k : Nat} (h0 : ¬ n < 0) (he : o_lenw n S = o_w x k S) (h : 65536 < S.2.1 + k) : o_putLength n S = (2, 0, S) := by
  unfold o_putLength
  rw [if_neg h0, he, o_w_no h]
  rfl
theorem o_putLength_ok {n : Int32} {S : St} {x : Int64} {k : Nat} {v : Int32} (h0 : ¬ n < 0) (he : o_lenw n S = o_w x k S) (h : ¬ 65536 < S.2.1 + k) (hv : (if n < 16384 then n else o_kk n * 16384) = v) : o_putLength n S = (0, v, pw x k S) := by
  unfold o_putLength
  rw [if_neg h0, he, o_w_ok h, hv]
  rfl
theorem o_lenw1 {n : Int32} {S : St} (h : n < 128) : o_lenw n S = o_w n.toInt64 8 S := if_pos h
theorem o_lenw2 {n : Int32} {S : St} (h : ¬ n < 128) (h2 : n < 16384) : o_lenw n S = o_w (32768 ||| n).toInt64 16 S := by
  unfold o_lenw
  rw [if_neg h, if_pos h2]
theorem o_lenw3 {n : Int32} {S : St} (h : ¬ n < 128) (h2 : ¬ n < 16384) : o_lenw n S = o_w (192 ||| o_kk n).toInt64 8 S := by
  unfold o_lenw
  rw [if_neg h, if_neg h2]
theorem i_lt_128 {n : Int32} (h : n < 128) : n < 16384 := by
  rw [Int32.lt_iff_toInt_lt] at h ⊢
  have e1 : (128 : Int32).toInt = 128 := by decide
  have e2 : (16384 : Int32).toInt = 16384 := by decide
  omega
theorem o_by_in (kind : Int32) (n : Int64) : 1 ≤ o_by kind n ∧ o_by kind n ≤ 8 := by
  unfold o_by
  split
  · exact byS_in n
  · exact byU_in n
theorem o_1_le (kind : Int32) : o_1 kind ≤ 1 := by
  unfold o_1
  split <;> omega
theorem o_putNumber_k {kind : Int32} {n : Int64} {S : St} (h1 : ¬ kind < 0) (h2 : ¬ 2 < kind) (h3 : ¬ (kind = 2 ∧ 0 ≤ n ∧ n < 64)) : o_putNumber kind n S = o_big kind n S := by
  unfold o_putNumber
  rw [if_neg (fun h => h.elim h1 h2), if_neg h3]
theorem o_putNumber_s {kind : Int32} {n : Int64} {S : St} (h1 : ¬ kind < 0) (h2 : ¬ 2 < kind) (h3 : kind = 2 ∧ 0 ≤ n ∧ n < 64) : o_putNumber kind n S = o_w n 7 S := by
  unfold o_putNumber
  rw [if_neg (fun h => h.elim h1 h2), if_pos h3]
theorem o_big_no {kind : Int32} {n : Int64} {S : St} (h : 65536 < S.2.1 + (8 + 8 * o_by kind n + o_1 kind)) : o_big kind n S = (2, 0, S) := if_pos h
theorem o_big_ok {kind : Int32} {n : Int64} {S : St} (h : ¬ 65536 < S.2.1 + (8 + 8 * o_by kind n + o_1 kind)) : o_big kind n S = (0, nI (S.2.1 + (8 + 8 * o_by kind n + o_1 kind)), pw n (8 * o_by kind n) (pw (nI (o_by kind n)).toInt64 8 (if kind = 2 then pb1 true S else S))) := if_neg h
theorem lb_0 (j : Nat) : lb 0 j = false := by
  show (0#64).getLsbD j = false
  simp
theorem o_more_pos (e : Nat) : 0 < o_more e ↔ (e = 0 ∨ e % 8 ≠ 0) := by
  unfold o_more
  split
  · omega
  · omega
theorem o_more_succ {e : Nat} (h : 0 < o_more e) : o_more (e + 1) + 1 = o_more e := by
  unfold o_more at *
  split at h
  · rename_i h0
    subst h0
    decide
  · rename_i h0
    rw [if_neg (by omega), if_neg h0]
    omega
theorem o_more_le {e : Nat} (h : e ≤ 65536) : e + o_more e ≤ 65536 := by
  unfold o_more
  split
  · omega
  · omega
theorem pw_0 (x : Int64) (S : St) : pw x 0 S = S := rfl
theorem pw_en (x : Int64) (n : Nat) (S : St) : (pw x n S).2.1 = S.2.1 + n := rfl
-- reading
theorem o_take_k {k : Nat} {S : St} (hk : k ≤ 64) : o_take (nI k) S = o_rd k S := by
  unfold o_take
  rw [if_neg, nI_clamp (by omega)]
  intro h
  rcases h with h | h
  · exact nI_pos (by omega) h
  · exact absurd ((nI_ltI (a := 64) (by decide) (by omega)).mp h) (by omega)
theorem o_tr_no {lo hi : Int64} {S : St} (h1 : ¬ hi < lo) (h : ¬ S.1 + wid (hi - lo) ≤ S.2.1) : o_takeRange lo hi S = (2, 0, S) := by
  unfold o_takeRange
  rw [if_neg h1, o_rd_no h]
  rfl
theorem o_tr_big {lo hi : Int64} {S : St} (h1 : ¬ hi < lo) (h : S.1 + wid (hi - lo) ≤ S.2.1) (h2 : hi - lo + (-9223372036854775808) < rdv S.2.2 S.1 (wid (hi - lo)) + (-9223372036854775808)) : o_takeRange lo hi S = (2, 0, S) := by
  unfold o_takeRange
  rw [if_neg h1, o_rd_ok h, if_pos rfl, if_pos h2]
theorem o_tr_ok {lo hi : Int64} {S : St} (h1 : ¬ hi < lo) (h : S.1 + wid (hi - lo) ≤ S.2.1) (h2 : ¬ hi - lo + (-9223372036854775808) < rdv S.2.2 S.1 (wid (hi - lo)) + (-9223372036854775808)) : o_takeRange lo hi S = (0, lo + rdv S.2.2 S.1 (wid (hi - lo)), (S.1 + wid (hi - lo), S.2)) := by
  unfold o_takeRange
  rw [if_neg h1, o_rd_ok h, if_pos rfl, if_neg h2]
theorem x_len_no {S : St} (h : ¬ S.1 + 1 ≤ S.2.1) : x_len S = (none, S) := by
  unfold x_len
  rw [o_rd_no h]
  rfl
theorem x_len_1 {S : St} (h : S.1 + 1 ≤ S.2.1) (h2 : rdv S.2.2 S.1 1 = 0) : x_len S = x_len1 (S.1 + 1, S.2) := by
  unfold x_len
  rw [o_rd_ok h, if_pos rfl, if_pos h2]
theorem x_len_2 {S : St} (h : S.1 + 1 ≤ S.2.1) (h2 : ¬ rdv S.2.2 S.1 1 = 0) : x_len S = x_len2 (S.1 + 1, S.2) := by
  unfold x_len
  rw [o_rd_ok h, if_pos rfl, if_neg h2]
theorem x_len1_no {S : St} (h : ¬ S.1 + 7 ≤ S.2.1) : x_len1 S = (none, S) := by
  unfold x_len1
  rw [o_rd_no h]
  rfl
theorem x_len1_ok {S : St} (h : S.1 + 7 ≤ S.2.1) : x_len1 S = (some (rdv S.2.2 S.1 7).toInt32, (S.1 + 7, S.2)) := by
  unfold x_len1
  rw [o_rd_ok h, if_pos rfl]
theorem x_len2_no {S : St} (h : ¬ S.1 + 1 ≤ S.2.1) : x_len2 S = (none, S) := by
  unfold x_len2
  rw [o_rd_no h]
  rfl
theorem x_len2_3 {S : St} (h : S.1 + 1 ≤ S.2.1) (h2 : rdv S.2.2 S.1 1 = 0) : x_len2 S = x_len3 (S.1 + 1, S.2) := by
  unfold x_len2
  rw [o_rd_ok h, if_pos rfl, if_pos h2]
theorem x_len2_4 {S : St} (h : S.1 + 1 ≤ S.2.1) (h2 : ¬ rdv S.2.2 S.1 1 = 0) : x_len2 S = x_len4 (S.1 + 1, S.2) := by
  unfold x_len2
  rw [o_rd_ok h, if_pos rfl, if_neg h2]
theorem x_len3_no {S : St} (h : ¬ S.1 + 14 ≤ S.2.1) : x_len3 S = (none, S) := by
  unfold x_len3
  rw [o_rd_no h]
  rfl
theorem x_len3_ok {S : St} (h : S.1 + 14 ≤ S.2.1) (h2 : 127 < (rdv S.2.2 S.1 14).toInt32) : x_len3 S = (some (rdv S.2.2 S.1 14).toInt32, (S.1 + 14, S.2)) := by
  unfold x_len3
  rw [o_rd_ok h, if_pos rfl, if_pos h2]
theorem x_len3_bad {S : St} (h : S.1 + 14 ≤ S.2.1) (h2 : ¬ 127 < (rdv S.2.2 S.1 14).toInt32) : x_len3 S = (none, (S.1 + 14, S.2)) := by
  unfold x_len3
  rw [o_rd_ok h, if_pos rfl, if_neg h2]
theorem x_len4_no {S : St} (h : ¬ S.1 + 6 ≤ S.2.1) : x_len4 S = (none, S) := by
  unfold x_len4
  rw [o_rd_no h]
  rfl
theorem x_len4_ok {S : St} (h : S.1 + 6 ≤ S.2.1) (h2 : 0 < (rdv S.2.2 S.1 6).toInt32 ∧ (rdv S.2.2 S.1 6).toInt32 < 5) : x_len4 S = (some ((rdv S.2.2 S.1 6).toInt32 * 16384), (S.1 + 6, S.2)) := by
  unfold x_len4
  rw [o_rd_ok h, if_pos rfl, if_pos h2]
theorem x_len4_bad {S : St} (h : S.1 + 6 ≤ S.2.1) (h2 : ¬ (0 < (rdv S.2.2 S.1 6).toInt32 ∧ (rdv S.2.2 S.1 6).toInt32 < 5)) : x_len4 S = (none, (S.1 + 6, S.2)) := by
  unfold x_len4
  rw [o_rd_ok h, if_pos rfl, if_neg h2]
/-- where length() leaves X: farther, within -/
def x_fw (S Z : St) : Prop := S.1 ≤ Z.1 ∧ Z.1 ≤ Z.2.1 ∧ Z.2 = S.2
theorem x_fw_rf {S : St} (h : S.1 ≤ S.2.1) : x_fw S S := ⟨Nat.le_refl _, h, rfl⟩
theorem x_fw_rd {S : St} {k : Nat} (h : S.1 + k ≤ S.2.1) : x_fw S (S.1 + k, S.2) := ⟨by show S.1 ≤ S.1 + k; omega, h, rfl⟩
theorem x_fw_tr {S Y Z : St} (h : x_fw S Y) (h2 : x_fw Y Z) : x_fw S Z := ⟨Nat.le_trans h.1 h2.1, h2.2.1, h2.2.2.trans h.2.2⟩
theorem x_len1_fw {S : St} (hs : S.1 ≤ S.2.1) : x_fw S (x_len1 S).2 := by
  by_cases h : S.1 + 7 ≤ S.2.1
  · rw [x_len1_ok h]; exact x_fw_rd h
  · rw [x_len1_no h]; exact x_fw_rf hs
theorem x_len3_fw {S : St} (hs : S.1 ≤ S.2.1) : x_fw S (x_len3 S).2 := by
  by_cases h : S.1 + 14 ≤ S.2.1
  · by_cases h2 : 127 < (rdv S.2.2 S.1 14).toInt32
    · rw [x_len3_ok h h2]; exact x_fw_rd h
    · rw [x_len3_bad h h2]; exact x_fw_rd h
  · rw [x_len3_no h]; exact x_fw_rf hs
theorem x_len4_fw {S : St} (hs : S.1 ≤ S.2.1) : x_fw S (x_len4 S).2 := by
  by_cases h : S.1 + 6 ≤ S.2.1
  · by_cases h2 : 0 < (rdv S.2.2 S.1 6).toInt32 ∧ (rdv S.2.2 S.1 6).toInt32 < 5
    · rw [x_len4_ok h h2]; exact x_fw_rd h
    · rw [x_len4_bad h h2]; exact x_fw_rd h
  · rw [x_len4_no h]; exact x_fw_rf hs
theorem x_len2_fw {S : St} (hs : S.1 ≤ S.2.1) : x_fw S (x_len2 S).2 := by
  by_cases h : S.1 + 1 ≤ S.2.1
  · by_cases h2 : rdv S.2.2 S.1 1 = 0
    · rw [x_len2_3 h h2]; exact x_fw_tr (x_fw_rd h) (x_len3_fw h)
    · rw [x_len2_4 h h2]; exact x_fw_tr (x_fw_rd h) (x_len4_fw h)
  · rw [x_len2_no h]; exact x_fw_rf hs
theorem x_len_fw {S : St} (hs : S.1 ≤ S.2.1) : x_fw S (x_len S).2 := by
  by_cases h : S.1 + 1 ≤ S.2.1
  · by_cases h2 : rdv S.2.2 S.1 1 = 0
    · rw [x_len_1 h h2]; exact x_fw_tr (x_fw_rd h) (x_len1_fw h)
    · rw [x_len_2 h h2]; exact x_fw_tr (x_fw_rd h) (x_len2_fw h)
  · rw [x_len_no h]; exact x_fw_rf hs
theorem x_num1_no {S : St} (h : ¬ S.1 + 6 ≤ S.2.1) : x_num1 S = (none, S) := by
  unfold x_num1
  rw [o_rd_no h]
  rfl
theorem x_num1_ok {S : St} (h : S.1 + 6 ≤ S.2.1) : x_num1 S = (some (rdv S.2.2 S.1 6), (S.1 + 6, S.2)) := by
  unfold x_num1
  rw [o_rd_ok h, if_pos rfl]
theorem x_num2_no {kind : Int32} {S Z : St} (h : x_len S = (none, Z)) : x_num2 kind S = (none, Z) := by
  unfold x_num2
  rw [h]
theorem x_num2_bad {kind v : Int32} {S Z : St} (h : x_len S = (some v, Z)) (h2 : ¬ (0 < v ∧ v < 9)) : x_num2 kind S = (none, Z) := by
  unfold x_num2
  rw [h]
  exact if_neg h2
theorem x_num2_ok {kind v : Int32} {S Z : St} (h : x_len S = (some v, Z)) (h2 : 0 < v ∧ v < 9) : x_num2 kind S = x_num3 kind v.toNatClampNeg Z := by
  unfold x_num2
  rw [h]
  exact if_pos h2
theorem x_num3_no {kind : Int32} {k : Nat} {S : St} (h : ¬ S.1 + 8 * k ≤ S.2.1) : x_num3 kind k S = (none, S) := by
  unfold x_num3
  rw [o_rd_no h]
  rfl
theorem x_num3_bad {kind : Int32} {k : Nat} {S : St} (h : S.1 + 8 * k ≤ S.2.1) (h2 : ¬ (o_by kind (o_fix kind k (rdv S.2.2 S.1 (8 * k))) = k ∧ (kind < 2 ∨ o_fix kind k (rdv S.2.2 S.1 (8 * k)) < 0 ∨ 63 < o_fix kind k (rdv S.2.2 S.1 (8 * k))))) : x_num3 kind k S = (none, (S.1 + 8 * k, S.2)) := by
  unfold x_num3
  rw [o_rd_ok h, if_pos rfl, if_neg h2]
theorem x_num3_ok {kind : Int32} {k : Nat} {S : St} (h : S.1 + 8 * k ≤ S.2.1) (h2 : o_by kind (o_fix kind k (rdv S.2.2 S.1 (8 * k))) = k ∧ (kind < 2 ∨ o_fix kind k (rdv S.2.2 S.1 (8 * k)) < 0 ∨ 63 < o_fix kind k (rdv S.2.2 S.1 (8 * k)))) : x_num3 kind k S = (some (o_fix kind k (rdv S.2.2 S.1 (8 * k))), (S.1 + 8 * k, S.2)) := by
  unfold x_num3
  rw [o_rd_ok h, if_pos rfl, if_pos h2]
theorem x_num_p {kind : Int32} {S : St} (h : ¬ kind = 2) : x_num kind S = x_num2 kind S := if_neg h
theorem x_num_no {kind : Int32} {S : St} (hk : kind = 2) (h : ¬ S.1 + 1 ≤ S.2.1) : x_num kind S = (none, S) := by
  unfold x_num
  rw [if_pos hk, o_rd_no h]
  rfl
theorem x_num_1 {kind : Int32} {S : St} (hk : kind = 2) (h : S.1 + 1 ≤ S.2.1) (h2 : rdv S.2.2 S.1 1 = 0) : x_num kind S = x_num1 (S.1 + 1, S.2) := by
  unfold x_num
  rw [if_pos hk, o_rd_ok h, if_pos rfl, if_pos h2]
theorem x_num_2 {kind : Int32} {S : St} (hk : kind = 2) (h : S.1 + 1 ≤ S.2.1) (h2 : ¬ rdv S.2.2 S.1 1 = 0) : x_num kind S = x_num2 kind (S.1 + 1, S.2) := by
  unfold x_num
  rw [if_pos hk, o_rd_ok h, if_pos rfl, if_neg h2]
theorem x_num3_fw {kind : Int32} {k : Nat} {S : St} (hs : S.1 ≤ S.2.1) : x_fw S (x_num3 kind k S).2 := by
  by_cases h : S.1 + 8 * k ≤ S.2.1
  · by_cases h2 : o_by kind (o_fix kind k (rdv S.2.2 S.1 (8 * k))) = k ∧ (kind < 2 ∨ o_fix kind k (rdv S.2.2 S.1 (8 * k)) < 0 ∨ 63 < o_fix kind k (rdv S.2.2 S.1 (8 * k)))
    · rw [x_num3_ok h h2]; exact x_fw_rd h
    · rw [x_num3_bad h h2]; exact x_fw_rd h
  · rw [x_num3_no h]; exact x_fw_rf hs
theorem x_num2_fw {kind : Int32} {S : St} (hs : S.1 ≤ S.2.1) : x_fw S (x_num2 kind S).2 := by
  have hf := x_len_fw hs
  rcases hq : x_len S with ⟨_ | v, Z⟩
  · rw [hq] at hf
    rw [x_num2_no hq]
    exact hf
  · rw [hq] at hf
    by_cases h2 : 0 < v ∧ v < 9
    · rw [x_num2_ok hq h2]
      exact x_fw_tr hf (x_num3_fw hf.2.1)
    · rw [x_num2_bad hq h2]
      exact hf
theorem x_num_fw {kind : Int32} {S : St} (hs : S.1 ≤ S.2.1) : x_fw S (x_num kind S).2 := by
  by_cases hk : kind = 2
  · by_cases h : S.1 + 1 ≤ S.2.1
    · by_cases h2 : rdv S.2.2 S.1 1 = 0
      · rw [x_num_1 hk h h2]
        refine x_fw_tr (x_fw_rd h) ?_
        by_cases h3 : S.1 + 1 + 6 ≤ S.2.1
        · rw [x_num1_ok (S := (S.1 + 1, S.2)) h3]; exact x_fw_rd (S := (S.1 + 1, S.2)) h3
        · rw [x_num1_no (S := (S.1 + 1, S.2)) h3]; exact x_fw_rf h
      · rw [x_num_2 hk h h2]; exact x_fw_tr (x_fw_rd h) (x_num2_fw h)
    · rw [x_num_no hk h]; exact x_fw_rf hs
  · rw [x_num_p hk]; exact x_num2_fw hs
theorem o_tl_no {S Z : St} (h : x_len S = (none, Z)) : o_takeLength S = (1, 0, S) := by
  unfold o_takeLength
  rw [h]
theorem o_tl_ok {S Z : St} {v : Int32} (h : x_len S = (some v, Z)) : o_takeLength S = (0, v, Z) := by
  unfold o_takeLength
  rw [h]
theorem o_tn_no {kind : Int32} {S Z : St} (h1 : ¬ kind < 0) (h2 : ¬ 2 < kind) (h : x_num kind S = (none, Z)) : o_takeNumber kind S = (2, 0, S) := by
  unfold o_takeNumber
  rw [if_neg (fun z => z.elim h1 h2), h]
theorem o_tn_ok {kind : Int32} {S Z : St} {v : Int64} (h1 : ¬ kind < 0) (h2 : ¬ 2 < kind) (h : x_num kind S = (some v, Z)) : o_takeNumber kind S = (0, v, Z) := by
  unfold o_takeNumber
  rw [if_neg (fun z => z.elim h1 h2), h]
theorem o_go_k {k : Nat} {S : St} (hk : k ≤ S.2.1) (he : S.2.1 < 2 ^ 31) : o_go (nI k) S = (0, nI S.1, (k, S.2)) := by
  unfold o_go
  rw [if_neg, nI_clamp (by omega)]
  intro h
  rcases h with h | h
  · exact nI_pos (by omega) h
  · exact absurd ((nI_ltI (by omega) (by omega)).mp h) (by omega)
theorem o_turn_k {k : Nat} {S : St} (hk : k < S.2.1) (he : S.2.1 < 2 ^ 31) : o_turn (nI k) S = (0, !S.2.2 k, (S.1, S.2.1, upb S.2.2 k (!S.2.2 k))) := by
  unfold o_turn
  rw [if_neg, nI_clamp (by omega)]
  intro h
  rcases h with h | h
  · exact nI_pos (by omega) h
  · exact absurd ((nI_leI (by omega) (by omega)).mp h) (by omega)
theorem o_cut_k {k : Nat} {S : St} (hk : k ≤ S.2.1) (he : S.2.1 < 2 ^ 31) : o_cut (nI k) S = (0, nI S.2.1, (min S.1 k, k, S.2.2)) := by
  unfold o_cut
  rw [if_neg, nI_clamp (by omega)]
  intro h
  rcases h with h | h
  · exact nI_pos (by omega) h
  · exact absurd ((nI_ltI (by omega) (by omega)).mp h) (by omega)
theorem rdv_succ (b : Nat → Bool) (p k : Nat) : rdv b p (k + 1) = (rdv b p k <<< ((1 : Int32).toInt64 &&& 63)) ||| (if b (p + k) then 1 else 0) := rfl
theorem upb_same (b : Nat → Bool) (k : Nat) (v : Bool) : upb b k v k = v := if_pos rfl
theorem i_lt9 {v : Int32} (h : v < 9) : v ≤ 8 := by
  rw [Int32.lt_iff_toInt_lt] at h
  rw [Int32.le_iff_toInt_le]
  have e1 : (9 : Int32).toInt = 9 := by decide
  have e2 : (8 : Int32).toInt = 8 := by decide
  omega
end
section
/-! part 13 (printed by gen/g13.py): X: put, putRange, putLength, putNumber, fill -/
abbrev rm_X_put : Room := { frames := 7, cells := 2, slots := 12, locals := 110 }
set_option maxHeartbeats 4000000 in
set_option maxRecDepth 100000 in
theorem c_X_put (l : Launch) (hfl : l.stackTraces = false) (w : Wc) (S : St) (T : Mt) (ov : Int64) (x : Int64) (n : Int32) (hok : pb_ok S) : pb_C l w y_X_put rm_X_put [.ref (w_x w), .long x, .int n] S T ov (xI cs_put T ov (o_put x n S)) := by
  refine pb_enter (cc := prog_1_method_8_code) (maxL := 4) (ret := some .int) (own := "PackedBits") (by decide) pb_k37 rfl (Nat.le_of_ble_eq_true rfl) ?_
  intro p e s m below meth c ls C hr hlocks hno hN hw hS hl
  have hx := C.1
  have hb := C.2.1
  have hown := C.2.2.2.1
  have hts := C.2.2.2.2
  have hl : lv_has ls 4 [(0, .ref (w_x w)), (1, .long x), (3, .int n)] := hl
  have hok1 := hok.1
  have hok2 := hok.2
  refine lv_iload_n hx hb d_X_put_0 rfl (lv_at hl 2 rfl) ?_
  refine lv_if_lt (tgt := 14) hx hb d_X_put_1 (by decide) (fun h1 => ?_) (fun h1 => ?_)
  · refine lv_iconst (v := 0) hx hb d_X_put_14 (by decide) ?_
    refine pb_thr (pb_S (rest := []) C f_X_30 ⟨by decide, by decide, by decide, by decide⟩ (c_X_in l hfl w S T ov 0) hw hl.1 rfl rfl (Nat.le_of_ble_eq_true rfl) d_X_put_15) hS (if_pos rfl) (fun xa H locs hw hS hex => ?_)
    exact e_t hlocks (by rw [hno]; intro x h; cases h) hw hS hex (by rw [show o_put x n S = (1, 0, S) from if_pos (Or.inl h1)]; rfl) (by decide) (by decide)
  · refine lv_iload_n hx hb d_X_put_4 rfl (lv_at hl 2 rfl) ?_
    refine lv_bipush (v := 64) hx hb d_X_put_5 (by decide) ?_
    refine lv_icmp_gt (tgt := 14) hx hb d_X_put_7 (by decide) (fun h2 => ?_) (fun h2 => ?_)
    · refine lv_iconst (v := 0) hx hb d_X_put_14 (by decide) ?_
      refine pb_thr (pb_S (rest := []) C f_X_30 ⟨by decide, by decide, by decide, by decide⟩ (c_X_in l hfl w S T ov 0) hw hl.1 rfl rfl (Nat.le_of_ble_eq_true rfl) d_X_put_15) hS (if_pos rfl) (fun xa H locs hw hS hex => ?_)
      exact e_t hlocks (by rw [hno]; intro x h; cases h) hw hS hex (by rw [show o_put x n S = (1, 0, S) from if_pos (Or.inr h2)]; rfl) (by decide) (by decide)
    · obtain ⟨k, hk, rfl⟩ := nI_of2 (M := 64) (n := 64) rfl h1 (Int32.not_lt.mp h2)
      refine lv_iconst (v := 1) hx hb d_X_put_10 (by decide) ?_
      refine lv_goto (tgt := 15) hx hb d_X_put_11 (by decide) ?_
      refine pb_retV (pb_S (rest := []) C f_X_30 ⟨by decide, by decide, by decide, by decide⟩ (c_X_in l hfl w S T ov 1) hw hl.1 rfl rfl (Nat.le_of_ble_eq_true rfl) d_X_put_15) hS (if_neg (by decide)) (fun H locs hw hS => ?_)
      refine lv_aload_n hx hb d_X_put_18 rfl (lv_at hl 0 rfl) ?_
      refine g_X_end C hw d_X_put_19 ?_
      refine lv_iload_n hx hb d_X_put_22 rfl (lv_at hl 2 rfl) ?_
      refine lv_iadd hx hb d_X_put_23 ?_
      refine lv_ldc hx hb hown (hts _ pb_k104) d_X_put_24 ?_
      refine lv_icmp_gt (tgt := 33) hx hb d_X_put_26 (by decide) (fun h3 => ?_) (fun h3 => ?_)
      · refine lv_iconst (v := 0) hx hb d_X_put_33 (by decide) ?_
        refine pb_thr (pb_S (rest := []) C f_X_34 ⟨by decide, by decide, by decide, by decide⟩ (c_X_room l hfl w S T ov 0) hw hl.1 rfl rfl (Nat.le_of_ble_eq_true rfl) d_X_put_34) hS (if_pos rfl) (fun xa H locs hw hS hex => ?_)
        exact e_t hlocks (by rw [hno]; intro x h; cases h) hw hS hex (by rw [o_put_k hk, o_w_no ((i_gt (by omega)).mp h3)]; rfl) (by decide) (by decide)
      · have h4 : ¬ 65536 < S.2.1 + k := fun z => h3 ((i_gt (by omega)).mpr z)
        refine lv_iconst (v := 1) hx hb d_X_put_29 (by decide) ?_
        refine lv_goto (tgt := 34) hx hb d_X_put_30 (by decide) ?_
        refine pb_retV (pb_S (rest := []) C f_X_34 ⟨by decide, by decide, by decide, by decide⟩ (c_X_room l hfl w S T ov 1) hw hl.1 rfl rfl (Nat.le_of_ble_eq_true rfl) d_X_put_34) hS (if_neg (by decide)) (fun H locs hw hS => ?_)
        refine lv_aload_n hx hb d_X_put_37 rfl (lv_at hl 0 rfl) ?_
        refine lv_lload_n hx hb d_X_put_38 rfl (lv_at hl 1 rfl) ?_
        refine lv_iload_n hx hb d_X_put_39 rfl (lv_at hl 2 rfl) ?_
        refine pb_retI (pb_V (rest := []) C f_X_37 ⟨by decide, by decide, by decide, by decide⟩ (c_X_bits l w S T ov x k hk (by omega)) hw (pb_Wd_x hw) hl.1 rfl rfl (Nat.le_of_ble_eq_true rfl) d_X_put_40) hS (rfl) (fun H locs hw hS => ?_)
        exact e_i ⟨hx, hb⟩ hr hlocks hw hS (by rw [o_put_k hk, o_w_ok h4]; rfl) (by decide) (by decide) d_X_put_43
abbrev rm_X_putRange : Room := { frames := 7, cells := 2, slots := 12, locals := 110 }
set_option maxHeartbeats 4000000 in
set_option maxRecDepth 100000 in
theorem c_X_putRange (l : Launch) (hfl : l.stackTraces = false) (w : Wc) (S : St) (T : Mt) (ov : Int64) (lo hi n : Int64) (hok : pb_ok S) : pb_C l w y_X_putRange rm_X_putRange [.ref (w_x w), .long lo, .long hi, .long n] S T ov (xI cs_put T ov (o_putRange lo hi n S)) := by
  refine pb_enter (cc := prog_1_method_9_code) (maxL := 8) (ret := some .int) (own := "PackedBits") (by decide) pb_k137 rfl (Nat.le_of_ble_eq_true rfl) ?_
  intro p e s m below meth c ls C hr hlocks hno hN hw hS hl
  have hx := C.1
  have hb := C.2.1
  have hown := C.2.2.2.1
  have hts := C.2.2.2.2
  have hl : lv_has ls 8 [(0, .ref (w_x w)), (1, .long lo), (3, .long hi), (5, .long n)] := hl
  have hok1 := hok.1
  have hok2 := hok.2
  have hk := wid_le (hi - lo)
  refine lv_lload_n hx hb d_X_putRange_0 rfl (lv_at hl 1 rfl) ?_
  refine lv_lload hx hb d_X_putRange_1 (lv_at hl 3 rfl) ?_
  refine lc_gt (tgt := 18) ⟨hx, hb⟩ d_X_putRange_3 d_X_putRange_4 (by decide) (fun h1 => ?_) (fun h1 => ?_)
  · refine lv_iconst (v := 0) hx hb d_X_putRange_18 (by decide) ?_
    refine pb_thr (pb_S (rest := []) C f_X_30 ⟨by decide, by decide, by decide, by decide⟩ (c_X_in l hfl w S T ov 0) hw hl.1 rfl rfl (Nat.le_of_ble_eq_true rfl) d_X_putRange_19) hS (if_pos rfl) (fun xa H locs hw hS hex => ?_)
    exact e_t hlocks (by rw [hno]; intro x h; cases h) hw hS hex (by rw [show o_putRange lo hi n S = (1, 0, S) from if_pos (Or.inl h1)]; rfl) (by decide) (by decide)
  · refine lv_lload hx hb d_X_putRange_7 (lv_at hl 3 rfl) ?_
    refine lv_lload_n hx hb d_X_putRange_9 rfl (lv_at hl 2 rfl) ?_
    refine lc_gt (tgt := 18) ⟨hx, hb⟩ d_X_putRange_10 d_X_putRange_11 (by decide) (fun h2 => ?_) (fun h2 => ?_)
    · refine lv_iconst (v := 0) hx hb d_X_putRange_18 (by decide) ?_
      refine pb_thr (pb_S (rest := []) C f_X_30 ⟨by decide, by decide, by decide, by decide⟩ (c_X_in l hfl w S T ov 0) hw hl.1 rfl rfl (Nat.le_of_ble_eq_true rfl) d_X_putRange_19) hS (if_pos rfl) (fun xa H locs hw hS hex => ?_)
      exact e_t hlocks (by rw [hno]; intro x h; cases h) hw hS hex (by rw [show o_putRange lo hi n S = (1, 0, S) from if_pos (Or.inr h2)]; rfl) (by decide) (by decide)
    · refine lv_iconst (v := 1) hx hb d_X_putRange_14 (by decide) ?_
      refine lv_goto (tgt := 19) hx hb d_X_putRange_15 (by decide) ?_
      refine pb_retV (pb_S (rest := []) C f_X_30 ⟨by decide, by decide, by decide, by decide⟩ (c_X_in l hfl w S T ov 1) hw hl.1 rfl rfl (Nat.le_of_ble_eq_true rfl) d_X_putRange_19) hS (if_neg (by decide)) (fun H locs hw hS => ?_)
      refine lv_lload_n hx hb d_X_putRange_22 rfl (lv_at hl 2 rfl) ?_
      refine lv_lload_n hx hb d_X_putRange_23 rfl (lv_at hl 1 rfl) ?_
      refine lv_lsub hx hb d_X_putRange_24 ?_
      refine pb_retI (pb_S (rest := []) C f_X_41 ⟨by decide, by decide, by decide, by decide⟩ (c_X_fieldBits l w S T ov (hi - lo)) hw hl.1 rfl rfl (Nat.le_of_ble_eq_true rfl) d_X_putRange_25) hS (rfl) (fun H locs hw hS => ?_)
      refine lv_istore (lv' := [(7, .int (nI (wid (hi - lo)))), (0, .ref (w_x w)), (1, .long lo), (3, .long hi), (5, .long n)]) hx hb d_X_putRange_28 hl (by decide) rfl (fun ls hl => ?_)
      refine lv_aload_n hx hb d_X_putRange_30 rfl (lv_at hl 1 rfl) ?_
      refine g_X_end C hw d_X_putRange_31 ?_
      refine lv_iload hx hb d_X_putRange_34 (lv_at hl 0 rfl) ?_
      refine lv_iadd hx hb d_X_putRange_36 ?_
      refine lv_ldc hx hb hown (hts _ pb_k104) d_X_putRange_37 ?_
      refine lv_icmp_gt (tgt := 46) hx hb d_X_putRange_39 (by decide) (fun h3 => ?_) (fun h3 => ?_)
      · refine lv_iconst (v := 0) hx hb d_X_putRange_46 (by decide) ?_
        refine pb_thr (pb_S (rest := []) C f_X_34 ⟨by decide, by decide, by decide, by decide⟩ (c_X_room l hfl w S T ov 0) hw hl.1 rfl rfl (Nat.le_of_ble_eq_true rfl) d_X_putRange_47) hS (if_pos rfl) (fun xa H locs hw hS hex => ?_)
        exact e_t hlocks (by rw [hno]; intro x h; cases h) hw hS hex (by rw [o_putRange_k h1 h2, o_w_no ((i_gt (by omega)).mp h3)]; rfl) (by decide) (by decide)
      · have h4 : ¬ 65536 < S.2.1 + wid (hi - lo) := fun z => h3 ((i_gt (by omega)).mpr z)
        refine lv_iconst (v := 1) hx hb d_X_putRange_42 (by decide) ?_
        refine lv_goto (tgt := 47) hx hb d_X_putRange_43 (by decide) ?_
        refine pb_retV (pb_S (rest := []) C f_X_34 ⟨by decide, by decide, by decide, by decide⟩ (c_X_room l hfl w S T ov 1) hw hl.1 rfl rfl (Nat.le_of_ble_eq_true rfl) d_X_putRange_47) hS (if_neg (by decide)) (fun H locs hw hS => ?_)
        refine lv_aload_n hx hb d_X_putRange_50 rfl (lv_at hl 1 rfl) ?_
        refine lv_lload hx hb d_X_putRange_51 (lv_at hl 4 rfl) ?_
        refine lv_lload_n hx hb d_X_putRange_53 rfl (lv_at hl 2 rfl) ?_
        refine lv_lsub hx hb d_X_putRange_54 ?_
        refine lv_iload hx hb d_X_putRange_55 (lv_at hl 0 rfl) ?_
        refine pb_retI (pb_V (rest := []) C f_X_37 ⟨by decide, by decide, by decide, by decide⟩ (c_X_bits l w S T ov (n - lo) (wid (hi - lo)) hk (by omega)) hw (pb_Wd_x hw) hl.1 rfl rfl (Nat.le_of_ble_eq_true rfl) d_X_putRange_57) hS (rfl) (fun H locs hw hS => ?_)
        exact e_i ⟨hx, hb⟩ hr hlocks hw hS (by rw [o_putRange_k h1 h2, o_w_ok h4]; rfl) (by decide) (by decide) d_X_putRange_60
abbrev rm_X_putLength : Room := { frames := 7, cells := 2, slots := 12, locals := 110 }
set_option maxHeartbeats 4000000 in
set_option maxRecDepth 100000 in
theorem c_X_putLength (l : Launch) (hfl : l.stackTraces = false) (w : Wc) (S : St) (T : Mt) (ov : Int64) (n : Int32) (hok : pb_ok S) : pb_C l w y_X_putLength rm_X_putLength [.ref (w_x w), .int n] S T ov (xI cs_put T ov (o_putLength n S)) := by
  refine pb_enter (cc := prog_1_method_10_code) (maxL := 3) (ret := some .int) (own := "PackedBits") (by decide) pb_k147 rfl (Nat.le_of_ble_eq_true rfl) ?_
  intro p e s m below meth c ls C hr hlocks hno hN hw hS hl
  have hx := C.1
  have hb := C.2.1
  have hown := C.2.2.2.1
  have hts := C.2.2.2.2
  have hl : lv_has ls 3 [(0, .ref (w_x w)), (1, .int n)] := hl
  have hok1 := hok.1
  have hok2 := hok.2
  refine lv_iload_n hx hb d_X_putLength_0 rfl (lv_at hl 1 rfl) ?_
  refine lv_if_lt (tgt := 8) hx hb d_X_putLength_1 (by decide) (fun h1 => ?_) (fun h1 => ?_)
  · refine lv_iconst (v := 0) hx hb d_X_putLength_8 (by decide) ?_
    refine pb_thr (pb_S (rest := []) C f_X_30 ⟨by decide, by decide, by decide, by decide⟩ (c_X_in l hfl w S T ov 0) hw hl.1 rfl rfl (Nat.le_of_ble_eq_true rfl) d_X_putLength_9) hS (if_pos rfl) (fun xa H locs hw hS hex => ?_)
    exact e_t hlocks (by rw [hno]; intro x h; cases h) hw hS hex (by rw [show o_putLength n S = (1, 0, S) from if_pos h1]; rfl) (by decide) (by decide)
  · refine lv_iconst (v := 1) hx hb d_X_putLength_4 (by decide) ?_
    refine lv_goto (tgt := 9) hx hb d_X_putLength_5 (by decide) ?_
    refine pb_retV (pb_S (rest := []) C f_X_30 ⟨by decide, by decide, by decide, by decide⟩ (c_X_in l hfl w S T ov 1) hw hl.1 rfl rfl (Nat.le_of_ble_eq_true rfl) d_X_putLength_9) hS (if_neg (by decide)) (fun H locs hw hS => ?_)
    refine lv_aload_n hx hb d_X_putLength_12 rfl (lv_at hl 0 rfl) ?_
    refine g_X_end C hw d_X_putLength_13 ?_
    refine lv_iload_n hx hb d_X_putLength_16 rfl (lv_at hl 1 rfl) ?_
    refine lv_sipush (v := 128) hx hb d_X_putLength_17 (by decide) ?_
    refine lv_icmp_lt (tgt := 30) hx hb d_X_putLength_20 (by decide) (fun h2 => ?_) (fun h2 => ?_)
    · refine lv_bipush (v := 8) hx hb d_X_putLength_30 (by decide) ?_
      refine lv_goto (tgt := 37) hx hb d_X_putLength_32 (by decide) ?_
      refine lv_iadd hx hb d_X_putLength_37 ?_
      refine lv_ldc hx hb hown (hts _ pb_k104) d_X_putLength_38 ?_
      refine lv_icmp_gt (tgt := 47) hx hb d_X_putLength_40 (by decide) (fun h9 => ?_) (fun h9 => ?_)
      · refine lv_iconst (v := 0) hx hb d_X_putLength_47 (by decide) ?_
        refine pb_thr (pb_S (rest := []) C f_X_34 ⟨by decide, by decide, by decide, by decide⟩ (c_X_room l hfl w S T ov 0) hw hl.1 rfl rfl (Nat.le_of_ble_eq_true rfl) d_X_putLength_48) hS (if_pos rfl) (fun xa H locs hw hS hex => ?_)
        exact e_t hlocks (by rw [hno]; intro x h; cases h) hw hS hex (by rw [o_putLength_no h1 (o_lenw1 h2) ((i_gt (e := S.2.1) (k := 8) (by omega)).mp h9)]; rfl) (by decide) (by decide)
      · have h8 : ¬ 65536 < S.2.1 + 8 := fun z => h9 ((i_gt (e := S.2.1) (k := 8) (by omega)).mpr z)
        refine lv_iconst (v := 1) hx hb d_X_putLength_43 (by decide) ?_
        refine lv_goto (tgt := 48) hx hb d_X_putLength_44 (by decide) ?_
        refine pb_retV (pb_S (rest := []) C f_X_34 ⟨by decide, by decide, by decide, by decide⟩ (c_X_room l hfl w S T ov 1) hw hl.1 rfl rfl (Nat.le_of_ble_eq_true rfl) d_X_putLength_48) hS (if_neg (by decide)) (fun H locs hw hS => ?_)
        refine lv_iload_n hx hb d_X_putLength_51 rfl (lv_at hl 1 rfl) ?_
        refine lv_sipush (v := 128) hx hb d_X_putLength_52 (by decide) ?_
        refine lv_icmp_ge (tgt := 69) hx hb d_X_putLength_55 (by decide) (fun h5 => ?_) (fun h5 => ?_)
        · exact absurd h2 (Int32.not_lt.mpr h5)
        · refine lv_aload_n hx hb d_X_putLength_58 rfl (lv_at hl 0 rfl) ?_
          refine lv_iload_n hx hb d_X_putLength_59 rfl (lv_at hl 1 rfl) ?_
          refine lv_i2l hx hb d_X_putLength_60 rfl ?_
          refine lv_bipush (v := 8) hx hb d_X_putLength_61 (by decide) ?_
          refine pb_retI (pb_V (rest := []) C f_X_37 ⟨by decide, by decide, by decide, by decide⟩ (c_X_bits l w S T ov n.toInt64 8 (by decide) (by omega)) hw (pb_Wd_x hw) hl.1 rfl rfl (Nat.le_of_ble_eq_true rfl) d_X_putLength_63) hS (rfl) (fun H locs hw hS => ?_)
          refine lv_pop hx hb d_X_putLength_66 rfl ?_
          refine lv_iload_n hx hb d_X_putLength_67 rfl (lv_at hl 1 rfl) ?_
          exact e_i ⟨hx, hb⟩ hr hlocks hw hS (by rw [o_putLength_ok h1 (o_lenw1 h2) h8 (if_pos (i_lt_128 h2))]; rfl) (by decide) (by decide) d_X_putLength_68
    · refine lv_iload_n hx hb d_X_putLength_23 rfl (lv_at hl 1 rfl) ?_
      refine lv_sipush (v := 16384) hx hb d_X_putLength_24 (by decide) ?_
      refine lv_icmp_lt (tgt := 35) hx hb d_X_putLength_27 (by decide) (fun h3 => ?_) (fun h3 => ?_)
      · refine lv_bipush (v := 16) hx hb d_X_putLength_35 (by decide) ?_
        refine lv_iadd hx hb d_X_putLength_37 ?_
        refine lv_ldc hx hb hown (hts _ pb_k104) d_X_putLength_38 ?_
        refine lv_icmp_gt (tgt := 47) hx hb d_X_putLength_40 (by decide) (fun h9 => ?_) (fun h9 => ?_)
        · refine lv_iconst (v := 0) hx hb d_X_putLength_47 (by decide) ?_
          refine pb_thr (pb_S (rest := []) C f_X_34 ⟨by decide, by decide, by decide, by decide⟩ (c_X_room l hfl w S T ov 0) hw hl.1 rfl rfl (Nat.le_of_ble_eq_true rfl) d_X_putLength_48) hS (if_pos rfl) (fun xa H locs hw hS hex => ?_)
          exact e_t hlocks (by rw [hno]; intro x h; cases h) hw hS hex (by rw [o_putLength_no h1 (o_lenw2 h2 h3) ((i_gt (e := S.2.1) (k := 16) (by omega)).mp h9)]; rfl) (by decide) (by decide)
        · have h8 : ¬ 65536 < S.2.1 + 16 := fun z => h9 ((i_gt (e := S.2.1) (k := 16) (by omega)).mpr z)
          refine lv_iconst (v := 1) hx hb d_X_putLength_43 (by decide) ?_
          refine lv_goto (tgt := 48) hx hb d_X_putLength_44 (by decide) ?_
          refine pb_retV (pb_S (rest := []) C f_X_34 ⟨by decide, by decide, by decide, by decide⟩ (c_X_room l hfl w S T ov 1) hw hl.1 rfl rfl (Nat.le_of_ble_eq_true rfl) d_X_putLength_48) hS (if_neg (by decide)) (fun H locs hw hS => ?_)
          refine lv_iload_n hx hb d_X_putLength_51 rfl (lv_at hl 1 rfl) ?_
          refine lv_sipush (v := 128) hx hb d_X_putLength_52 (by decide) ?_
          refine lv_icmp_ge (tgt := 69) hx hb d_X_putLength_55 (by decide) (fun h5 => ?_) (fun h5 => ?_)
          · refine lv_iload_n hx hb d_X_putLength_69 rfl (lv_at hl 1 rfl) ?_
            refine lv_sipush (v := 16384) hx hb d_X_putLength_70 (by decide) ?_
            refine lv_icmp_ge (tgt := 90) hx hb d_X_putLength_73 (by decide) (fun h6 => ?_) (fun h6 => ?_)
            · exact absurd h3 (Int32.not_lt.mpr h6)
            · refine lv_aload_n hx hb d_X_putLength_76 rfl (lv_at hl 0 rfl) ?_
              refine lv_ldc hx hb hown (hts _ pb_k148) d_X_putLength_77 ?_
              refine lv_iload_n hx hb d_X_putLength_79 rfl (lv_at hl 1 rfl) ?_
              refine lv_ior hx hb d_X_putLength_80 ?_
              refine lv_i2l hx hb d_X_putLength_81 rfl ?_
              refine lv_bipush (v := 16) hx hb d_X_putLength_82 (by decide) ?_
              refine pb_retI (pb_V (rest := []) C f_X_37 ⟨by decide, by decide, by decide, by decide⟩ (c_X_bits l w S T ov (32768 ||| n).toInt64 16 (by decide) (by omega)) hw (pb_Wd_x hw) hl.1 rfl rfl (Nat.le_of_ble_eq_true rfl) d_X_putLength_84) hS (rfl) (fun H locs hw hS => ?_)
              refine lv_pop hx hb d_X_putLength_87 rfl ?_
              refine lv_iload_n hx hb d_X_putLength_88 rfl (lv_at hl 1 rfl) ?_
              exact e_i ⟨hx, hb⟩ hr hlocks hw hS (by rw [o_putLength_ok h1 (o_lenw2 h2 h3) h8 (if_pos h3)]; rfl) (by decide) (by decide) d_X_putLength_89
          · exact absurd (Int32.not_le.mp h5) h2
      · refine lv_bipush (v := 8) hx hb d_X_putLength_30 (by decide) ?_
        refine lv_goto (tgt := 37) hx hb d_X_putLength_32 (by decide) ?_
        refine lv_iadd hx hb d_X_putLength_37 ?_
        refine lv_ldc hx hb hown (hts _ pb_k104) d_X_putLength_38 ?_
        refine lv_icmp_gt (tgt := 47) hx hb d_X_putLength_40 (by decide) (fun h9 => ?_) (fun h9 => ?_)
        · refine lv_iconst (v := 0) hx hb d_X_putLength_47 (by decide) ?_
          refine pb_thr (pb_S (rest := []) C f_X_34 ⟨by decide, by decide, by decide, by decide⟩ (c_X_room l hfl w S T ov 0) hw hl.1 rfl rfl (Nat.le_of_ble_eq_true rfl) d_X_putLength_48) hS (if_pos rfl) (fun xa H locs hw hS hex => ?_)
          exact e_t hlocks (by rw [hno]; intro x h; cases h) hw hS hex (by rw [o_putLength_no h1 (o_lenw3 h2 h3) ((i_gt (e := S.2.1) (k := 8) (by omega)).mp h9)]; rfl) (by decide) (by decide)
        · have h8 : ¬ 65536 < S.2.1 + 8 := fun z => h9 ((i_gt (e := S.2.1) (k := 8) (by omega)).mpr z)
          refine lv_iconst (v := 1) hx hb d_X_putLength_43 (by decide) ?_
          refine lv_goto (tgt := 48) hx hb d_X_putLength_44 (by decide) ?_
          refine pb_retV (pb_S (rest := []) C f_X_34 ⟨by decide, by decide, by decide, by decide⟩ (c_X_room l hfl w S T ov 1) hw hl.1 rfl rfl (Nat.le_of_ble_eq_true rfl) d_X_putLength_48) hS (if_neg (by decide)) (fun H locs hw hS => ?_)
          refine lv_iload_n hx hb d_X_putLength_51 rfl (lv_at hl 1 rfl) ?_
          refine lv_sipush (v := 128) hx hb d_X_putLength_52 (by decide) ?_
          refine lv_icmp_ge (tgt := 69) hx hb d_X_putLength_55 (by decide) (fun h5 => ?_) (fun h5 => ?_)
          · refine lv_iload_n hx hb d_X_putLength_69 rfl (lv_at hl 1 rfl) ?_
            refine lv_sipush (v := 16384) hx hb d_X_putLength_70 (by decide) ?_
            refine lv_icmp_ge (tgt := 90) hx hb d_X_putLength_73 (by decide) (fun h6 => ?_) (fun h6 => ?_)
            · refine lv_iload_n hx hb d_X_putLength_90 rfl (lv_at hl 1 rfl) ?_
              refine lv_sipush (v := 16384) hx hb d_X_putLength_91 (by decide) ?_
              refine lv_idiv hx hb d_X_putLength_94 (by decide) ?_
              refine lv_iconst (v := 4) hx hb d_X_putLength_95 (by decide) ?_
              refine lv_icmp_ge (tgt := 107) hx hb d_X_putLength_96 (by decide) (fun h7 => ?_) (fun h7 => ?_)
              · have h10 : o_kk n = 4 := if_neg (Int32.not_lt.mpr h7)
                refine lv_iconst (v := 4) hx hb d_X_putLength_107 (by decide) ?_
                refine lv_istore_n (lv' := [(2, .int 4), (0, .ref (w_x w)), (1, .int n)]) hx hb d_X_putLength_108 rfl hl (by decide) rfl (fun ls hl => ?_)
                refine lv_aload_n hx hb d_X_putLength_109 rfl (lv_at hl 1 rfl) ?_
                refine lv_sipush (v := 192) hx hb d_X_putLength_110 (by decide) ?_
                refine lv_iload_n hx hb d_X_putLength_113 rfl (lv_at hl 0 rfl) ?_
                refine lv_ior hx hb d_X_putLength_114 ?_
                refine lv_i2l hx hb d_X_putLength_115 rfl ?_
                refine lv_bipush (v := 8) hx hb d_X_putLength_116 (by decide) ?_
                refine pb_retI (pb_V (rest := []) C f_X_37 ⟨by decide, by decide, by decide, by decide⟩ (c_X_bits l w S T ov (192 ||| (4)).toInt64 8 (by decide) (by omega)) hw (pb_Wd_x hw) hl.1 rfl rfl (Nat.le_of_ble_eq_true rfl) d_X_putLength_118) hS (rfl) (fun H locs hw hS => ?_)
                refine lv_pop hx hb d_X_putLength_121 rfl ?_
                refine lv_iload_n hx hb d_X_putLength_122 rfl (lv_at hl 0 rfl) ?_
                refine lv_sipush (v := 16384) hx hb d_X_putLength_123 (by decide) ?_
                refine lv_imul hx hb d_X_putLength_126 ?_
                exact e_i ⟨hx, hb⟩ hr hlocks hw hS (by rw [o_putLength_ok h1 (o_lenw3 h2 h3) h8 (if_neg h3), h10]; rfl) (by decide) (by decide) d_X_putLength_127
              · have h10 : o_kk n = n / 16384 := if_pos (Int32.not_le.mp h7)
                refine lv_iload_n hx hb d_X_putLength_99 rfl (lv_at hl 1 rfl) ?_
                refine lv_sipush (v := 16384) hx hb d_X_putLength_100 (by decide) ?_
                refine lv_idiv hx hb d_X_putLength_103 (by decide) ?_
                refine lv_goto (tgt := 108) hx hb d_X_putLength_104 (by decide) ?_
                refine lv_istore_n (lv' := [(2, .int ((n) / (16384))), (0, .ref (w_x w)), (1, .int n)]) hx hb d_X_putLength_108 rfl hl (by decide) rfl (fun ls hl => ?_)
                refine lv_aload_n hx hb d_X_putLength_109 rfl (lv_at hl 1 rfl) ?_
                refine lv_sipush (v := 192) hx hb d_X_putLength_110 (by decide) ?_
                refine lv_iload_n hx hb d_X_putLength_113 rfl (lv_at hl 0 rfl) ?_
                refine lv_ior hx hb d_X_putLength_114 ?_
                refine lv_i2l hx hb d_X_putLength_115 rfl ?_
                refine lv_bipush (v := 8) hx hb d_X_putLength_116 (by decide) ?_
                refine pb_retI (pb_V (rest := []) C f_X_37 ⟨by decide, by decide, by decide, by decide⟩ (c_X_bits l w S T ov (192 ||| (n / 16384)).toInt64 8 (by decide) (by omega)) hw (pb_Wd_x hw) hl.1 rfl rfl (Nat.le_of_ble_eq_true rfl) d_X_putLength_118) hS (rfl) (fun H locs hw hS => ?_)
                refine lv_pop hx hb d_X_putLength_121 rfl ?_
                refine lv_iload_n hx hb d_X_putLength_122 rfl (lv_at hl 0 rfl) ?_
                refine lv_sipush (v := 16384) hx hb d_X_putLength_123 (by decide) ?_
                refine lv_imul hx hb d_X_putLength_126 ?_
                exact e_i ⟨hx, hb⟩ hr hlocks hw hS (by rw [o_putLength_ok h1 (o_lenw3 h2 h3) h8 (if_neg h3), h10]; rfl) (by decide) (by decide) d_X_putLength_127
            · exact absurd (Int32.not_le.mp h6) h3
          · exact absurd (Int32.not_le.mp h5) h2
abbrev rm_X_putNumber : Room := { frames := 7, cells := 3, slots := 18, locals := 110 }
set_option maxHeartbeats 4000000 in
set_option maxRecDepth 100000 in
theorem c_X_putNumber (l : Launch) (hfl : l.stackTraces = false) (w : Wc) (S : St) (T : Mt) (ov : Int64) (kind : Int32) (n : Int64) (hok : pb_ok S) : pb_C l w y_X_putNumber rm_X_putNumber [.ref (w_x w), .int kind, .long n] S T ov (xI cs_put T ov (o_putNumber kind n S)) := by
  refine pb_enter (cc := prog_1_method_12_code) (maxL := 5) (ret := some .int) (own := "PackedBits") (by decide) pb_k155 rfl (Nat.le_of_ble_eq_true rfl) ?_
  intro p e s m below meth c ls C hr hlocks hno hN hw hS hl
  have hx := C.1
  have hb := C.2.1
  have hown := C.2.2.2.1
  have hts := C.2.2.2.2
  have hl : lv_has ls 5 [(0, .ref (w_x w)), (1, .int kind), (2, .long n)] := hl
  have hok1 := hok.1
  have hok2 := hok.2
  obtain ⟨hk1, hk2⟩ := o_by_in kind n
  have hk3 := o_1_le kind
  refine lv_iload_n hx hb d_X_putNumber_0 rfl (lv_at hl 1 rfl) ?_
  refine lv_if_lt (tgt := 13) hx hb d_X_putNumber_1 (by decide) (fun h1 => ?_) (fun h1 => ?_)
  · refine lv_iconst (v := 0) hx hb d_X_putNumber_13 (by decide) ?_
    refine pb_thr (pb_S (rest := []) C f_X_30 ⟨by decide, by decide, by decide, by decide⟩ (c_X_in l hfl w S T ov 0) hw hl.1 rfl rfl (Nat.le_of_ble_eq_true rfl) d_X_putNumber_14) hS (if_pos rfl) (fun xa H locs hw hS hex => ?_)
    exact e_t hlocks (by rw [hno]; intro x h; cases h) hw hS hex (by rw [show o_putNumber kind n S = (1, 0, S) from if_pos (Or.inl h1)]; rfl) (by decide) (by decide)
  · refine lv_iload_n hx hb d_X_putNumber_4 rfl (lv_at hl 1 rfl) ?_
    refine lv_iconst (v := 2) hx hb d_X_putNumber_5 (by decide) ?_
    refine lv_icmp_gt (tgt := 13) hx hb d_X_putNumber_6 (by decide) (fun h2 => ?_) (fun h2 => ?_)
    · refine lv_iconst (v := 0) hx hb d_X_putNumber_13 (by decide) ?_
      refine pb_thr (pb_S (rest := []) C f_X_30 ⟨by decide, by decide, by decide, by decide⟩ (c_X_in l hfl w S T ov 0) hw hl.1 rfl rfl (Nat.le_of_ble_eq_true rfl) d_X_putNumber_14) hS (if_pos rfl) (fun xa H locs hw hS hex => ?_)
      exact e_t hlocks (by rw [hno]; intro x h; cases h) hw hS hex (by rw [show o_putNumber kind n S = (1, 0, S) from if_pos (Or.inr h2)]; rfl) (by decide) (by decide)
    · refine lv_iconst (v := 1) hx hb d_X_putNumber_9 (by decide) ?_
      refine lv_goto (tgt := 14) hx hb d_X_putNumber_10 (by decide) ?_
      refine pb_retV (pb_S (rest := []) C f_X_30 ⟨by decide, by decide, by decide, by decide⟩ (c_X_in l hfl w S T ov 1) hw hl.1 rfl rfl (Nat.le_of_ble_eq_true rfl) d_X_putNumber_14) hS (if_neg (by decide)) (fun H locs hw hS => ?_)
      have J64 : (¬ (kind = 2 ∧ 0 ≤ n ∧ n < 64)) → W p l e rm_X_putNumber s m ([.ref (w_x w), .int kind, .long n] : List Value).toArray below meth c H locs (0 + rm_X_in.cells) (0 + rm_X_in.slots) (pb_MQA below (pb_Q w (xI cs_put T ov (o_putNumber kind n S))) ([.ref (w_x w), .int kind, .long n] : List Value).toArray s rm_X_putNumber.cells rm_X_putNumber.slots (w_A w)) (F0 m 64 ls []) := by
        intro hns
        have hq := o_putNumber_k (S := S) h1 h2 hns
        have J74 : ∀ sg : Bool, (if sg then byS n else byU n) = o_by kind n → W p l e rm_X_putNumber s m ([.ref (w_x w), .int kind, .long n] : List Value).toArray below meth c H locs (0 + rm_X_in.cells) (0 + rm_X_in.slots) (pb_MQA below (pb_Q w (xI cs_put T ov (o_putNumber kind n S))) ([.ref (w_x w), .int kind, .long n] : List Value).toArray s rm_X_putNumber.cells rm_X_putNumber.slots (w_A w)) (F0 m 74 ls [.int (bI sg)]) := by
          intro sg hsg
          refine lv_lload_n hx hb d_X_putNumber_74 rfl (lv_at hl 2 rfl) ?_
          refine pb_retI (pb_S (rest := []) C f_X_50 ⟨by decide, by decide, by decide, by decide⟩ (c_X_bytes l w S T ov sg n) hw hl.1 rfl rfl (Nat.le_of_ble_eq_true rfl) d_X_putNumber_75) hS (by rw [hsg]) (fun H locs hw hS => ?_)
          refine lv_istore (lv' := [(4, .int (nI (o_by kind n))), (0, .ref (w_x w)), (1, .int kind), (2, .long n)]) hx hb d_X_putNumber_78 hl (by decide) rfl (fun ls hl => ?_)
          refine lv_aload_n hx hb d_X_putNumber_80 rfl (lv_at hl 1 rfl) ?_
          refine g_X_end C hw d_X_putNumber_81 ?_
          refine lv_bipush (v := 8) hx hb d_X_putNumber_84 (by decide) ?_
          refine lv_iadd hx hb d_X_putNumber_86 ?_
          refine lv_eqi (y := nI (S.2.1 + 8)) (nI_add _ 8) ?_
          refine lv_bipush (v := 8) hx hb d_X_putNumber_87 (by decide) ?_
          refine lv_iload hx hb d_X_putNumber_89 (lv_at hl 0 rfl) ?_
          refine lv_imul hx hb d_X_putNumber_91 ?_
          refine lv_eqi (y := nI (8 * o_by kind n)) (i_8 _) ?_
          refine lv_iadd hx hb d_X_putNumber_92 ?_
          refine lv_eqi (y := nI (S.2.1 + 8 + 8 * o_by kind n)) (nI_add _ _) ?_
          have J103 : W p l e rm_X_putNumber s m ([.ref (w_x w), .int kind, .long n] : List Value).toArray below meth c H locs (0 + rm_X_in.cells + rm_X_bytes.cells) (0 + rm_X_in.slots + rm_X_bytes.slots) (pb_MQA below (pb_Q w (xI cs_put T ov (o_putNumber kind n S))) ([.ref (w_x w), .int kind, .long n] : List Value).toArray s rm_X_putNumber.cells rm_X_putNumber.slots (w_A w)) (F0 m 103 ls [.int (nI (o_1 kind)), .int (nI (S.2.1 + 8 + 8 * o_by kind n))]) := by
            refine lv_iadd hx hb d_X_putNumber_103 ?_
            refine lv_eqi (y := nI (S.2.1 + (8 + 8 * o_by kind n + o_1 kind))) (by rw [nI_add]; congr 1; omega) ?_
            refine lv_ldc hx hb hown (hts _ pb_k104) d_X_putNumber_104 ?_
            refine lv_icmp_gt (tgt := 113) hx hb d_X_putNumber_106 (by decide) (fun h9 => ?_) (fun h9 => ?_)
            · refine lv_iconst (v := 0) hx hb d_X_putNumber_113 (by decide) ?_
              refine pb_thr (pb_S (rest := []) C f_X_34 ⟨by decide, by decide, by decide, by decide⟩ (c_X_room l hfl w S T ov 0) hw hl.1 rfl rfl (Nat.le_of_ble_eq_true rfl) d_X_putNumber_114) hS (if_pos rfl) (fun xa H locs hw hS hex => ?_)
              exact e_t hlocks (by rw [hno]; intro x h; cases h) hw hS hex (by rw [hq, o_big_no ((nI_ltI (a := 65536) (by decide) (by omega)).mp h9)]; rfl) (by decide) (by decide)
            · have h8 : ¬ 65536 < S.2.1 + (8 + 8 * o_by kind n + o_1 kind) := fun z => h9 ((nI_ltI (a := 65536) (by decide) (by omega)).mpr z)
              refine lv_iconst (v := 1) hx hb d_X_putNumber_109 (by decide) ?_
              refine lv_goto (tgt := 114) hx hb d_X_putNumber_110 (by decide) ?_
              refine pb_retV (pb_S (rest := []) C f_X_34 ⟨by decide, by decide, by decide, by decide⟩ (c_X_room l hfl w S T ov 1) hw hl.1 rfl rfl (Nat.le_of_ble_eq_true rfl) d_X_putNumber_114) hS (if_neg (by decide)) (fun H locs hw hS => ?_)
              have J127 : ∀ (Z : St) (H : Heap) (locs : List Loc), Z = (if kind = 2 then pb1 true S else S) → Z.2.1 = S.2.1 + o_1 kind → pb_Wd w Z T ov s H → va_S (w_A w) s.heap H locs → W p l e rm_X_putNumber s m ([.ref (w_x w), .int kind, .long n] : List Value).toArray below meth c H locs (0 + rm_X_in.cells + rm_X_bytes.cells + rm_X_room.cells) (0 + rm_X_in.slots + rm_X_bytes.slots + rm_X_room.slots) (pb_MQA below (pb_Q w (xI cs_put T ov (o_putNumber kind n S))) ([.ref (w_x w), .int kind, .long n] : List Value).toArray s rm_X_putNumber.cells rm_X_putNumber.slots (w_A w)) (F0 m 127 ls []) := by
                intro Z H locs hZ hZ1 hw hS
                refine lv_aload_n hx hb d_X_putNumber_127 rfl (lv_at hl 1 rfl) ?_
                refine lv_iload hx hb d_X_putNumber_128 (lv_at hl 0 rfl) ?_
                refine lv_i2l hx hb d_X_putNumber_130 rfl ?_
                refine lv_bipush (v := 8) hx hb d_X_putNumber_131 (by decide) ?_
                refine pb_retI (pb_V (rest := []) C f_X_37 ⟨by decide, by decide, by decide, by decide⟩ (c_X_bits l w Z T ov (nI (o_by kind n)).toInt64 8 (by decide) (by omega)) hw (pb_Wd_x hw) hl.1 rfl rfl (Nat.le_of_ble_eq_true rfl) d_X_putNumber_133) hS (rfl) (fun H locs hw hS => ?_)
                refine lv_pop hx hb d_X_putNumber_136 rfl ?_
                refine lv_aload_n hx hb d_X_putNumber_137 rfl (lv_at hl 1 rfl) ?_
                refine lv_lload_n hx hb d_X_putNumber_138 rfl (lv_at hl 3 rfl) ?_
                refine lv_bipush (v := 8) hx hb d_X_putNumber_139 (by decide) ?_
                refine lv_iload hx hb d_X_putNumber_141 (lv_at hl 0 rfl) ?_
                refine lv_imul hx hb d_X_putNumber_143 ?_
                refine lv_eqi (y := nI (8 * o_by kind n)) (i_8 _) ?_
                refine pb_retI (pb_V (rest := []) C f_X_37 ⟨by decide, by decide, by decide, by decide⟩ (c_X_bits l w (pw (nI (o_by kind n)).toInt64 8 Z) T ov n (8 * o_by kind n) (by omega) (by rw [pw_en]; omega)) hw (pb_Wd_x hw) hl.1 rfl rfl (Nat.le_of_ble_eq_true rfl) d_X_putNumber_144) hS (by rw [pw_en, show Z.2.1 + 8 + 8 * o_by kind n = S.2.1 + (8 + 8 * o_by kind n + o_1 kind) by omega]) (fun H locs hw hS => ?_)
                exact e_i ⟨hx, hb⟩ hr hlocks hw hS (by rw [hq, o_big_ok h8, ← hZ]; rfl) (by decide) (by decide) d_X_putNumber_147
              refine lv_iload_n hx hb d_X_putNumber_117 rfl (lv_at hl 2 rfl) ?_
              refine lv_iconst (v := 2) hx hb d_X_putNumber_118 (by decide) ?_
              refine lv_icmp_ne (tgt := 127) hx hb d_X_putNumber_119 (by decide) (fun h5 => ?_) (fun h5 => ?_)
              · exact J127 S H locs (if_neg h5).symm (by rw [show o_1 kind = 0 from if_neg h5]; rfl) hw hS
              · refine lv_aload_n hx hb d_X_putNumber_122 rfl (lv_at hl 1 rfl) ?_
                refine lv_iconst (v := 1) hx hb d_X_putNumber_123 (by decide) ?_
                refine pb_retV (pb_V (rest := []) C f_X_26 ⟨by decide, by decide, by decide, by decide⟩ (c_X_bit l w S T ov true (by rw [show o_1 kind = 1 from if_pos h5] at h8; omega)) hw (pb_Wd_x hw) hl.1 rfl rfl (Nat.le_of_ble_eq_true rfl) d_X_putNumber_124) hS (rfl) (fun H locs hw hS => ?_)
                exact J127 (pb1 true S) H locs (if_pos h5).symm (by rw [show o_1 kind = 1 from if_pos h5]; rfl) hw hS
          refine lv_iload_n hx hb d_X_putNumber_93 rfl (lv_at hl 2 rfl) ?_
          refine lv_iconst (v := 2) hx hb d_X_putNumber_94 (by decide) ?_
          refine lv_icmp_ne (tgt := 102) hx hb d_X_putNumber_95 (by decide) (fun h6 => ?_) (fun h6 => ?_)
          · refine lv_iconst (v := 0) hx hb d_X_putNumber_102 (by decide) ?_
            refine lv_eqi (y := nI (o_1 kind)) (by rw [show o_1 kind = 0 from if_neg h6]; rfl) ?_
            exact J103
          · refine lv_iconst (v := 1) hx hb d_X_putNumber_98 (by decide) ?_
            refine lv_eqi (y := nI (o_1 kind)) (by rw [show o_1 kind = 1 from if_pos h6]; rfl) ?_
            refine lv_goto (tgt := 103) hx hb d_X_putNumber_99 (by decide) ?_
            exact J103
        refine lv_iload_n hx hb d_X_putNumber_64 rfl (lv_at hl 1 rfl) ?_
        refine lv_iconst (v := 1) hx hb d_X_putNumber_65 (by decide) ?_
        refine lv_icmp_ne (tgt := 73) hx hb d_X_putNumber_66 (by decide) (fun h7 => ?_) (fun h7 => ?_)
        · refine lv_iconst (v := 0) hx hb d_X_putNumber_73 (by decide) ?_
          exact J74 false (by rw [show o_by kind n = byU n from if_neg h7]; rfl)
        · refine lv_iconst (v := 1) hx hb d_X_putNumber_69 (by decide) ?_
          refine lv_goto (tgt := 74) hx hb d_X_putNumber_70 (by decide) ?_
          exact J74 true (by rw [show o_by kind n = byS n from if_pos h7]; rfl)
      refine lv_iload_n hx hb d_X_putNumber_17 rfl (lv_at hl 1 rfl) ?_
      refine lv_iconst (v := 2) hx hb d_X_putNumber_18 (by decide) ?_
      refine lv_icmp_ne (tgt := 64) hx hb d_X_putNumber_19 (by decide) (fun h3 => ?_) (fun h3 => ?_)
      · exact J64 (fun z => h3 z.1)
      · refine lv_lload_n hx hb d_X_putNumber_22 rfl (lv_at hl 2 rfl) ?_
        refine lv_lconst (v := 0) hx hb d_X_putNumber_23 (by decide) ?_
        refine lc_lt (tgt := 64) ⟨hx, hb⟩ d_X_putNumber_24 d_X_putNumber_25 (by decide) (fun h4 => ?_) (fun h4 => ?_)
        · exact J64 (fun z => absurd h4 (Int64.not_lt.mpr z.2.1))
        · refine lv_lload_n hx hb d_X_putNumber_28 rfl (lv_at hl 2 rfl) ?_
          refine lv_ldc2 hx hb hown (hts _ pb_k156) d_X_putNumber_29 ?_
          refine lc_ge (tgt := 64) ⟨hx, hb⟩ d_X_putNumber_32 d_X_putNumber_33 (by decide) (fun h5 => ?_) (fun h5 => ?_)
          · exact J64 (fun z => absurd z.2.2 (Int64.not_lt.mpr h5))
          · have hq := o_putNumber_s (S := S) h1 h2 ⟨h3, Int64.not_lt.mp h4, Int64.not_le.mp h5⟩
            refine lv_aload_n hx hb d_X_putNumber_36 rfl (lv_at hl 0 rfl) ?_
            refine g_X_end C hw d_X_putNumber_37 ?_
            refine lv_bipush (v := 7) hx hb d_X_putNumber_40 (by decide) ?_
            refine lv_iadd hx hb d_X_putNumber_42 ?_
            refine lv_ldc hx hb hown (hts _ pb_k104) d_X_putNumber_43 ?_
            refine lv_icmp_gt (tgt := 52) hx hb d_X_putNumber_45 (by decide) (fun h6 => ?_) (fun h6 => ?_)
            · refine lv_iconst (v := 0) hx hb d_X_putNumber_52 (by decide) ?_
              refine pb_thr (pb_S (rest := []) C f_X_34 ⟨by decide, by decide, by decide, by decide⟩ (c_X_room l hfl w S T ov 0) hw hl.1 rfl rfl (Nat.le_of_ble_eq_true rfl) d_X_putNumber_53) hS (if_pos rfl) (fun xa H locs hw hS hex => ?_)
              exact e_t hlocks (by rw [hno]; intro x h; cases h) hw hS hex (by rw [hq, o_w_no ((i_gt (e := S.2.1) (k := 7) (by omega)).mp h6)]; rfl) (by decide) (by decide)
            · have h8 : ¬ 65536 < S.2.1 + 7 := fun z => h6 ((i_gt (e := S.2.1) (k := 7) (by omega)).mpr z)
              refine lv_iconst (v := 1) hx hb d_X_putNumber_48 (by decide) ?_
              refine lv_goto (tgt := 53) hx hb d_X_putNumber_49 (by decide) ?_
              refine pb_retV (pb_S (rest := []) C f_X_34 ⟨by decide, by decide, by decide, by decide⟩ (c_X_room l hfl w S T ov 1) hw hl.1 rfl rfl (Nat.le_of_ble_eq_true rfl) d_X_putNumber_53) hS (if_neg (by decide)) (fun H locs hw hS => ?_)
              refine lv_aload_n hx hb d_X_putNumber_56 rfl (lv_at hl 0 rfl) ?_
              refine lv_lload_n hx hb d_X_putNumber_57 rfl (lv_at hl 2 rfl) ?_
              refine lv_bipush (v := 7) hx hb d_X_putNumber_58 (by decide) ?_
              refine pb_retI (pb_V (rest := []) C f_X_37 ⟨by decide, by decide, by decide, by decide⟩ (c_X_bits l w S T ov n 7 (by decide) (by omega)) hw (pb_Wd_x hw) hl.1 rfl rfl (Nat.le_of_ble_eq_true rfl) d_X_putNumber_60) hS (rfl) (fun H locs hw hS => ?_)
              exact e_i ⟨hx, hb⟩ hr hlocks hw hS (by rw [hq, o_w_ok h8]; rfl) (by decide) (by decide) d_X_putNumber_63
abbrev rm_X_fill : Room := { frames := 7, cells := 1, slots := 6, locals := 110 }
set_option maxHeartbeats 4000000 in
set_option maxRecDepth 100000 in
theorem c_X_fill (l : Launch) (hfl : l.stackTraces = false) (w : Wc) (S : St) (T : Mt) (ov : Int64) (hok : pb_ok S) : pb_C l w y_X_fill rm_X_fill [.ref (w_x w)] S T ov (xI [R_IOB] T ov (o_fill S)) := by
  refine pb_enter (cc := prog_1_method_13_code) (maxL := 1) (ret := some .int) (own := "PackedBits") (by decide) pb_k167 rfl (Nat.le_of_ble_eq_true rfl) ?_
  intro p e s m below meth c ls C hr hlocks hno hN hw hS hl
  have hx := C.1
  have hb := C.2.1
  have hown := C.2.2.2.1
  have hts := C.2.2.2.2
  have hl : lv_has ls 1 [(0, .ref (w_x w))] := hl
  have hok1 := hok.1
  have hok2 := hok.2
  have J24 : W p l e rm_X_fill s m ([.ref (w_x w)] : List Value).toArray below meth c s.heap [] (0) (0) (pb_MQA below (pb_Q w (xI [R_IOB] T ov (o_fill S))) ([.ref (w_x w)] : List Value).toArray s rm_X_fill.cells rm_X_fill.slots (w_A w)) (F0 m 24 ls [.int 1]) := by
    refine pb_retV (pb_S (rest := []) C f_X_34 ⟨by decide, by decide, by decide, by decide⟩ (c_X_room l hfl w S T ov 1) hw hl.1 rfl rfl (Nat.le_of_ble_eq_true rfl) d_X_fill_24) hS (if_neg (by decide)) (fun H locs hw hS => ?_)
    have loop : ∀ j, ∀ (Z : St) (H : Heap) (locs : List Loc), o_more Z.2.1 = j → Z.2.1 + j ≤ 65536 → pw 0 j Z = pw 0 (o_more S.2.1) S → pb_Wd w Z T ov s H → va_S (w_A w) s.heap H locs → W p l e rm_X_fill s m ([.ref (w_x w)] : List Value).toArray below meth c H locs (0 + rm_X_room.cells) (0 + rm_X_room.slots) (pb_MQA below (pb_Q w (xI [R_IOB] T ov (o_fill S))) ([.ref (w_x w)] : List Value).toArray s rm_X_fill.cells rm_X_fill.slots (w_A w)) (F0 m 27 ls []) := by
      refine dn_loop (fun j ih => ?_)
      intro Z H locs hj hz hg hw hS
      have J44 : 0 < j → W p l e rm_X_fill s m ([.ref (w_x w)] : List Value).toArray below meth c H locs (0 + rm_X_room.cells) (0 + rm_X_room.slots) (pb_MQA below (pb_Q w (xI [R_IOB] T ov (o_fill S))) ([.ref (w_x w)] : List Value).toArray s rm_X_fill.cells rm_X_fill.slots (w_A w)) (F0 m 44 ls []) := by
        intro hj0
        obtain ⟨i, rfl⟩ : ∃ i, j = i + 1 := ⟨j - 1, by omega⟩
        have hi := o_more_succ (e := Z.2.1) (by omega)
        refine lv_aload_n hx hb d_X_fill_44 rfl (lv_at hl 0 rfl) ?_
        refine lv_iconst (v := 0) hx hb d_X_fill_45 (by decide) ?_
        refine pb_retV (pb_V (rest := []) C f_X_26 ⟨by decide, by decide, by decide, by decide⟩ (c_X_bit l w Z T ov false (by omega)) hw (pb_Wd_x hw) hl.1 rfl rfl (Nat.le_of_ble_eq_true rfl) d_X_fill_46) hS (rfl) (fun H locs hw hS => ?_)
        refine lv_goto (tgt := 27) hx hb d_X_fill_49 (by decide) ?_
        exact ih i rfl (pb1 false Z) H locs (by show o_more (Z.2.1 + 1) = i; omega) (by show Z.2.1 + 1 + i ≤ 65536; omega) (by rw [← hg, pw_succ, lb_0]) hw hS
      refine lv_aload_n hx hb d_X_fill_27 rfl (lv_at hl 0 rfl) ?_
      refine g_X_end C hw d_X_fill_28 ?_
      refine lv_if_eq (tgt := 44) hx hb d_X_fill_31 (by decide) (fun h1 => ?_) (fun h1 => ?_)
      · exact J44 (by rw [← hj]; exact (o_more_pos _).mpr (Or.inl ((nI_eq (b := 0) (by omega) (by decide)).mp h1)))
      · refine lv_aload_n hx hb d_X_fill_34 rfl (lv_at hl 0 rfl) ?_
        refine g_X_end C hw d_X_fill_35 ?_
        refine lv_bipush (v := 7) hx hb d_X_fill_38 (by decide) ?_
        refine lv_iand hx hb d_X_fill_40 ?_
        refine lv_eqi (y := nI (Z.2.1 % 8)) (i_and7 (by omega)) ?_
        refine lv_if_eq (tgt := 52) hx hb d_X_fill_41 (by decide) (fun h2 => ?_) (fun h2 => ?_)
        · have h3 : ¬ Z.2.1 = 0 := fun z => h1 (by rw [z]; rfl)
          have h4 : Z.2.1 % 8 = 0 := (nI_eq (b := 0) (by omega) (by decide)).mp h2
          have hj0 : j = 0 := by
            have h5 : ¬ 0 < o_more Z.2.1 := fun z => by
              rcases (o_more_pos _).mp z with h | h
              · exact h3 h
              · exact h h4
            omega
          subst hj0
          have hz2 : Z = pw 0 (o_more S.2.1) S := hg
          subst hz2
          refine lv_aload_n hx hb d_X_fill_52 rfl (lv_at hl 0 rfl) ?_
          refine g_X_end C hw d_X_fill_53 ?_
          exact e_i ⟨hx, hb⟩ hr hlocks hw hS (rfl) (by decide) (by decide) d_X_fill_56
        · exact J44 (by rw [← hj]; exact (o_more_pos _).mpr (Or.inr (fun z => h2 (by rw [z]; rfl))))
    exact loop (o_more S.2.1) S H locs rfl (o_more_le hok2) rfl hw hS
  refine lv_aload_n hx hb d_X_fill_0 rfl (lv_at hl 0 rfl) ?_
  refine g_X_end C hw d_X_fill_1 ?_
  refine lv_ldc hx hb hown (hts _ pb_k104) d_X_fill_4 ?_
  refine lv_icmp_lt (tgt := 19) hx hb d_X_fill_6 (by decide) (fun h1 => ?_) (fun h1 => ?_)
  · refine lv_iconst (v := 1) hx hb d_X_fill_19 (by decide) ?_
    refine lv_goto (tgt := 24) hx hb d_X_fill_20 (by decide) ?_
    exact J24
  · refine lv_aload_n hx hb d_X_fill_9 rfl (lv_at hl 0 rfl) ?_
    refine g_X_end C hw d_X_fill_10 ?_
    refine lv_bipush (v := 7) hx hb d_X_fill_13 (by decide) ?_
    refine lv_iand hx hb d_X_fill_15 ?_
    refine lv_eqi (y := nI (S.2.1 % 8)) (i_and7 (by omega)) ?_
    have h5 : ¬ S.2.1 < 65536 := fun z => h1 ((nI_ltI (b := 65536) (by omega) (by decide)).mpr z)
    refine lv_if_ne (tgt := 23) hx hb d_X_fill_16 (by decide) (fun h2 => ?_) (fun h2 => ?_)
    · exact absurd (by rw [show S.2.1 % 8 = 0 by omega]; rfl) h2
    · refine lv_iconst (v := 1) hx hb d_X_fill_19 (by decide) ?_
      refine lv_goto (tgt := 24) hx hb d_X_fill_20 (by decide) ?_
      exact J24
end
section
/-! part 14 (printed by gen/g14.py): X: read, take, takeRange, length, takeLength, number, takeNumber, go, turn, cut, count -/
abbrev rm_X_read : Room := { frames := 7, cells := 1, slots := 6, locals := 110 }
set_option maxHeartbeats 4000000 in
set_option maxRecDepth 100000 in
theorem c_X_read (l : Launch) (hfl : l.stackTraces = false) (w : Wc) (S : St) (T : Mt) (ov : Int64) (n : Nat) (hn : n ≤ 64) (hok : pb_ok S) : pb_C l w y_X_read rm_X_read [.ref (w_x w), .int (nI n)] S T ov (xL cs_take T ov (o_rd n S)) := by
  refine pb_enter (cc := prog_1_method_14_code) (maxL := 5) (ret := some .long) (own := "PackedBits") (by decide) pb_k179 rfl (Nat.le_of_ble_eq_true rfl) ?_
  intro p e s m below meth c ls C hr hlocks hno hN hw hS hl
  have hx := C.1
  have hb := C.2.1
  have hown := C.2.2.2.1
  have hts := C.2.2.2.2
  have hl : lv_has ls 5 [(0, .ref (w_x w)), (1, .int (nI n))] := hl
  have hok1 := hok.1
  have hok2 := hok.2
  refine lv_iload_n hx hb d_X_read_0 rfl (lv_at hl 1 rfl) ?_
  refine lv_aload_n hx hb d_X_read_1 rfl (lv_at hl 0 rfl) ?_
  refine g_X_end C hw d_X_read_2 ?_
  refine lv_aload_n hx hb d_X_read_5 rfl (lv_at hl 0 rfl) ?_
  refine g_X_at C hw d_X_read_6 ?_
  refine lv_isub hx hb d_X_read_9 ?_
  refine lv_eqi (y := nI (S.2.1 - S.1)) (pk_sub hok1) ?_
  refine lv_icmp_gt (tgt := 17) hx hb d_X_read_10 (by decide) (fun h1 => ?_) (fun h1 => ?_)
  · refine lv_iconst (v := 0) hx hb d_X_read_17 (by decide) ?_
    refine pb_thr (pb_S (rest := []) C f_X_57 ⟨by decide, by decide, by decide, by decide⟩ (c_X_need l hfl w S T ov 0) hw hl.1 rfl rfl (Nat.le_of_ble_eq_true rfl) d_X_read_18) hS (if_pos rfl) (fun xa H locs hw hS hex => ?_)
    exact e_t hlocks (by rw [hno]; intro x h; cases h) hw hS hex (by rw [o_rd_no (fun z => absurd ((nI_ltI (by omega) (by omega)).mp h1) (by omega))]; rfl) (by decide) (by decide)
  · have h2 : S.1 + n ≤ S.2.1 := by
      have h3 : ¬ S.2.1 - S.1 < n := fun z => h1 ((nI_ltI (by omega) (by omega)).mpr z)
      omega
    refine lv_iconst (v := 1) hx hb d_X_read_13 (by decide) ?_
    refine lv_goto (tgt := 18) hx hb d_X_read_14 (by decide) ?_
    refine pb_retV (pb_S (rest := []) C f_X_57 ⟨by decide, by decide, by decide, by decide⟩ (c_X_need l hfl w S T ov 1) hw hl.1 rfl rfl (Nat.le_of_ble_eq_true rfl) d_X_read_18) hS (if_neg (by decide)) (fun H locs hw hS => ?_)
    refine lv_lconst (v := 0) hx hb d_X_read_21 (by decide) ?_
    refine lv_lstore_n (lv' := [(2, .long 0), (0, .ref (w_x w)), (1, .int (nI n))]) hx hb d_X_read_22 rfl hl (by decide) rfl (fun ls hl => ?_)
    refine lv_aload_n hx hb d_X_read_23 rfl (lv_at hl 1 rfl) ?_
    refine g_X_at C hw d_X_read_24 ?_
    refine lv_istore (lv' := [(4, .int (nI S.1)), (2, .long 0), (0, .ref (w_x w)), (1, .int (nI n))]) hx hb d_X_read_27 hl (by decide) rfl (fun ls hl => ?_)
    have loop : ∀ k, k ≤ n → (∀ ls : Array Slot, lv_has ls 5 [(4, .int (nI (S.1 + k))), (2, .long (rdv S.2.2 S.1 k)), (0, .ref (w_x w)), (1, .int (nI n))] → W p l e rm_X_read s m ([.ref (w_x w), .int (nI n)] : List Value).toArray below meth c H locs (0 + rm_X_need.cells) (0 + rm_X_need.slots) (pb_MQA below (pb_Q w (xL cs_take T ov (o_rd n S))) ([.ref (w_x w), .int (nI n)] : List Value).toArray s rm_X_read.cells rm_X_read.slots (w_A w)) (F0 m 29 ls [])) := by
      refine up_loop n (fun k hk ih => ?_)
      intro ls hl
      refine lv_iload hx hb d_X_read_29 (lv_at hl 0 rfl) ?_
      refine lv_aload_n hx hb d_X_read_31 rfl (lv_at hl 2 rfl) ?_
      refine g_X_at C hw d_X_read_32 ?_
      refine lv_iload_n hx hb d_X_read_35 rfl (lv_at hl 3 rfl) ?_
      refine lv_iadd hx hb d_X_read_36 ?_
      refine lv_eqi (y := nI (S.1 + n)) (nI_add _ _) ?_
      refine lv_icmp_ge (tgt := 72) hx hb d_X_read_37 (by decide) (fun h3 => ?_) (fun h3 => ?_)
      · have h4 : k = n := by
          have h5 := (nI_leI (by omega) (by omega)).mp h3
          omega
        subst h4
        refine lv_aload_n hx hb d_X_read_72 rfl (lv_at hl 2 rfl) ?_
        refine lv_dup hx hb d_X_read_73 rfl ?_
        refine g_X_at C hw d_X_read_74 ?_
        refine lv_iload_n hx hb d_X_read_77 rfl (lv_at hl 3 rfl) ?_
        refine lv_iadd hx hb d_X_read_78 ?_
        refine lv_eqi (y := nI (S.1 + k)) (nI_add _ _) ?_
        refine p_X_at C hN hw hS (S.1 + k) d_X_read_79 (fun H locs hw hS => ?_)
        refine lv_lload_n hx hb d_X_read_82 rfl (lv_at hl 1 rfl) ?_
        exact e_l ⟨hx, hb⟩ hr hlocks hw hS (by rw [o_rd_ok h2]; rfl) (by decide) (by decide) d_X_read_83
      · have h4 : k < n := Nat.lt_of_not_le (fun z => h3 ((nI_leI (by omega) (by omega)).mpr (by omega)))
        refine lv_lload_n hx hb d_X_read_40 rfl (lv_at hl 1 rfl) ?_
        refine lv_iconst (v := 1) hx hb d_X_read_41 (by decide) ?_
        refine lv_lshl hx hb d_X_read_42 rfl ?_
        refine lv_aload_n hx hb d_X_read_43 rfl (lv_at hl 2 rfl) ?_
        refine g_X_out C hw d_X_read_44 ?_
        refine lv_iload hx hb d_X_read_47 (lv_at hl 0 rfl) ?_
        refine lv_iconst (v := 3) hx hb d_X_read_49 (by decide) ?_
        refine lv_ishr hx hb d_X_read_50 ?_
        refine lv_eqi (y := nI ((S.1 + k) / 8)) (i_shr3 (by omega)) ?_
        refine b_ld ⟨hx, hb⟩ hw (k := (S.1 + k) / 8) (by omega) d_X_read_51 ?_
        refine lv_bipush (v := 7) hx hb d_X_read_52 (by decide) ?_
        refine lv_iload hx hb d_X_read_54 (lv_at hl 0 rfl) ?_
        refine lv_bipush (v := 7) hx hb d_X_read_56 (by decide) ?_
        refine lv_iand hx hb d_X_read_58 ?_
        refine lv_eqi (y := nI ((S.1 + k) % 8)) (i_and7 (by omega)) ?_
        refine lv_isub hx hb d_X_read_59 ?_
        refine lv_ishr hx hb d_X_read_60 ?_
        refine lv_iconst (v := 1) hx hb d_X_read_61 (by decide) ?_
        refine lv_iand hx hb d_X_read_62 ?_
        refine lv_eqi (y := bI (S.2.2 (S.1 + k))) (by_get _ _) ?_
        refine lv_i2l hx hb d_X_read_63 rfl ?_
        refine lv_eql (y := if S.2.2 (S.1 + k) then 1 else 0) (bI_l _) ?_
        refine lv_lor hx hb d_X_read_64 ?_
        refine lv_eql (y := rdv S.2.2 S.1 (k + 1)) (rfl) ?_
        refine lv_lstore_n (lv' := [(2, .long (rdv S.2.2 S.1 (k + 1))), (4, .int (nI (S.1 + k))), (0, .ref (w_x w)), (1, .int (nI n))]) hx hb d_X_read_65 rfl hl (by decide) rfl (fun ls hl => ?_)
        refine lv_iinc (k := 1) (v := nI (S.1 + (k + 1))) (lv' := [(4, .int (nI (S.1 + (k + 1)))), (2, .long (rdv S.2.2 S.1 (k + 1))), (0, .ref (w_x w)), (1, .int (nI n))]) hx hb d_X_read_66 hl rfl (nI_1 (S.1 + k)) (by decide) rfl (fun ls hl => ?_)
        refine lv_goto (tgt := 29) hx hb d_X_read_69 (by decide) ?_
        exact ih h4 ls hl
    exact loop 0 (by omega) ls hl
abbrev rm_X_take : Room := { frames := 8, cells := 2, slots := 12, locals := 134 }
set_option maxHeartbeats 4000000 in
set_option maxRecDepth 100000 in
theorem c_X_take (l : Launch) (hfl : l.stackTraces = false) (w : Wc) (S : St) (T : Mt) (ov : Int64) (n : Int32) (hok : pb_ok S) : pb_C l w y_X_take rm_X_take [.ref (w_x w), .int n] S T ov (xL cs_take T ov (o_take n S)) := by
  refine pb_enter (cc := prog_1_method_15_code) (maxL := 2) (ret := some .long) (own := "PackedBits") (by decide) pb_k175 rfl (Nat.le_of_ble_eq_true rfl) ?_
  intro p e s m below meth c ls C hr hlocks hno hN hw hS hl
  have hx := C.1
  have hb := C.2.1
  have hown := C.2.2.2.1
  have hts := C.2.2.2.2
  have hl : lv_has ls 2 [(0, .ref (w_x w)), (1, .int n)] := hl
  refine lv_iload_n hx hb d_X_take_0 rfl (lv_at hl 1 rfl) ?_
  refine lv_if_lt (tgt := 14) hx hb d_X_take_1 (by decide) (fun h1 => ?_) (fun h1 => ?_)
  · refine lv_iconst (v := 0) hx hb d_X_take_14 (by decide) ?_
    refine pb_thr (pb_S (rest := []) C f_X_30 ⟨by decide, by decide, by decide, by decide⟩ (c_X_in l hfl w S T ov 0) hw hl.1 rfl rfl (Nat.le_of_ble_eq_true rfl) d_X_take_15) hS (if_pos rfl) (fun xa H locs hw hS hex => ?_)
    exact e_t hlocks (by rw [hno]; intro x h; cases h) hw hS hex (by rw [show o_take n S = (1, 0, S) from if_pos (Or.inl h1)]; rfl) (by decide) (by decide)
  · refine lv_iload_n hx hb d_X_take_4 rfl (lv_at hl 1 rfl) ?_
    refine lv_bipush (v := 64) hx hb d_X_take_5 (by decide) ?_
    refine lv_icmp_gt (tgt := 14) hx hb d_X_take_7 (by decide) (fun h2 => ?_) (fun h2 => ?_)
    · refine lv_iconst (v := 0) hx hb d_X_take_14 (by decide) ?_
      refine pb_thr (pb_S (rest := []) C f_X_30 ⟨by decide, by decide, by decide, by decide⟩ (c_X_in l hfl w S T ov 0) hw hl.1 rfl rfl (Nat.le_of_ble_eq_true rfl) d_X_take_15) hS (if_pos rfl) (fun xa H locs hw hS hex => ?_)
      exact e_t hlocks (by rw [hno]; intro x h; cases h) hw hS hex (by rw [show o_take n S = (1, 0, S) from if_pos (Or.inr h2)]; rfl) (by decide) (by decide)
    · obtain ⟨k, hk, rfl⟩ := nI_of2 (M := 64) (n := 64) rfl h1 (Int32.not_lt.mp h2)
      refine lv_iconst (v := 1) hx hb d_X_take_10 (by decide) ?_
      refine lv_goto (tgt := 15) hx hb d_X_take_11 (by decide) ?_
      refine pb_retV (pb_S (rest := []) C f_X_30 ⟨by decide, by decide, by decide, by decide⟩ (c_X_in l hfl w S T ov 1) hw hl.1 rfl rfl (Nat.le_of_ble_eq_true rfl) d_X_take_15) hS (if_neg (by decide)) (fun H locs hw hS => ?_)
      refine lv_aload_n hx hb d_X_take_18 rfl (lv_at hl 0 rfl) ?_
      refine lv_iload_n hx hb d_X_take_19 rfl (lv_at hl 1 rfl) ?_
      by_cases h3 : S.1 + k ≤ S.2.1
      · refine pb_retL (pb_V (rest := []) C f_X_60 ⟨by decide, by decide, by decide, by decide⟩ (c_X_read l hfl w S T ov k hk hok) hw (pb_Wd_x hw) hl.1 rfl rfl (Nat.le_of_ble_eq_true rfl) d_X_take_20) hS (by rw [o_rd_ok h3]; rfl) (fun H locs hw hS => ?_)
        exact e_l ⟨hx, hb⟩ hr hlocks hw hS (by rw [o_take_k hk, o_rd_ok h3]; rfl) (by decide) (by decide) d_X_take_23
      · refine pb_thr (pb_V (rest := []) C f_X_60 ⟨by decide, by decide, by decide, by decide⟩ (c_X_read l hfl w S T ov k hk hok) hw (pb_Wd_x hw) hl.1 rfl rfl (Nat.le_of_ble_eq_true rfl) d_X_take_20) hS (by rw [o_rd_no h3]; rfl) (fun xa H locs hw hS hex => ?_)
        exact e_t hlocks (by rw [hno]; intro x h; cases h) hw hS hex (by rw [o_take_k hk, o_rd_no h3]; rfl) (by decide) (by decide)
abbrev rm_X_takeRange : Room := { frames := 8, cells := 3, slots := 18, locals := 134 }
set_option maxHeartbeats 4000000 in
set_option maxRecDepth 100000 in
theorem c_X_takeRange (l : Launch) (hfl : l.stackTraces = false) (w : Wc) (S : St) (T : Mt) (ov : Int64) (lo hi : Int64) (hok : pb_ok S) : pb_C l w y_X_takeRange rm_X_takeRange [.ref (w_x w), .long lo, .long hi] S T ov (xL cs_take T ov (o_takeRange lo hi S)) := by
  refine pb_enter (cc := prog_1_method_16_code) (maxL := 10) (ret := some .long) (own := "PackedBits") (by decide) pb_k204 rfl (Nat.le_of_ble_eq_true rfl) ?_
  intro p e s m below meth c ls C hr hlocks hno hN hw hS hl
  have hx := C.1
  have hb := C.2.1
  have hown := C.2.2.2.1
  have hts := C.2.2.2.2
  have hl : lv_has ls 10 [(0, .ref (w_x w)), (1, .long lo), (3, .long hi)] := hl
  have hk := wid_le (hi - lo)
  refine lv_lload_n hx hb d_X_takeRange_0 rfl (lv_at hl 1 rfl) ?_
  refine lv_lload_n hx hb d_X_takeRange_1 rfl (lv_at hl 2 rfl) ?_
  refine lc_gt (tgt := 10) ⟨hx, hb⟩ d_X_takeRange_2 d_X_takeRange_3 (by decide) (fun h1 => ?_) (fun h1 => ?_)
  · refine lv_iconst (v := 0) hx hb d_X_takeRange_10 (by decide) ?_
    refine pb_thr (pb_S (rest := []) C f_X_30 ⟨by decide, by decide, by decide, by decide⟩ (c_X_in l hfl w S T ov 0) hw hl.1 rfl rfl (Nat.le_of_ble_eq_true rfl) d_X_takeRange_11) hS (if_pos rfl) (fun xa H locs hw hS hex => ?_)
    exact e_t hlocks (by rw [hno]; intro x h; cases h) hw hS hex (by rw [show o_takeRange lo hi S = (1, 0, S) from if_pos h1]; rfl) (by decide) (by decide)
  · refine lv_iconst (v := 1) hx hb d_X_takeRange_6 (by decide) ?_
    refine lv_goto (tgt := 11) hx hb d_X_takeRange_7 (by decide) ?_
    refine pb_retV (pb_S (rest := []) C f_X_30 ⟨by decide, by decide, by decide, by decide⟩ (c_X_in l hfl w S T ov 1) hw hl.1 rfl rfl (Nat.le_of_ble_eq_true rfl) d_X_takeRange_11) hS (if_neg (by decide)) (fun H locs hw hS => ?_)
    refine lv_aload_n hx hb d_X_takeRange_14 rfl (lv_at hl 0 rfl) ?_
    refine g_X_at C hw d_X_takeRange_15 ?_
    refine lv_istore (lv' := [(5, .int (nI S.1)), (0, .ref (w_x w)), (1, .long lo), (3, .long hi)]) hx hb d_X_takeRange_18 hl (by decide) rfl (fun ls hl => ?_)
    refine lv_lload_n hx hb d_X_takeRange_20 rfl (lv_at hl 3 rfl) ?_
    refine lv_lload_n hx hb d_X_takeRange_21 rfl (lv_at hl 2 rfl) ?_
    refine lv_lsub hx hb d_X_takeRange_22 ?_
    refine lv_lstore (lv' := [(6, .long ((hi) - (lo))), (5, .int (nI S.1)), (0, .ref (w_x w)), (1, .long lo), (3, .long hi)]) hx hb d_X_takeRange_23 hl (by decide) rfl (fun ls hl => ?_)
    refine lv_aload_n hx hb d_X_takeRange_25 rfl (lv_at hl 2 rfl) ?_
    refine lv_lload hx hb d_X_takeRange_26 (lv_at hl 0 rfl) ?_
    refine pb_retI (pb_S (rest := [.ref (w_x w)]) C f_X_41 ⟨by decide, by decide, by decide, by decide⟩ (c_X_fieldBits l w S T ov (hi - lo)) hw hl.1 rfl rfl (Nat.le_of_ble_eq_true rfl) d_X_takeRange_28) hS (rfl) (fun H locs hw hS => ?_)
    by_cases h3 : S.1 + wid (hi - lo) ≤ S.2.1
    · refine pb_retL (pb_V (rest := []) C f_X_60 ⟨by decide, by decide, by decide, by decide⟩ (c_X_read l hfl w S T ov (wid (hi - lo)) hk hok) hw (pb_Wd_x hw) hl.1 rfl rfl (Nat.le_of_ble_eq_true rfl) d_X_takeRange_31) hS (by rw [o_rd_ok h3]; rfl) (fun H locs hw hS => ?_)
      refine lv_lstore (lv' := [(8, .long (rdv S.2.2 S.1 (wid (hi - lo)))), (6, .long ((hi) - (lo))), (5, .int (nI S.1)), (0, .ref (w_x w)), (1, .long lo), (3, .long hi)]) hx hb d_X_takeRange_34 hl (by decide) rfl (fun ls hl => ?_)
      refine lv_lload hx hb d_X_takeRange_36 (lv_at hl 0 rfl) ?_
      refine lv_ldc2 hx hb hown (hts _ pb_k205) d_X_takeRange_38 ?_
      refine lv_ladd hx hb d_X_takeRange_41 ?_
      refine lv_lload hx hb d_X_takeRange_42 (lv_at hl 1 rfl) ?_
      refine lv_ldc2 hx hb hown (hts _ pb_k205) d_X_takeRange_44 ?_
      refine lv_ladd hx hb d_X_takeRange_47 ?_
      refine lc_le (tgt := 66) ⟨hx, hb⟩ d_X_takeRange_48 d_X_takeRange_49 (by decide) (fun h4 => ?_) (fun h4 => ?_)
      · refine lv_lload_n hx hb d_X_takeRange_66 rfl (lv_at hl 4 rfl) ?_
        refine lv_lload hx hb d_X_takeRange_67 (lv_at hl 0 rfl) ?_
        refine lv_ladd hx hb d_X_takeRange_69 ?_
        exact e_l ⟨hx, hb⟩ hr hlocks hw hS (by rw [o_tr_ok h1 h3 (Int64.not_lt.mpr h4)]; rfl) (by decide) (by decide) d_X_takeRange_70
      · refine lv_aload_n hx hb d_X_takeRange_52 rfl (lv_at hl 3 rfl) ?_
        refine lv_iload hx hb d_X_takeRange_53 (lv_at hl 2 rfl) ?_
        refine p_X_at C hN hw hS (S.1) d_X_takeRange_55 (fun H locs hw hS => ?_)
        exact pb_new C hfl hlocks pb_k183 pb_k184 pb_k9 pb_fit_UOE pb_namesfit pb_at_UOE hw hS hl.1 d_X_takeRange_58 d_X_takeRange_61 d_X_takeRange_62 d_X_takeRange_65 (by rw [hno]; intro x h; cases h) (by decide) (by decide) (by decide) (by decide) (by decide) (by decide) (by rw [o_tr_big h1 h3 (Int64.not_le.mp h4)]; rfl)
    · refine pb_thr (pb_V (rest := []) C f_X_60 ⟨by decide, by decide, by decide, by decide⟩ (c_X_read l hfl w S T ov (wid (hi - lo)) hk hok) hw (pb_Wd_x hw) hl.1 rfl rfl (Nat.le_of_ble_eq_true rfl) d_X_takeRange_31) hS (by rw [o_rd_no h3]; rfl) (fun xa H locs hw hS hex => ?_)
      exact e_t hlocks (by rw [hno]; intro x h; cases h) hw hS hex (by rw [o_tr_no h1 h3]; rfl) (by decide) (by decide)
abbrev rm_X_length : Room := { frames := 8, cells := 7, slots := 42, locals := 134 }
set_option maxHeartbeats 4000000 in
set_option maxRecDepth 100000 in
theorem c_X_length (l : Launch) (hfl : l.stackTraces = false) (w : Wc) (S : St) (T : Mt) (ov : Int64) (hok : pb_ok S) : pb_C l w y_X_length rm_X_length [.ref (w_x w)] S T ov (xO T ov (x_len S)) := by
  refine pb_enter (cc := prog_1_method_17_code) (maxL := 2) (ret := some .int) (own := "PackedBits") (by decide) pb_k216 rfl (Nat.le_of_ble_eq_true rfl) ?_
  intro p e s m below meth c ls C hr hlocks hno hN hw hS hl
  have hx := C.1
  have hb := C.2.1
  have hown := C.2.2.2.1
  have hts := C.2.2.2.2
  have hl : lv_has ls 2 [(0, .ref (w_x w))] := hl
  refine lv_aload_n hx hb d_X_length_0 rfl (lv_at hl 0 rfl) ?_
  refine lv_iconst (v := 1) hx hb d_X_length_1 (by decide) ?_
  by_cases h1 : S.1 + 1 ≤ S.2.1
  · refine pb_retL (pb_V (rest := []) C f_X_60 ⟨by decide, by decide, by decide, by decide⟩ (c_X_read l hfl w S T ov 1 (by decide) (hok)) hw (pb_Wd_x hw) hl.1 rfl rfl (Nat.le_of_ble_eq_true rfl) d_X_length_2) hS (by rw [o_rd_ok (S := S) h1]; rfl) (fun H locs hw hS => ?_)
    have ok1 : pb_ok (S.1 + 1, S.2) := ⟨h1, hok.2⟩
    refine lv_lconst (v := 0) hx hb d_X_length_5 (by decide) ?_
    refine lc_ne (tgt := 18) ⟨hx, hb⟩ d_X_length_6 d_X_length_7 (by decide) (fun h2 => ?_) (fun h2 => ?_)
    · refine lv_aload_n hx hb d_X_length_18 rfl (lv_at hl 0 rfl) ?_
      refine lv_iconst (v := 1) hx hb d_X_length_19 (by decide) ?_
      by_cases h3 : S.1 + 1 + 1 ≤ S.2.1
      · refine pb_retL (pb_V (rest := []) C f_X_60 ⟨by decide, by decide, by decide, by decide⟩ (c_X_read l hfl w (S.1 + 1, S.2) T ov 1 (by decide) (ok1)) hw (pb_Wd_x hw) hl.1 rfl rfl (Nat.le_of_ble_eq_true rfl) d_X_length_20) hS (by rw [o_rd_ok (S := (S.1 + 1, S.2)) h3]; rfl) (fun H locs hw hS => ?_)
        have ok2 : pb_ok (S.1 + 1 + 1, S.2) := ⟨h3, hok.2⟩
        refine lv_lconst (v := 0) hx hb d_X_length_23 (by decide) ?_
        refine lc_ne (tgt := 52) ⟨hx, hb⟩ d_X_length_24 d_X_length_25 (by decide) (fun h4 => ?_) (fun h4 => ?_)
        · refine lv_aload_n hx hb d_X_length_52 rfl (lv_at hl 0 rfl) ?_
          refine lv_bipush (v := 6) hx hb d_X_length_53 (by decide) ?_
          by_cases h5 : S.1 + 1 + 1 + 6 ≤ S.2.1
          · refine pb_retL (pb_V (rest := []) C f_X_60 ⟨by decide, by decide, by decide, by decide⟩ (c_X_read l hfl w (S.1 + 1 + 1, S.2) T ov 6 (by decide) (ok2)) hw (pb_Wd_x hw) hl.1 rfl rfl (Nat.le_of_ble_eq_true rfl) d_X_length_55) hS (by rw [o_rd_ok (S := (S.1 + 1 + 1, S.2)) h5]; rfl) (fun H locs hw hS => ?_)
            refine lv_l2i hx hb d_X_length_58 rfl ?_
            refine lv_istore_n (lv' := [(1, .int ((rdv S.2.2 (S.1 + 1 + 1) 6 : Int64).toInt32)), (0, .ref (w_x w))]) hx hb d_X_length_59 rfl hl (by decide) rfl (fun ls hl => ?_)
            refine lv_iload_n hx hb d_X_length_60 rfl (lv_at hl 0 rfl) ?_
            refine lv_if_le (tgt := 73) hx hb d_X_length_61 (by decide) (fun h6 => ?_) (fun h6 => ?_)
            · refine lv_iconst (v := 0) hx hb d_X_length_73 (by decide) ?_
              refine pb_thr (pb_S (rest := []) C f_X_57 ⟨by decide, by decide, by decide, by decide⟩ (c_X_need l hfl w (S.1 + 1 + 1 + 6, S.2) T ov 0) hw hl.1 rfl rfl (Nat.le_of_ble_eq_true rfl) d_X_length_74) hS (if_pos rfl) (fun xa H locs hw hS hex => ?_)
              exact e_t hlocks (by rw [hno]; intro x h; cases h) hw hS hex (by rw [x_len_2 h1 h2, x_len2_4 (S := (S.1 + 1, S.2)) h3 h4, x_len4_bad (S := (S.1 + 1 + 1, S.2)) h5 (fun z => absurd z.1 (Int32.not_lt.mpr h6))]; rfl) (by decide) (by decide)
            · refine lv_iload_n hx hb d_X_length_64 rfl (lv_at hl 0 rfl) ?_
              refine lv_iconst (v := 5) hx hb d_X_length_65 (by decide) ?_
              refine lv_icmp_ge (tgt := 73) hx hb d_X_length_66 (by decide) (fun h7 => ?_) (fun h7 => ?_)
              · refine lv_iconst (v := 0) hx hb d_X_length_73 (by decide) ?_
                refine pb_thr (pb_S (rest := []) C f_X_57 ⟨by decide, by decide, by decide, by decide⟩ (c_X_need l hfl w (S.1 + 1 + 1 + 6, S.2) T ov 0) hw hl.1 rfl rfl (Nat.le_of_ble_eq_true rfl) d_X_length_74) hS (if_pos rfl) (fun xa H locs hw hS hex => ?_)
                exact e_t hlocks (by rw [hno]; intro x h; cases h) hw hS hex (by rw [x_len_2 h1 h2, x_len2_4 (S := (S.1 + 1, S.2)) h3 h4, x_len4_bad (S := (S.1 + 1 + 1, S.2)) h5 (fun z => absurd z.2 (Int32.not_lt.mpr h7))]; rfl) (by decide) (by decide)
              · refine lv_iconst (v := 1) hx hb d_X_length_69 (by decide) ?_
                refine lv_goto (tgt := 74) hx hb d_X_length_70 (by decide) ?_
                refine pb_retV (pb_S (rest := []) C f_X_57 ⟨by decide, by decide, by decide, by decide⟩ (c_X_need l hfl w (S.1 + 1 + 1 + 6, S.2) T ov 1) hw hl.1 rfl rfl (Nat.le_of_ble_eq_true rfl) d_X_length_74) hS (if_neg (by decide)) (fun H locs hw hS => ?_)
                refine lv_iload_n hx hb d_X_length_77 rfl (lv_at hl 0 rfl) ?_
                refine lv_sipush (v := 16384) hx hb d_X_length_78 (by decide) ?_
                refine lv_imul hx hb d_X_length_81 ?_
                exact e_i ⟨hx, hb⟩ hr hlocks hw hS (by rw [x_len_2 h1 h2, x_len2_4 (S := (S.1 + 1, S.2)) h3 h4, x_len4_ok (S := (S.1 + 1 + 1, S.2)) h5 ⟨Int32.not_le.mp h6, Int32.not_le.mp h7⟩]; rfl) (by decide) (by decide) d_X_length_82
          · refine pb_thr (pb_V (rest := []) C f_X_60 ⟨by decide, by decide, by decide, by decide⟩ (c_X_read l hfl w (S.1 + 1 + 1, S.2) T ov 6 (by decide) (ok2)) hw (pb_Wd_x hw) hl.1 rfl rfl (Nat.le_of_ble_eq_true rfl) d_X_length_55) hS (by rw [o_rd_no (S := (S.1 + 1 + 1, S.2)) h5]; rfl) (fun xa H locs hw hS hex => ?_)
            exact e_t hlocks (by rw [hno]; intro x h; cases h) hw hS hex (by rw [x_len_2 h1 h2, x_len2_4 (S := (S.1 + 1, S.2)) h3 h4, x_len4_no (S := (S.1 + 1 + 1, S.2)) h5]; rfl) (by decide) (by decide)
        · refine lv_aload_n hx hb d_X_length_28 rfl (lv_at hl 0 rfl) ?_
          refine lv_bipush (v := 14) hx hb d_X_length_29 (by decide) ?_
          by_cases h5 : S.1 + 1 + 1 + 14 ≤ S.2.1
          · refine pb_retL (pb_V (rest := []) C f_X_60 ⟨by decide, by decide, by decide, by decide⟩ (c_X_read l hfl w (S.1 + 1 + 1, S.2) T ov 14 (by decide) (ok2)) hw (pb_Wd_x hw) hl.1 rfl rfl (Nat.le_of_ble_eq_true rfl) d_X_length_31) hS (by rw [o_rd_ok (S := (S.1 + 1 + 1, S.2)) h5]; rfl) (fun H locs hw hS => ?_)
            refine lv_l2i hx hb d_X_length_34 rfl ?_
            refine lv_istore_n (lv' := [(1, .int ((rdv S.2.2 (S.1 + 1 + 1) 14 : Int64).toInt32)), (0, .ref (w_x w))]) hx hb d_X_length_35 rfl hl (by decide) rfl (fun ls hl => ?_)
            refine lv_iload_n hx hb d_X_length_36 rfl (lv_at hl 0 rfl) ?_
            refine lv_bipush (v := 127) hx hb d_X_length_37 (by decide) ?_
            refine lv_icmp_le (tgt := 46) hx hb d_X_length_39 (by decide) (fun h6 => ?_) (fun h6 => ?_)
            · refine lv_iconst (v := 0) hx hb d_X_length_46 (by decide) ?_
              refine pb_thr (pb_S (rest := []) C f_X_57 ⟨by decide, by decide, by decide, by decide⟩ (c_X_need l hfl w (S.1 + 1 + 1 + 14, S.2) T ov 0) hw hl.1 rfl rfl (Nat.le_of_ble_eq_true rfl) d_X_length_47) hS (if_pos rfl) (fun xa H locs hw hS hex => ?_)
              exact e_t hlocks (by rw [hno]; intro x h; cases h) hw hS hex (by rw [x_len_2 h1 h2, x_len2_3 (S := (S.1 + 1, S.2)) h3 h4, x_len3_bad (S := (S.1 + 1 + 1, S.2)) h5 (Int32.not_lt.mpr h6)]; rfl) (by decide) (by decide)
            · refine lv_iconst (v := 1) hx hb d_X_length_42 (by decide) ?_
              refine lv_goto (tgt := 47) hx hb d_X_length_43 (by decide) ?_
              refine pb_retV (pb_S (rest := []) C f_X_57 ⟨by decide, by decide, by decide, by decide⟩ (c_X_need l hfl w (S.1 + 1 + 1 + 14, S.2) T ov 1) hw hl.1 rfl rfl (Nat.le_of_ble_eq_true rfl) d_X_length_47) hS (if_neg (by decide)) (fun H locs hw hS => ?_)
              refine lv_iload_n hx hb d_X_length_50 rfl (lv_at hl 0 rfl) ?_
              exact e_i ⟨hx, hb⟩ hr hlocks hw hS (by rw [x_len_2 h1 h2, x_len2_3 (S := (S.1 + 1, S.2)) h3 h4, x_len3_ok (S := (S.1 + 1 + 1, S.2)) h5 (Int32.not_le.mp h6)]; rfl) (by decide) (by decide) d_X_length_51
          · refine pb_thr (pb_V (rest := []) C f_X_60 ⟨by decide, by decide, by decide, by decide⟩ (c_X_read l hfl w (S.1 + 1 + 1, S.2) T ov 14 (by decide) (ok2)) hw (pb_Wd_x hw) hl.1 rfl rfl (Nat.le_of_ble_eq_true rfl) d_X_length_31) hS (by rw [o_rd_no (S := (S.1 + 1 + 1, S.2)) h5]; rfl) (fun xa H locs hw hS hex => ?_)
            exact e_t hlocks (by rw [hno]; intro x h; cases h) hw hS hex (by rw [x_len_2 h1 h2, x_len2_3 (S := (S.1 + 1, S.2)) h3 h4, x_len3_no (S := (S.1 + 1 + 1, S.2)) h5]; rfl) (by decide) (by decide)
      · refine pb_thr (pb_V (rest := []) C f_X_60 ⟨by decide, by decide, by decide, by decide⟩ (c_X_read l hfl w (S.1 + 1, S.2) T ov 1 (by decide) (ok1)) hw (pb_Wd_x hw) hl.1 rfl rfl (Nat.le_of_ble_eq_true rfl) d_X_length_20) hS (by rw [o_rd_no (S := (S.1 + 1, S.2)) h3]; rfl) (fun xa H locs hw hS hex => ?_)
        exact e_t hlocks (by rw [hno]; intro x h; cases h) hw hS hex (by rw [x_len_2 h1 h2, x_len2_no (S := (S.1 + 1, S.2)) h3]; rfl) (by decide) (by decide)
    · refine lv_aload_n hx hb d_X_length_10 rfl (lv_at hl 0 rfl) ?_
      refine lv_bipush (v := 7) hx hb d_X_length_11 (by decide) ?_
      by_cases h3 : S.1 + 1 + 7 ≤ S.2.1
      · refine pb_retL (pb_V (rest := []) C f_X_60 ⟨by decide, by decide, by decide, by decide⟩ (c_X_read l hfl w (S.1 + 1, S.2) T ov 7 (by decide) (ok1)) hw (pb_Wd_x hw) hl.1 rfl rfl (Nat.le_of_ble_eq_true rfl) d_X_length_13) hS (by rw [o_rd_ok (S := (S.1 + 1, S.2)) h3]; rfl) (fun H locs hw hS => ?_)
        refine lv_l2i hx hb d_X_length_16 rfl ?_
        exact e_i ⟨hx, hb⟩ hr hlocks hw hS (by rw [x_len_1 h1 h2, x_len1_ok (S := (S.1 + 1, S.2)) h3]; rfl) (by decide) (by decide) d_X_length_17
      · refine pb_thr (pb_V (rest := []) C f_X_60 ⟨by decide, by decide, by decide, by decide⟩ (c_X_read l hfl w (S.1 + 1, S.2) T ov 7 (by decide) (ok1)) hw (pb_Wd_x hw) hl.1 rfl rfl (Nat.le_of_ble_eq_true rfl) d_X_length_13) hS (by rw [o_rd_no (S := (S.1 + 1, S.2)) h3]; rfl) (fun xa H locs hw hS hex => ?_)
        exact e_t hlocks (by rw [hno]; intro x h; cases h) hw hS hex (by rw [x_len_1 h1 h2, x_len1_no (S := (S.1 + 1, S.2)) h3]; rfl) (by decide) (by decide)
  · refine pb_thr (pb_V (rest := []) C f_X_60 ⟨by decide, by decide, by decide, by decide⟩ (c_X_read l hfl w S T ov 1 (by decide) (hok)) hw (pb_Wd_x hw) hl.1 rfl rfl (Nat.le_of_ble_eq_true rfl) d_X_length_2) hS (by rw [o_rd_no (S := S) h1]; rfl) (fun xa H locs hw hS hex => ?_)
    exact e_t hlocks (by rw [hno]; intro x h; cases h) hw hS hex (by rw [x_len_no h1]; rfl) (by decide) (by decide)
abbrev rm_X_takeLength : Room := { frames := 9, cells := 8, slots := 48, locals := 155 }
set_option maxHeartbeats 4000000 in
set_option maxRecDepth 100000 in
theorem c_X_takeLength (l : Launch) (hfl : l.stackTraces = false) (w : Wc) (S : St) (T : Mt) (ov : Int64) (hok : pb_ok S) : pb_C l w y_X_takeLength rm_X_takeLength [.ref (w_x w)] S T ov (xI [R_UOE] T ov (o_takeLength S)) := by
  refine pb_enterW (cc := prog_1_method_18_code) (maxL := 3) (ret := some .int) (own := "PackedBits") (by decide) pb_k212 rfl (Nat.le_of_ble_eq_true rfl) ?_
  intro p e s m below meth c ls C hr hlocks hno hN hw hS hl
  have hx := C.1
  have hb := C.2.1
  have hown := C.2.2.2.1
  have hts := C.2.2.2.2
  have hl : lv_has ls 3 [(0, .ref (w_x w))] := hl
  have hf := x_len_fw hok.1
  refine lv_aload_n hx hb d_X_takeLength_0 rfl (lv_at hl 0 rfl) ?_
  refine g_X_at C hw d_X_takeLength_1 ?_
  refine lv_istore_n (lv' := [(1, .int (nI S.1)), (0, .ref (w_x w))]) hx hb d_X_takeLength_4 rfl hl (by decide) rfl (fun ls hl => ?_)
  refine lv_aload_n hx hb d_X_takeLength_5 rfl (lv_at hl 1 rfl) ?_
  rcases hq : x_len S with ⟨_ | v, Z⟩
  · rw [hq] at hf
    refine pb_thr (pb_V (rest := []) C f_X_68 ⟨by decide, by decide, by decide, by decide⟩ (c_X_length l hfl w S T ov hok) hw (pb_Wd_x hw) hl.1 rfl rfl (Nat.le_of_ble_eq_true rfl) d_X_takeLength_6) hS (by rw [hq]; rfl) (fun xa H locs hw hS hex => ?_)
    refine pb_catch1 (x := ⟨5, 9, 10, 16⟩) (t := []) hown hts hno (by decide) (by decide) pb_k183 pb_k185 hex ?_
    refine lv_astore_n (lv' := [(2, .ref xa), (1, .int (nI S.1)), (0, .ref (w_x w))]) hx hb d_X_takeLength_10 rfl hl (by decide) rfl (fun ls hl => ?_)
    refine lv_aload_n hx hb d_X_takeLength_11 rfl (lv_at hl 2 rfl) ?_
    refine lv_iload_n hx hb d_X_takeLength_12 rfl (lv_at hl 1 rfl) ?_
    refine p_X_at C hN hw hS (S.1) d_X_takeLength_13 (fun H locs hw hS => ?_)
    have hZ : ((S.1, Z.2.1, Z.2.2) : St) = S := by
      have h9 : Z.2 = S.2 := hf.2.2
      show ((S.1, Z.2) : St) = S
      rw [h9]
    exact pb_new C hfl hlocks pb_k183 pb_k184 pb_k9 pb_fit_UOE pb_namesfit pb_at_UOE hw hS hl.1 d_X_takeLength_16 d_X_takeLength_19 d_X_takeLength_20 d_X_takeLength_23 (by rw [hno]; decide) (by decide) (by decide) (by decide) (by decide) (by decide) (by decide) (by rw [o_tl_no hq, hZ]; rfl)
  · refine pb_retI (pb_V (rest := []) C f_X_68 ⟨by decide, by decide, by decide, by decide⟩ (c_X_length l hfl w S T ov hok) hw (pb_Wd_x hw) hl.1 rfl rfl (Nat.le_of_ble_eq_true rfl) d_X_takeLength_6) hS (by rw [hq]; rfl) (fun H locs hw hS => ?_)
    exact e_i ⟨hx, hb⟩ hr hlocks hw hS (by rw [o_tl_ok hq]; rfl) (by decide) (by decide) d_X_takeLength_9
abbrev rm_X_number : Room := { frames := 9, cells := 12, slots := 72, locals := 155 }
set_option maxHeartbeats 4000000 in
set_option maxRecDepth 100000 in
theorem c_X_number (l : Launch) (hfl : l.stackTraces = false) (w : Wc) (S : St) (T : Mt) (ov : Int64) (kind : Int32) (hok : pb_ok S) : pb_C l w y_X_number rm_X_number [.ref (w_x w), .int kind] S T ov (xOl T ov (x_num kind S)) := by
  refine pb_enter (cc := prog_1_method_19_code) (maxL := 5) (ret := some .long) (own := "PackedBits") (by decide) pb_k227 rfl (Nat.le_of_ble_eq_true rfl) ?_
  intro p e s m below meth c ls C hr hlocks hno hN hw hS hl
  have hx := C.1
  have hb := C.2.1
  have hown := C.2.2.2.1
  have hts := C.2.2.2.2
  have hl : lv_has ls 5 [(0, .ref (w_x w)), (1, .int kind)] := hl
  have J22 : ∀ (Y : St) (H : Heap) (locs : List Loc), pb_ok Y → x_num kind S = x_num2 kind Y → pb_Wd w Y T ov s H → va_S (w_A w) s.heap H locs → W p l e rm_X_number s m ([.ref (w_x w), .int kind] : List Value).toArray below meth c H locs (0 + rm_X_read.cells) (0 + rm_X_read.slots) (pb_MQA below (pb_Q w (xOl T ov (x_num kind S))) ([.ref (w_x w), .int kind] : List Value).toArray s rm_X_number.cells rm_X_number.slots (w_A w)) (F0 m 22 ls []) := by
    intro Y H locs hY hxn hw hS
    have hf := x_len_fw hY.1
    refine lv_aload_n hx hb d_X_number_22 rfl (lv_at hl 0 rfl) ?_
    rcases hq : x_len Y with ⟨_ | v, Z⟩
    · refine pb_thr (pb_V (rest := []) C f_X_68 ⟨by decide, by decide, by decide, by decide⟩ (c_X_length l hfl w Y T ov hY) hw (pb_Wd_x hw) hl.1 rfl rfl (Nat.le_of_ble_eq_true rfl) d_X_number_23) hS (by rw [hq]; rfl) (fun xa H locs hw hS hex => ?_)
      exact e_t hlocks (by rw [hno]; intro x h; cases h) hw hS hex (by rw [hxn, x_num2_no hq]; rfl) (by decide) (by decide)
    · rw [hq] at hf
      have hZ : pb_ok Z := ⟨hf.2.1, by rw [show Z.2 = Y.2 from hf.2.2]; exact hY.2⟩
      refine pb_retI (pb_V (rest := []) C f_X_68 ⟨by decide, by decide, by decide, by decide⟩ (c_X_length l hfl w Y T ov hY) hw (pb_Wd_x hw) hl.1 rfl rfl (Nat.le_of_ble_eq_true rfl) d_X_number_23) hS (by rw [hq]; rfl) (fun H locs hw hS => ?_)
      refine lv_istore_n (lv' := [(2, .int v), (0, .ref (w_x w)), (1, .int kind)]) hx hb d_X_number_26 rfl hl (by decide) rfl (fun ls hl => ?_)
      refine lv_iload_n hx hb d_X_number_27 rfl (lv_at hl 0 rfl) ?_
      refine lv_if_le (tgt := 41) hx hb d_X_number_28 (by decide) (fun h1 => ?_) (fun h1 => ?_)
      · refine lv_iconst (v := 0) hx hb d_X_number_41 (by decide) ?_
        refine pb_thr (pb_S (rest := []) C f_X_57 ⟨by decide, by decide, by decide, by decide⟩ (c_X_need l hfl w Z T ov 0) hw hl.1 rfl rfl (Nat.le_of_ble_eq_true rfl) d_X_number_42) hS (if_pos rfl) (fun xa H locs hw hS hex => ?_)
        exact e_t hlocks (by rw [hno]; intro x h; cases h) hw hS hex (by rw [hxn, x_num2_bad hq (fun z => absurd z.1 (Int32.not_lt.mpr h1))]; rfl) (by decide) (by decide)
      · refine lv_iload_n hx hb d_X_number_31 rfl (lv_at hl 0 rfl) ?_
        refine lv_bipush (v := 9) hx hb d_X_number_32 (by decide) ?_
        refine lv_icmp_ge (tgt := 41) hx hb d_X_number_34 (by decide) (fun h2 => ?_) (fun h2 => ?_)
        · refine lv_iconst (v := 0) hx hb d_X_number_41 (by decide) ?_
          refine pb_thr (pb_S (rest := []) C f_X_57 ⟨by decide, by decide, by decide, by decide⟩ (c_X_need l hfl w Z T ov 0) hw hl.1 rfl rfl (Nat.le_of_ble_eq_true rfl) d_X_number_42) hS (if_pos rfl) (fun xa H locs hw hS hex => ?_)
          exact e_t hlocks (by rw [hno]; intro x h; cases h) hw hS hex (by rw [hxn, x_num2_bad hq (fun z => absurd z.2 (Int32.not_lt.mpr h2))]; rfl) (by decide) (by decide)
        · have hv : 0 < v ∧ v < 9 := ⟨Int32.not_le.mp h1, Int32.not_le.mp h2⟩
          obtain ⟨k, hk, rfl⟩ : ∃ k : Nat, (1 ≤ k ∧ k ≤ 8) ∧ v = nI k := by
            have g1 : ¬ v < 0 := fun z => Int32.lt_irrefl (Int32.lt_trans z hv.1)
            have g2 : ¬ (9 : Int32) ≤ v := h2
            obtain ⟨k, hk, rfl⟩ := nI_of2 (x := v) (M := 8) (n := 8) rfl g1 (i_lt9 hv.2)
            refine ⟨k, ⟨?_, hk⟩, rfl⟩
            have g3 := (nI_ltI (a := 0) (b := k) (by decide) (by omega)).mp hv.1
            omega
          have hxk : x_num kind S = x_num3 kind k Z := by rw [hxn, x_num2_ok hq hv, nI_clamp (by omega)]
          refine lv_iconst (v := 1) hx hb d_X_number_37 (by decide) ?_
          refine lv_goto (tgt := 42) hx hb d_X_number_38 (by decide) ?_
          refine pb_retV (pb_S (rest := []) C f_X_57 ⟨by decide, by decide, by decide, by decide⟩ (c_X_need l hfl w Z T ov 1) hw hl.1 rfl rfl (Nat.le_of_ble_eq_true rfl) d_X_number_42) hS (if_neg (by decide)) (fun H locs hw hS => ?_)
          refine lv_aload_n hx hb d_X_number_45 rfl (lv_at hl 1 rfl) ?_
          refine lv_bipush (v := 8) hx hb d_X_number_46 (by decide) ?_
          refine lv_iload_n hx hb d_X_number_48 rfl (lv_at hl 0 rfl) ?_
          refine lv_imul hx hb d_X_number_49 ?_
          refine lv_eqi (y := nI (8 * k)) (i_8 _) ?_
          by_cases h3 : Z.1 + 8 * k ≤ Z.2.1
          · refine pb_retL (pb_V (rest := []) C f_X_60 ⟨by decide, by decide, by decide, by decide⟩ (c_X_read l hfl w Z T ov (8 * k) (by omega) hZ) hw (pb_Wd_x hw) hl.1 rfl rfl (Nat.le_of_ble_eq_true rfl) d_X_number_50) hS (by rw [o_rd_ok h3]; rfl) (fun H locs hw hS => ?_)
            refine lv_lstore_n (lv' := [(3, .long (rdv Z.2.2 Z.1 (8 * k))), (2, .int (nI k)), (0, .ref (w_x w)), (1, .int kind)]) hx hb d_X_number_53 rfl hl (by decide) rfl (fun ls hl => ?_)
            have J77 : ∀ ls : Array Slot, lv_has ls 5 [(3, .long (o_fix kind k (rdv Z.2.2 Z.1 (8 * k)))), (2, .int (nI k)), (0, .ref (w_x w)), (1, .int kind)] → W p l e rm_X_number s m ([.ref (w_x w), .int kind] : List Value).toArray below meth c H locs (0 + rm_X_read.cells + rm_X_length.cells + rm_X_need.cells + rm_X_read.cells) (0 + rm_X_read.slots + rm_X_length.slots + rm_X_need.slots + rm_X_read.slots) (pb_MQA below (pb_Q w (xOl T ov (x_num kind S))) ([.ref (w_x w), .int kind] : List Value).toArray s rm_X_number.cells rm_X_number.slots (w_A w)) (F0 m 77 ls []) := by
              intro ls hl
              have J87 : ∀ sg : Bool, (if sg then byS (o_fix kind k (rdv Z.2.2 Z.1 (8 * k))) else byU (o_fix kind k (rdv Z.2.2 Z.1 (8 * k)))) = o_by kind (o_fix kind k (rdv Z.2.2 Z.1 (8 * k))) → W p l e rm_X_number s m ([.ref (w_x w), .int kind] : List Value).toArray below meth c H locs (0 + rm_X_read.cells + rm_X_length.cells + rm_X_need.cells + rm_X_read.cells) (0 + rm_X_read.slots + rm_X_length.slots + rm_X_need.slots + rm_X_read.slots) (pb_MQA below (pb_Q w (xOl T ov (x_num kind S))) ([.ref (w_x w), .int kind] : List Value).toArray s rm_X_number.cells rm_X_number.slots (w_A w)) (F0 m 87 ls [.int (bI sg)]) := by
                intro sg hsg
                refine lv_lload_n hx hb d_X_number_87 rfl (lv_at hl 0 rfl) ?_
                refine pb_retI (pb_S (rest := []) C f_X_50 ⟨by decide, by decide, by decide, by decide⟩ (c_X_bytes l w (Z.1 + 8 * k, Z.2) T ov sg (o_fix kind k (rdv Z.2.2 Z.1 (8 * k)))) hw hl.1 rfl rfl (Nat.le_of_ble_eq_true rfl) d_X_number_88) hS (by rw [hsg]) (fun H locs hw hS => ?_)
                have Jbad : ¬ (o_by kind (o_fix kind k (rdv Z.2.2 Z.1 (8 * k))) = k ∧ (kind < 2 ∨ o_fix kind k (rdv Z.2.2 Z.1 (8 * k)) < 0 ∨ 63 < o_fix kind k (rdv Z.2.2 Z.1 (8 * k)))) → W p l e rm_X_number s m ([.ref (w_x w), .int kind] : List Value).toArray below meth c H locs (0 + rm_X_read.cells + rm_X_length.cells + rm_X_need.cells + rm_X_read.cells + rm_X_bytes.cells) (0 + rm_X_read.slots + rm_X_length.slots + rm_X_need.slots + rm_X_read.slots + rm_X_bytes.slots) (pb_MQA below (pb_Q w (xOl T ov (x_num kind S))) ([.ref (w_x w), .int kind] : List Value).toArray s rm_X_number.cells rm_X_number.slots (w_A w)) (F0 m 118 ls []) := by
                  intro hc
                  refine lv_iconst (v := 0) hx hb d_X_number_118 (by decide) ?_
                  refine pb_thr (pb_S (rest := []) C f_X_57 ⟨by decide, by decide, by decide, by decide⟩ (c_X_need l hfl w (Z.1 + 8 * k, Z.2) T ov 0) hw hl.1 rfl rfl (Nat.le_of_ble_eq_true rfl) d_X_number_119) hS (if_pos rfl) (fun xa H locs hw hS hex => ?_)
                  exact e_t hlocks (by rw [hno]; intro x h; cases h) hw hS hex (by rw [hxk, x_num3_bad h3 hc]; rfl) (by decide) (by decide)
                have Jgood : (o_by kind (o_fix kind k (rdv Z.2.2 Z.1 (8 * k))) = k ∧ (kind < 2 ∨ o_fix kind k (rdv Z.2.2 Z.1 (8 * k)) < 0 ∨ 63 < o_fix kind k (rdv Z.2.2 Z.1 (8 * k)))) → W p l e rm_X_number s m ([.ref (w_x w), .int kind] : List Value).toArray below meth c H locs (0 + rm_X_read.cells + rm_X_length.cells + rm_X_need.cells + rm_X_read.cells + rm_X_bytes.cells) (0 + rm_X_read.slots + rm_X_length.slots + rm_X_need.slots + rm_X_read.slots + rm_X_bytes.slots) (pb_MQA below (pb_Q w (xOl T ov (x_num kind S))) ([.ref (w_x w), .int kind] : List Value).toArray s rm_X_number.cells rm_X_number.slots (w_A w)) (F0 m 114 ls []) := by
                  intro hc
                  refine lv_iconst (v := 1) hx hb d_X_number_114 (by decide) ?_
                  refine lv_goto (tgt := 119) hx hb d_X_number_115 (by decide) ?_
                  refine pb_retV (pb_S (rest := []) C f_X_57 ⟨by decide, by decide, by decide, by decide⟩ (c_X_need l hfl w (Z.1 + 8 * k, Z.2) T ov 1) hw hl.1 rfl rfl (Nat.le_of_ble_eq_true rfl) d_X_number_119) hS (if_neg (by decide)) (fun H locs hw hS => ?_)
                  refine lv_lload_n hx hb d_X_number_122 rfl (lv_at hl 0 rfl) ?_
                  exact e_l ⟨hx, hb⟩ hr hlocks hw hS (by rw [hxk, x_num3_ok h3 hc]; rfl) (by decide) (by decide) d_X_number_123
                refine lv_iload_n hx hb d_X_number_91 rfl (lv_at hl 1 rfl) ?_
                refine lv_icmp_ne (tgt := 118) hx hb d_X_number_92 (by decide) (fun h5 => ?_) (fun h5 => ?_)
                · exact Jbad (fun z => h5 (by rw [z.1]))
                · have h6 : o_by kind (o_fix kind k (rdv Z.2.2 Z.1 (8 * k))) = k := (nI_eq (Nat.lt_of_le_of_lt (o_by_in kind _).2 (by decide)) (by omega)).mp h5
                  refine lv_iload_n hx hb d_X_number_95 rfl (lv_at hl 3 rfl) ?_
                  refine lv_iconst (v := 2) hx hb d_X_number_96 (by decide) ?_
                  refine lv_icmp_lt (tgt := 114) hx hb d_X_number_97 (by decide) (fun h7 => ?_) (fun h7 => ?_)
                  · exact Jgood ⟨h6, Or.inl h7⟩
                  · refine lv_lload_n hx hb d_X_number_100 rfl (lv_at hl 0 rfl) ?_
                    refine lv_lconst (v := 0) hx hb d_X_number_101 (by decide) ?_
                    refine lc_lt (tgt := 114) ⟨hx, hb⟩ d_X_number_102 d_X_number_103 (by decide) (fun h8 => ?_) (fun h8 => ?_)
                    · exact Jgood ⟨h6, Or.inr (Or.inl h8)⟩
                    · refine lv_lload_n hx hb d_X_number_106 rfl (lv_at hl 0 rfl) ?_
                      refine lv_ldc2 hx hb hown (hts _ pb_k228) d_X_number_107 ?_
                      refine lc_le (tgt := 118) ⟨hx, hb⟩ d_X_number_110 d_X_number_111 (by decide) (fun h9 => ?_) (fun h9 => ?_)
                      · exact Jbad (fun z => z.2.elim h7 (fun u => u.elim h8 (fun t => absurd t (Int64.not_lt.mpr h9))))
                      · exact Jgood ⟨h6, Or.inr (Or.inr (Int64.not_le.mp h9))⟩
              refine lv_iload_n hx hb d_X_number_77 rfl (lv_at hl 3 rfl) ?_
              refine lv_iconst (v := 1) hx hb d_X_number_78 (by decide) ?_
              refine lv_icmp_ne (tgt := 86) hx hb d_X_number_79 (by decide) (fun h4 => ?_) (fun h4 => ?_)
              · refine lv_iconst (v := 0) hx hb d_X_number_86 (by decide) ?_
                exact J87 false (by rw [show o_by kind (o_fix kind k (rdv Z.2.2 Z.1 (8 * k))) = byU (o_fix kind k (rdv Z.2.2 Z.1 (8 * k))) from if_neg h4]; rfl)
              · refine lv_iconst (v := 1) hx hb d_X_number_82 (by decide) ?_
                refine lv_goto (tgt := 87) hx hb d_X_number_83 (by decide) ?_
                exact J87 true (by rw [show o_by kind (o_fix kind k (rdv Z.2.2 Z.1 (8 * k))) = byS (o_fix kind k (rdv Z.2.2 Z.1 (8 * k))) from if_pos h4]; rfl)
            refine lv_iload_n hx hb d_X_number_54 rfl (lv_at hl 3 rfl) ?_
            refine lv_iconst (v := 1) hx hb d_X_number_55 (by decide) ?_
            refine lv_icmp_ne (tgt := 77) hx hb d_X_number_56 (by decide) (fun h4 => ?_) (fun h4 => ?_)
            · exact J77 ls (by unfold o_fix; rw [if_neg h4]; exact hl)
            · refine lv_lload_n hx hb d_X_number_59 rfl (lv_at hl 0 rfl) ?_
              refine lv_bipush (v := 64) hx hb d_X_number_60 (by decide) ?_
              refine lv_bipush (v := 8) hx hb d_X_number_62 (by decide) ?_
              refine lv_iload_n hx hb d_X_number_64 rfl (lv_at hl 1 rfl) ?_
              refine lv_imul hx hb d_X_number_65 ?_
              refine lv_eqi (y := nI (8 * k)) (i_8 _) ?_
              refine lv_isub hx hb d_X_number_66 ?_
              refine lv_lshl hx hb d_X_number_67 rfl ?_
              refine lv_bipush (v := 64) hx hb d_X_number_68 (by decide) ?_
              refine lv_bipush (v := 8) hx hb d_X_number_70 (by decide) ?_
              refine lv_iload_n hx hb d_X_number_72 rfl (lv_at hl 1 rfl) ?_
              refine lv_imul hx hb d_X_number_73 ?_
              refine lv_eqi (y := nI (8 * k)) (i_8 _) ?_
              refine lv_isub hx hb d_X_number_74 ?_
              refine lv_lshr hx hb d_X_number_75 rfl ?_
              refine lv_lstore_n (lv' := [(3, .long (((rdv Z.2.2 Z.1 (8 * k)) <<< (((64) - (nI (8 * k)) : Int32).toInt64 &&& 63)) >>> (((64) - (nI (8 * k)) : Int32).toInt64 &&& 63))), (2, .int (nI k)), (0, .ref (w_x w)), (1, .int kind)]) hx hb d_X_number_76 rfl hl (by decide) rfl (fun ls hl => ?_)
              exact J77 ls (by unfold o_fix; rw [if_pos h4]; exact hl)
          · refine pb_thr (pb_V (rest := []) C f_X_60 ⟨by decide, by decide, by decide, by decide⟩ (c_X_read l hfl w Z T ov (8 * k) (by omega) hZ) hw (pb_Wd_x hw) hl.1 rfl rfl (Nat.le_of_ble_eq_true rfl) d_X_number_50) hS (by rw [o_rd_no h3]; rfl) (fun xa H locs hw hS hex => ?_)
            exact e_t hlocks (by rw [hno]; intro x h; cases h) hw hS hex (by rw [hxk, x_num3_no h3]; rfl) (by decide) (by decide)
  refine lv_iload_n hx hb d_X_number_0 rfl (lv_at hl 1 rfl) ?_
  refine lv_iconst (v := 2) hx hb d_X_number_1 (by decide) ?_
  refine lv_icmp_ne (tgt := 22) hx hb d_X_number_2 (by decide) (fun h1 => ?_) (fun h1 => ?_)
  · exact W.widen (by decide) (by decide) (J22 S s.heap [] hok (x_num_p h1) hw hS)
  · refine lv_aload_n hx hb d_X_number_5 rfl (lv_at hl 0 rfl) ?_
    refine lv_iconst (v := 1) hx hb d_X_number_6 (by decide) ?_
    by_cases h2 : S.1 + 1 ≤ S.2.1
    · refine pb_retL (pb_V (rest := []) C f_X_60 ⟨by decide, by decide, by decide, by decide⟩ (c_X_read l hfl w S T ov 1 (by decide) hok) hw (pb_Wd_x hw) hl.1 rfl rfl (Nat.le_of_ble_eq_true rfl) d_X_number_7) hS (by rw [o_rd_ok h2]; rfl) (fun H locs hw hS => ?_)
      have ok1 : pb_ok (S.1 + 1, S.2) := ⟨h2, hok.2⟩
      refine lv_lconst (v := 0) hx hb d_X_number_10 (by decide) ?_
      refine lc_ne (tgt := 22) ⟨hx, hb⟩ d_X_number_11 d_X_number_12 (by decide) (fun h3 => ?_) (fun h3 => ?_)
      · exact J22 (S.1 + 1, S.2) H locs ok1 (x_num_2 h1 h2 h3) hw hS
      · refine lv_aload_n hx hb d_X_number_15 rfl (lv_at hl 0 rfl) ?_
        refine lv_bipush (v := 6) hx hb d_X_number_16 (by decide) ?_
        by_cases h4 : S.1 + 1 + 6 ≤ S.2.1
        · refine pb_retL (pb_V (rest := []) C f_X_60 ⟨by decide, by decide, by decide, by decide⟩ (c_X_read l hfl w (S.1 + 1, S.2) T ov 6 (by decide) ok1) hw (pb_Wd_x hw) hl.1 rfl rfl (Nat.le_of_ble_eq_true rfl) d_X_number_18) hS (by rw [o_rd_ok (S := (S.1 + 1, S.2)) h4]; rfl) (fun H locs hw hS => ?_)
          exact e_l ⟨hx, hb⟩ hr hlocks hw hS (by rw [x_num_1 h1 h2 h3, x_num1_ok (S := (S.1 + 1, S.2)) h4]; rfl) (by decide) (by decide) d_X_number_21
        · refine pb_thr (pb_V (rest := []) C f_X_60 ⟨by decide, by decide, by decide, by decide⟩ (c_X_read l hfl w (S.1 + 1, S.2) T ov 6 (by decide) ok1) hw (pb_Wd_x hw) hl.1 rfl rfl (Nat.le_of_ble_eq_true rfl) d_X_number_18) hS (by rw [o_rd_no (S := (S.1 + 1, S.2)) h4]; rfl) (fun xa H locs hw hS hex => ?_)
          exact e_t hlocks (by rw [hno]; intro x h; cases h) hw hS hex (by rw [x_num_1 h1 h2 h3, x_num1_no (S := (S.1 + 1, S.2)) h4]; rfl) (by decide) (by decide)
    · refine pb_thr (pb_V (rest := []) C f_X_60 ⟨by decide, by decide, by decide, by decide⟩ (c_X_read l hfl w S T ov 1 (by decide) hok) hw (pb_Wd_x hw) hl.1 rfl rfl (Nat.le_of_ble_eq_true rfl) d_X_number_7) hS (by rw [o_rd_no h2]; rfl) (fun xa H locs hw hS hex => ?_)
      exact e_t hlocks (by rw [hno]; intro x h; cases h) hw hS hex (by rw [x_num_no h1 h2]; rfl) (by decide) (by decide)
abbrev rm_X_takeNumber : Room := { frames := 10, cells := 14, slots := 84, locals := 179 }
set_option maxHeartbeats 4000000 in
set_option maxRecDepth 100000 in
theorem c_X_takeNumber (l : Launch) (hfl : l.stackTraces = false) (w : Wc) (S : St) (T : Mt) (ov : Int64) (kind : Int32) (hok : pb_ok S) : pb_C l w y_X_takeNumber rm_X_takeNumber [.ref (w_x w), .int kind] S T ov (xL cs_take T ov (o_takeNumber kind S)) := by
  refine pb_enterW (cc := prog_1_method_20_code) (maxL := 4) (ret := some .long) (own := "PackedBits") (by decide) pb_k223 rfl (Nat.le_of_ble_eq_true rfl) ?_
  intro p e s m below meth c ls C hr hlocks hno hN hw hS hl
  have hx := C.1
  have hb := C.2.1
  have hown := C.2.2.2.1
  have hts := C.2.2.2.2
  have hl : lv_has ls 4 [(0, .ref (w_x w)), (1, .int kind)] := hl
  have hf := x_num_fw (kind := kind) hok.1
  refine lv_iload_n hx hb d_X_takeNumber_0 rfl (lv_at hl 1 rfl) ?_
  refine lv_if_lt (tgt := 13) hx hb d_X_takeNumber_1 (by decide) (fun h1 => ?_) (fun h1 => ?_)
  · refine lv_iconst (v := 0) hx hb d_X_takeNumber_13 (by decide) ?_
    refine pb_thr (pb_S (rest := []) C f_X_30 ⟨by decide, by decide, by decide, by decide⟩ (c_X_in l hfl w S T ov 0) hw hl.1 rfl rfl (Nat.le_of_ble_eq_true rfl) d_X_takeNumber_14) hS (if_pos rfl) (fun xa H locs hw hS hex => ?_)
    exact e_t hlocks (by rw [hno]; decide) hw hS hex (by rw [show o_takeNumber kind S = (1, 0, S) from if_pos (Or.inl h1)]; rfl) (by decide) (by decide)
  · refine lv_iload_n hx hb d_X_takeNumber_4 rfl (lv_at hl 1 rfl) ?_
    refine lv_iconst (v := 2) hx hb d_X_takeNumber_5 (by decide) ?_
    refine lv_icmp_gt (tgt := 13) hx hb d_X_takeNumber_6 (by decide) (fun h2 => ?_) (fun h2 => ?_)
    · refine lv_iconst (v := 0) hx hb d_X_takeNumber_13 (by decide) ?_
      refine pb_thr (pb_S (rest := []) C f_X_30 ⟨by decide, by decide, by decide, by decide⟩ (c_X_in l hfl w S T ov 0) hw hl.1 rfl rfl (Nat.le_of_ble_eq_true rfl) d_X_takeNumber_14) hS (if_pos rfl) (fun xa H locs hw hS hex => ?_)
      exact e_t hlocks (by rw [hno]; decide) hw hS hex (by rw [show o_takeNumber kind S = (1, 0, S) from if_pos (Or.inr h2)]; rfl) (by decide) (by decide)
    · refine lv_iconst (v := 1) hx hb d_X_takeNumber_9 (by decide) ?_
      refine lv_goto (tgt := 14) hx hb d_X_takeNumber_10 (by decide) ?_
      refine pb_retV (pb_S (rest := []) C f_X_30 ⟨by decide, by decide, by decide, by decide⟩ (c_X_in l hfl w S T ov 1) hw hl.1 rfl rfl (Nat.le_of_ble_eq_true rfl) d_X_takeNumber_14) hS (if_neg (by decide)) (fun H locs hw hS => ?_)
      refine lv_aload_n hx hb d_X_takeNumber_17 rfl (lv_at hl 0 rfl) ?_
      refine g_X_at C hw d_X_takeNumber_18 ?_
      refine lv_istore_n (lv' := [(2, .int (nI S.1)), (0, .ref (w_x w)), (1, .int kind)]) hx hb d_X_takeNumber_21 rfl hl (by decide) rfl (fun ls hl => ?_)
      refine lv_aload_n hx hb d_X_takeNumber_22 rfl (lv_at hl 1 rfl) ?_
      refine lv_iload_n hx hb d_X_takeNumber_23 rfl (lv_at hl 2 rfl) ?_
      rcases hq : x_num kind S with ⟨_ | v, Z⟩
      · rw [hq] at hf
        refine pb_thr (pb_V (rest := []) C f_X_74 ⟨by decide, by decide, by decide, by decide⟩ (c_X_number l hfl w S T ov kind hok) hw (pb_Wd_x hw) hl.1 rfl rfl (Nat.le_of_ble_eq_true rfl) d_X_takeNumber_24) hS (by rw [hq]; rfl) (fun xa H locs hw hS hex => ?_)
        refine pb_catch1 (x := ⟨22, 27, 28, 16⟩) (t := []) hown hts hno (by decide) (by decide) pb_k183 pb_k185 hex ?_
        refine lv_astore_n (lv' := [(3, .ref xa), (2, .int (nI S.1)), (0, .ref (w_x w)), (1, .int kind)]) hx hb d_X_takeNumber_28 rfl hl (by decide) rfl (fun ls hl => ?_)
        refine lv_aload_n hx hb d_X_takeNumber_29 rfl (lv_at hl 2 rfl) ?_
        refine lv_iload_n hx hb d_X_takeNumber_30 rfl (lv_at hl 1 rfl) ?_
        refine p_X_at C hN hw hS (S.1) d_X_takeNumber_31 (fun H locs hw hS => ?_)
        have hZ : ((S.1, Z.2.1, Z.2.2) : St) = S := by
          have h9 : Z.2 = S.2 := hf.2.2
          show ((S.1, Z.2) : St) = S
          rw [h9]
        exact pb_new C hfl hlocks pb_k183 pb_k184 pb_k9 pb_fit_UOE pb_namesfit pb_at_UOE hw hS hl.1 d_X_takeNumber_34 d_X_takeNumber_37 d_X_takeNumber_38 d_X_takeNumber_41 (by rw [hno]; decide) (by decide) (by decide) (by decide) (by decide) (by decide) (by decide) (by rw [o_tn_no h1 h2 hq, hZ]; rfl)
      · refine pb_retL (pb_V (rest := []) C f_X_74 ⟨by decide, by decide, by decide, by decide⟩ (c_X_number l hfl w S T ov kind hok) hw (pb_Wd_x hw) hl.1 rfl rfl (Nat.le_of_ble_eq_true rfl) d_X_takeNumber_24) hS (by rw [hq]; rfl) (fun H locs hw hS => ?_)
        exact e_l ⟨hx, hb⟩ hr hlocks hw hS (by rw [o_tn_ok h1 h2 hq]; rfl) (by decide) (by decide) d_X_takeNumber_27
abbrev rm_X_go : Room := { frames := 7, cells := 1, slots := 6, locals := 110 }
set_option maxHeartbeats 4000000 in
set_option maxRecDepth 100000 in
theorem c_X_go (l : Launch) (hfl : l.stackTraces = false) (w : Wc) (S : St) (T : Mt) (ov : Int64) (n : Int32) (hok : pb_ok S) : pb_C l w y_X_go rm_X_go [.ref (w_x w), .int n] S T ov (xI cs_one T ov (o_go n S)) := by
  refine pb_enter (cc := prog_1_method_21_code) (maxL := 3) (ret := some .int) (own := "PackedBits") (by decide) pb_k235 rfl (Nat.le_of_ble_eq_true rfl) ?_
  intro p e s m below meth c ls C hr hlocks hno hN hw hS hl
  have hx := C.1
  have hb := C.2.1
  have hown := C.2.2.2.1
  have hts := C.2.2.2.2
  have hl : lv_has ls 3 [(0, .ref (w_x w)), (1, .int n)] := hl
  have hok1 := hok.1
  have hok2 := hok.2
  refine lv_iload_n hx hb d_X_go_0 rfl (lv_at hl 1 rfl) ?_
  refine lv_if_lt (tgt := 16) hx hb d_X_go_1 (by decide) (fun h1 => ?_) (fun h1 => ?_)
  · refine lv_iconst (v := 0) hx hb d_X_go_16 (by decide) ?_
    refine pb_thr (pb_S (rest := []) C f_X_30 ⟨by decide, by decide, by decide, by decide⟩ (c_X_in l hfl w S T ov 0) hw hl.1 rfl rfl (Nat.le_of_ble_eq_true rfl) d_X_go_17) hS (if_pos rfl) (fun xa H locs hw hS hex => ?_)
    exact e_t hlocks (by rw [hno]; intro x h; cases h) hw hS hex (by rw [show o_go n S = (1, 0, S) from if_pos (Or.inl h1)]; rfl) (by decide) (by decide)
  · refine lv_iload_n hx hb d_X_go_4 rfl (lv_at hl 1 rfl) ?_
    refine lv_aload_n hx hb d_X_go_5 rfl (lv_at hl 0 rfl) ?_
    refine g_X_end C hw d_X_go_6 ?_
    refine lv_icmp_gt (tgt := 16) hx hb d_X_go_9 (by decide) (fun h2 => ?_) (fun h2 => ?_)
    · refine lv_iconst (v := 0) hx hb d_X_go_16 (by decide) ?_
      refine pb_thr (pb_S (rest := []) C f_X_30 ⟨by decide, by decide, by decide, by decide⟩ (c_X_in l hfl w S T ov 0) hw hl.1 rfl rfl (Nat.le_of_ble_eq_true rfl) d_X_go_17) hS (if_pos rfl) (fun xa H locs hw hS hex => ?_)
      exact e_t hlocks (by rw [hno]; intro x h; cases h) hw hS hex (by rw [show o_go n S = (1, 0, S) from if_pos (Or.inr h2)]; rfl) (by decide) (by decide)
    · obtain ⟨k, hk, rfl⟩ : ∃ k : Nat, k ≤ S.2.1 ∧ n = nI k := by
        obtain ⟨k, hk, rfl⟩ := nI_of h1
        exact ⟨k, Nat.le_of_not_lt (fun z => h2 ((nI_ltI (by omega) hk).mpr z)), rfl⟩
      refine lv_iconst (v := 1) hx hb d_X_go_12 (by decide) ?_
      refine lv_goto (tgt := 17) hx hb d_X_go_13 (by decide) ?_
      refine pb_retV (pb_S (rest := []) C f_X_30 ⟨by decide, by decide, by decide, by decide⟩ (c_X_in l hfl w S T ov 1) hw hl.1 rfl rfl (Nat.le_of_ble_eq_true rfl) d_X_go_17) hS (if_neg (by decide)) (fun H locs hw hS => ?_)
      refine lv_aload_n hx hb d_X_go_20 rfl (lv_at hl 0 rfl) ?_
      refine g_X_at C hw d_X_go_21 ?_
      refine lv_istore_n (lv' := [(2, .int (nI S.1)), (0, .ref (w_x w)), (1, .int (nI k))]) hx hb d_X_go_24 rfl hl (by decide) rfl (fun ls hl => ?_)
      refine lv_aload_n hx hb d_X_go_25 rfl (lv_at hl 1 rfl) ?_
      refine lv_iload_n hx hb d_X_go_26 rfl (lv_at hl 2 rfl) ?_
      refine p_X_at C hN hw hS (k) d_X_go_27 (fun H locs hw hS => ?_)
      refine lv_iload_n hx hb d_X_go_30 rfl (lv_at hl 0 rfl) ?_
      exact e_i ⟨hx, hb⟩ hr hlocks hw hS (by rw [o_go_k hk (by omega)]; rfl) (by decide) (by decide) d_X_go_31
abbrev rm_X_turn : Room := { frames := 7, cells := 1, slots := 6, locals := 110 }
set_option maxHeartbeats 4000000 in
set_option maxRecDepth 100000 in
theorem c_X_turn (l : Launch) (hfl : l.stackTraces = false) (w : Wc) (S : St) (T : Mt) (ov : Int64) (n : Int32) (hok : pb_ok S) : pb_C l w y_X_turn rm_X_turn [.ref (w_x w), .int n] S T ov (xZ cs_one T ov (o_turn n S)) := by
  refine pb_enter (cc := prog_1_method_22_code) (maxL := 2) (ret := some .boolean) (own := "PackedBits") (by decide) pb_k242 rfl (Nat.le_of_ble_eq_true rfl) ?_
  intro p e s m below meth c ls C hr hlocks hno hN hw hS hl
  have hx := C.1
  have hb := C.2.1
  have hown := C.2.2.2.1
  have hts := C.2.2.2.2
  have hl : lv_has ls 2 [(0, .ref (w_x w)), (1, .int n)] := hl
  have hok1 := hok.1
  have hok2 := hok.2
  refine lv_iload_n hx hb d_X_turn_0 rfl (lv_at hl 1 rfl) ?_
  refine lv_if_lt (tgt := 16) hx hb d_X_turn_1 (by decide) (fun h1 => ?_) (fun h1 => ?_)
  · refine lv_iconst (v := 0) hx hb d_X_turn_16 (by decide) ?_
    refine pb_thr (pb_S (rest := []) C f_X_30 ⟨by decide, by decide, by decide, by decide⟩ (c_X_in l hfl w S T ov 0) hw hl.1 rfl rfl (Nat.le_of_ble_eq_true rfl) d_X_turn_17) hS (if_pos rfl) (fun xa H locs hw hS hex => ?_)
    exact e_t hlocks (by rw [hno]; intro x h; cases h) hw hS hex (by rw [show o_turn n S = (1, false, S) from if_pos (Or.inl h1)]; rfl) (by decide) (by decide)
  · refine lv_iload_n hx hb d_X_turn_4 rfl (lv_at hl 1 rfl) ?_
    refine lv_aload_n hx hb d_X_turn_5 rfl (lv_at hl 0 rfl) ?_
    refine g_X_end C hw d_X_turn_6 ?_
    refine lv_icmp_ge (tgt := 16) hx hb d_X_turn_9 (by decide) (fun h2 => ?_) (fun h2 => ?_)
    · refine lv_iconst (v := 0) hx hb d_X_turn_16 (by decide) ?_
      refine pb_thr (pb_S (rest := []) C f_X_30 ⟨by decide, by decide, by decide, by decide⟩ (c_X_in l hfl w S T ov 0) hw hl.1 rfl rfl (Nat.le_of_ble_eq_true rfl) d_X_turn_17) hS (if_pos rfl) (fun xa H locs hw hS hex => ?_)
      exact e_t hlocks (by rw [hno]; intro x h; cases h) hw hS hex (by rw [show o_turn n S = (1, false, S) from if_pos (Or.inr h2)]; rfl) (by decide) (by decide)
    · obtain ⟨k, hk, rfl⟩ : ∃ k : Nat, k < S.2.1 ∧ n = nI k := by
        obtain ⟨k, hk, rfl⟩ := nI_of h1
        exact ⟨k, Nat.lt_of_not_le (fun z => h2 ((nI_leI (by omega) hk).mpr z)), rfl⟩
      refine lv_iconst (v := 1) hx hb d_X_turn_12 (by decide) ?_
      refine lv_goto (tgt := 17) hx hb d_X_turn_13 (by decide) ?_
      refine pb_retV (pb_S (rest := []) C f_X_30 ⟨by decide, by decide, by decide, by decide⟩ (c_X_in l hfl w S T ov 1) hw hl.1 rfl rfl (Nat.le_of_ble_eq_true rfl) d_X_turn_17) hS (if_neg (by decide)) (fun H locs hw hS => ?_)
      refine lv_aload_n hx hb d_X_turn_20 rfl (lv_at hl 0 rfl) ?_
      refine g_X_out C hw d_X_turn_21 ?_
      refine lv_iload_n hx hb d_X_turn_24 rfl (lv_at hl 1 rfl) ?_
      refine lv_iconst (v := 3) hx hb d_X_turn_25 (by decide) ?_
      refine lv_ishr hx hb d_X_turn_26 ?_
      refine lv_eqi (y := nI (k / 8)) (i_shr3 (by omega)) ?_
      refine lv_dup2_11 hx hb d_X_turn_27 rfl rfl ?_
      refine b_ld ⟨hx, hb⟩ hw (k := k / 8) (by omega) d_X_turn_28 ?_
      refine lv_sipush (v := 128) hx hb d_X_turn_29 (by decide) ?_
      refine lv_iload_n hx hb d_X_turn_32 rfl (lv_at hl 1 rfl) ?_
      refine lv_bipush (v := 7) hx hb d_X_turn_33 (by decide) ?_
      refine lv_iand hx hb d_X_turn_35 ?_
      refine lv_eqi (y := nI (k % 8)) (i_and7 (by omega)) ?_
      refine lv_ishr hx hb d_X_turn_36 ?_
      refine lv_eqi (y := pb_mask (k % 8)) (rfl) ?_
      refine lv_ixor hx hb d_X_turn_37 ?_
      refine lv_i2b hx hb d_X_turn_38 rfl ?_
      refine b_st ⟨hx, hb⟩ hN hw hS (k := k / 8) (upb S.2.2 k (!S.2.2 k)) (by omega) (by rw [pk_vb]; exact by_flip _ _) (fun j _ hj => by_off _ _ _ _ hj) d_X_turn_39 (fun H locs hw hS => ?_)
      refine lv_aload_n hx hb d_X_turn_40 rfl (lv_at hl 0 rfl) ?_
      refine g_X_out C hw d_X_turn_41 ?_
      refine lv_iload_n hx hb d_X_turn_44 rfl (lv_at hl 1 rfl) ?_
      refine lv_iconst (v := 3) hx hb d_X_turn_45 (by decide) ?_
      refine lv_ishr hx hb d_X_turn_46 ?_
      refine lv_eqi (y := nI (k / 8)) (i_shr3 (by omega)) ?_
      refine b_ld ⟨hx, hb⟩ hw (k := k / 8) (by omega) d_X_turn_47 ?_
      refine lv_bipush (v := 7) hx hb d_X_turn_48 (by decide) ?_
      refine lv_iload_n hx hb d_X_turn_50 rfl (lv_at hl 1 rfl) ?_
      refine lv_bipush (v := 7) hx hb d_X_turn_51 (by decide) ?_
      refine lv_iand hx hb d_X_turn_53 ?_
      refine lv_eqi (y := nI (k % 8)) (i_and7 (by omega)) ?_
      refine lv_isub hx hb d_X_turn_54 ?_
      refine lv_ishr hx hb d_X_turn_55 ?_
      refine lv_iconst (v := 1) hx hb d_X_turn_56 (by decide) ?_
      refine lv_iand hx hb d_X_turn_57 ?_
      refine lv_eqi (y := bI (!S.2.2 k)) (by rw [by_get]; exact congrArg bI (upb_same _ _ _)) ?_
      refine lv_iconst (v := 1) hx hb d_X_turn_58 (by decide) ?_
      refine lv_icmp_ne (tgt := 66) hx hb d_X_turn_59 (by decide) (fun h4 => ?_) (fun h4 => ?_)
      · have h5 : (!S.2.2 k) = false := by
          cases hc : (!S.2.2 k)
          · rfl
          · rw [hc] at h4; exact absurd rfl h4
        refine lv_iconst (v := 0) hx hb d_X_turn_66 (by decide) ?_
        exact e_z (v := false) ⟨hx, hb⟩ hr hlocks hw hS (by rw [o_turn_k hk (by omega), h5]; rfl) (by decide) (by decide) d_X_turn_67
      · have h5 : (!S.2.2 k) = true := by
          cases hc : (!S.2.2 k)
          · rw [hc] at h4; exact absurd h4 (by decide)
          · rfl
        refine lv_iconst (v := 1) hx hb d_X_turn_62 (by decide) ?_
        refine lv_goto (tgt := 67) hx hb d_X_turn_63 (by decide) ?_
        exact e_z (v := true) ⟨hx, hb⟩ hr hlocks hw hS (by rw [o_turn_k hk (by omega), h5]; rfl) (by decide) (by decide) d_X_turn_67
abbrev rm_X_cut : Room := { frames := 7, cells := 1, slots := 6, locals := 110 }
set_option maxHeartbeats 4000000 in
set_option maxRecDepth 100000 in
theorem c_X_cut (l : Launch) (hfl : l.stackTraces = false) (w : Wc) (S : St) (T : Mt) (ov : Int64) (n : Int32) (hok : pb_ok S) : pb_C l w y_X_cut rm_X_cut [.ref (w_x w), .int n] S T ov (xI cs_one T ov (o_cut n S)) := by
  refine pb_enter (cc := prog_1_method_23_code) (maxL := 3) (ret := some .int) (own := "PackedBits") (by decide) pb_k249 rfl (Nat.le_of_ble_eq_true rfl) ?_
  intro p e s m below meth c ls C hr hlocks hno hN hw hS hl
  have hx := C.1
  have hb := C.2.1
  have hown := C.2.2.2.1
  have hts := C.2.2.2.2
  have hl : lv_has ls 3 [(0, .ref (w_x w)), (1, .int n)] := hl
  have hok1 := hok.1
  have hok2 := hok.2
  refine lv_iload_n hx hb d_X_cut_0 rfl (lv_at hl 1 rfl) ?_
  refine lv_if_lt (tgt := 16) hx hb d_X_cut_1 (by decide) (fun h1 => ?_) (fun h1 => ?_)
  · refine lv_iconst (v := 0) hx hb d_X_cut_16 (by decide) ?_
    refine pb_thr (pb_S (rest := []) C f_X_30 ⟨by decide, by decide, by decide, by decide⟩ (c_X_in l hfl w S T ov 0) hw hl.1 rfl rfl (Nat.le_of_ble_eq_true rfl) d_X_cut_17) hS (if_pos rfl) (fun xa H locs hw hS hex => ?_)
    exact e_t hlocks (by rw [hno]; intro x h; cases h) hw hS hex (by rw [show o_cut n S = (1, 0, S) from if_pos (Or.inl h1)]; rfl) (by decide) (by decide)
  · refine lv_iload_n hx hb d_X_cut_4 rfl (lv_at hl 1 rfl) ?_
    refine lv_aload_n hx hb d_X_cut_5 rfl (lv_at hl 0 rfl) ?_
    refine g_X_end C hw d_X_cut_6 ?_
    refine lv_icmp_gt (tgt := 16) hx hb d_X_cut_9 (by decide) (fun h2 => ?_) (fun h2 => ?_)
    · refine lv_iconst (v := 0) hx hb d_X_cut_16 (by decide) ?_
      refine pb_thr (pb_S (rest := []) C f_X_30 ⟨by decide, by decide, by decide, by decide⟩ (c_X_in l hfl w S T ov 0) hw hl.1 rfl rfl (Nat.le_of_ble_eq_true rfl) d_X_cut_17) hS (if_pos rfl) (fun xa H locs hw hS hex => ?_)
      exact e_t hlocks (by rw [hno]; intro x h; cases h) hw hS hex (by rw [show o_cut n S = (1, 0, S) from if_pos (Or.inr h2)]; rfl) (by decide) (by decide)
    · obtain ⟨k, hk, rfl⟩ : ∃ k : Nat, k ≤ S.2.1 ∧ n = nI k := by
        obtain ⟨k, hk, rfl⟩ := nI_of h1
        exact ⟨k, Nat.le_of_not_lt (fun z => h2 ((nI_ltI (by omega) hk).mpr z)), rfl⟩
      refine lv_iconst (v := 1) hx hb d_X_cut_12 (by decide) ?_
      refine lv_goto (tgt := 17) hx hb d_X_cut_13 (by decide) ?_
      refine pb_retV (pb_S (rest := []) C f_X_30 ⟨by decide, by decide, by decide, by decide⟩ (c_X_in l hfl w S T ov 1) hw hl.1 rfl rfl (Nat.le_of_ble_eq_true rfl) d_X_cut_17) hS (if_neg (by decide)) (fun H locs hw hS => ?_)
      refine lv_aload_n hx hb d_X_cut_20 rfl (lv_at hl 0 rfl) ?_
      refine g_X_end C hw d_X_cut_21 ?_
      refine lv_istore_n (lv' := [(2, .int (nI S.2.1)), (0, .ref (w_x w)), (1, .int (nI k))]) hx hb d_X_cut_24 rfl hl (by decide) rfl (fun ls hl => ?_)
      refine lv_aload_n hx hb d_X_cut_25 rfl (lv_at hl 1 rfl) ?_
      refine lv_iload_n hx hb d_X_cut_26 rfl (lv_at hl 2 rfl) ?_
      refine p_X_end C hN hw hS (k) d_X_cut_27 (fun H locs hw hS => ?_)
      refine lv_aload_n hx hb d_X_cut_30 rfl (lv_at hl 1 rfl) ?_
      refine g_X_at C hw d_X_cut_31 ?_
      refine lv_iload_n hx hb d_X_cut_34 rfl (lv_at hl 2 rfl) ?_
      refine lv_icmp_le (tgt := 43) hx hb d_X_cut_35 (by decide) (fun h3 => ?_) (fun h3 => ?_)
      · have h4 : min S.1 k = S.1 := Nat.min_eq_left ((nI_leI (by omega) (by omega)).mp h3)
        refine lv_iload_n hx hb d_X_cut_43 rfl (lv_at hl 0 rfl) ?_
        exact e_i ⟨hx, hb⟩ hr hlocks hw hS (by rw [o_cut_k hk (by omega), h4]; rfl) (by decide) (by decide) d_X_cut_44
      · have h4 : min S.1 k = k := Nat.min_eq_right (Nat.le_of_lt (Nat.lt_of_not_le (fun u => h3 ((nI_leI (by omega) (by omega)).mpr u))))
        refine lv_aload_n hx hb d_X_cut_38 rfl (lv_at hl 1 rfl) ?_
        refine lv_iload_n hx hb d_X_cut_39 rfl (lv_at hl 2 rfl) ?_
        refine p_X_at C hN hw hS (k) d_X_cut_40 (fun H locs hw hS => ?_)
        refine lv_iload_n hx hb d_X_cut_43 rfl (lv_at hl 0 rfl) ?_
        exact e_i ⟨hx, hb⟩ hr hlocks hw hS (by rw [o_cut_k hk (by omega), h4]; rfl) (by decide) (by decide) d_X_cut_44
abbrev rm_X_count : Room := { frames := 7, cells := 1, slots := 6, locals := 110 }
set_option maxHeartbeats 4000000 in
set_option maxRecDepth 100000 in
theorem c_X_count (l : Launch) (hfl : l.stackTraces = false) (w : Wc) (S : St) (T : Mt) (ov : Int64) (n : Int32) : pb_C l w y_X_count rm_X_count [.ref (w_x w), .int n] S T ov (xI cs_one T ov (o_count n S)) := by
  refine pb_enter (cc := prog_1_method_24_code) (maxL := 2) (ret := some .int) (own := "PackedBits") (by decide) pb_k256 rfl (Nat.le_of_ble_eq_true rfl) ?_
  intro p e s m below meth c ls C hr hlocks hno hN hw hS hl
  have hx := C.1
  have hb := C.2.1
  have hown := C.2.2.2.1
  have hts := C.2.2.2.2
  have hl : lv_has ls 2 [(0, .ref (w_x w)), (1, .int n)] := hl
  have J14 : (n = 0 ∨ n = 1) → W p l e rm_X_count s m ([.ref (w_x w), .int n] : List Value).toArray below meth c s.heap [] (0) (0) (pb_MQA below (pb_Q w (xI cs_one T ov (o_count n S))) ([.ref (w_x w), .int n] : List Value).toArray s rm_X_count.cells rm_X_count.slots (w_A w)) (F0 m 14 ls [.int 1]) := by
    intro hn
    refine pb_retV (pb_S (rest := []) C f_X_30 ⟨by decide, by decide, by decide, by decide⟩ (c_X_in l hfl w S T ov 1) hw hl.1 rfl rfl (Nat.le_of_ble_eq_true rfl) d_X_count_14) hS (if_neg (by decide)) (fun H locs hw hS => ?_)
    refine lv_iload_n hx hb d_X_count_17 rfl (lv_at hl 1 rfl) ?_
    refine lv_if_ne (tgt := 28) hx hb d_X_count_18 (by decide) (fun h1 => ?_) (fun h1 => ?_)
    · have h2 : n = 1 := hn.resolve_left h1
      refine lv_aload_n hx hb d_X_count_28 rfl (lv_at hl 0 rfl) ?_
      refine g_X_at C hw d_X_count_29 ?_
      exact e_i ⟨hx, hb⟩ hr hlocks hw hS (by rw [show o_count n S = (0, nI S.1, S) by unfold o_count; rw [if_neg h1, if_pos h2]]; rfl) (by decide) (by decide) d_X_count_32
    · refine lv_aload_n hx hb d_X_count_21 rfl (lv_at hl 0 rfl) ?_
      refine g_X_end C hw d_X_count_22 ?_
      refine lv_goto (tgt := 32) hx hb d_X_count_25 (by decide) ?_
      exact e_i ⟨hx, hb⟩ hr hlocks hw hS (by rw [show o_count n S = (0, nI S.2.1, S) from if_pos h1]; rfl) (by decide) (by decide) d_X_count_32
  refine lv_iload_n hx hb d_X_count_0 rfl (lv_at hl 1 rfl) ?_
  refine lv_if_eq (tgt := 9) hx hb d_X_count_1 (by decide) (fun h1 => ?_) (fun h1 => ?_)
  · refine lv_iconst (v := 1) hx hb d_X_count_9 (by decide) ?_
    refine lv_goto (tgt := 14) hx hb d_X_count_10 (by decide) ?_
    exact J14 (Or.inl h1)
  · refine lv_iload_n hx hb d_X_count_4 rfl (lv_at hl 1 rfl) ?_
    refine lv_iconst (v := 1) hx hb d_X_count_5 (by decide) ?_
    refine lv_icmp_ne (tgt := 13) hx hb d_X_count_6 (by decide) (fun h2 => ?_) (fun h2 => ?_)
    · refine lv_iconst (v := 0) hx hb d_X_count_13 (by decide) ?_
      refine pb_thr (pb_S (rest := []) C f_X_30 ⟨by decide, by decide, by decide, by decide⟩ (c_X_in l hfl w S T ov 0) hw hl.1 rfl rfl (Nat.le_of_ble_eq_true rfl) d_X_count_14) hS (if_pos rfl) (fun xa H locs hw hS hex => ?_)
      exact e_t hlocks (by rw [hno]; intro x h; cases h) hw hS hex (by rw [show o_count n S = (1, 0, S) by unfold o_count; rw [if_neg h1, if_neg h2]]; rfl) (by decide) (by decide)
    · refine lv_iconst (v := 1) hx hb d_X_count_9 (by decide) ?_
      refine lv_goto (tgt := 14) hx hb d_X_count_10 (by decide) ?_
      exact J14 (Or.inr h2)
end
section
/-! part 15: what the model computes -/
def mI (S : St) (T : Mt) (ov : Int64) (q : Nat × Int32 × St) : Rs := (.inl (some (.int q.2.1)), S, (nI q.1, q.2.2, T.2.2), ov)
def mZ (S : St) (T : Mt) (ov : Int64) (q : Nat × Bool × St) : Rs := (.inl (some (.int (bI q.2.1))), S, (nI q.1, q.2.2, T.2.2), ov)
def m_write (x : Int64) (n : Nat) (code : Int32) (T : Mt) : Int32 × Mt := if 65536 < T.2.1.2.1 + n then (0, (code, T.2)) else (nI (T.2.1.2.1 + n), (T.1, pw x n T.2.1, T.2.2))
theorem m_write_no {x : Int64} {n : Nat} {code : Int32} {T : Mt} (h : 65536 < T.2.1.2.1 + n) : m_write x n code T = (0, (code, T.2)) := if_pos h
theorem m_write_ok {x : Int64} {n : Nat} {code : Int32} {T : Mt} (h : ¬ 65536 < T.2.1.2.1 + n) : m_write x n code T = (nI (T.2.1.2.1 + n), (T.1, pw x n T.2.1, T.2.2)) := if_neg h
/-- write, as the commands have it -/
theorem m_write_w {x : Int64} {n : Nat} {T : Mt} : m_write x n 2 (0, T.2) = ((o_w x n T.2.1).2.1, (nI (o_w x n T.2.1).1, (o_w x n T.2.1).2.2, T.2.2)) := by
  by_cases h : 65536 < T.2.1.2.1 + n
  · rw [m_write_no (T := (0, T.2)) h, o_w_no h]; rfl
  · rw [m_write_ok (T := (0, T.2)) h, o_w_ok h]; rfl
def m_get (n : Nat) (T : Mt) : Int64 × Mt := if T.2.2.2 = true ∧ T.2.2.1 + n ≤ T.2.1.2.1 then (rdv T.2.1.2.2 T.2.2.1 n, (T.1, T.2.1, T.2.2.1 + n, true)) else (0, (T.1, T.2.1, T.2.2.1, false))
theorem m_get_ok {n : Nat} {T : Mt} (h : T.2.2.2 = true ∧ T.2.2.1 + n ≤ T.2.1.2.1) : m_get n T = (rdv T.2.1.2.2 T.2.2.1 n, (T.1, T.2.1, T.2.2.1 + n, true)) := if_pos h
theorem m_get_no {n : Nat} {T : Mt} (h : ¬ (T.2.2.2 = true ∧ T.2.2.1 + n ≤ T.2.1.2.1)) : m_get n T = (0, (T.1, T.2.1, T.2.2.1, false)) := if_neg h
def m_bad (T : Mt) : Mt := (T.1, T.2.1, T.2.2.1, false)
def m_beg (T : Mt) : Mt := (0, T.2.1, T.2.1.1, true)
def m_done (v : Int64) (code : Int32) (T : Mt) : Int64 × Mt := if T.2.2.2 = true then (v, (T.1, (T.2.2.1, T.2.1.2), T.2.2)) else (0, (code, T.2))
def m_in (T : Mt) : Prop := T.2.1.2.1 ≤ 65536 ∧ T.2.2.1 ≤ 65536
theorem m_get_in {n : Nat} {T : Mt} (h : m_in T) : m_in (m_get n T).2 := by
  by_cases hc : T.2.2.2 = true ∧ T.2.2.1 + n ≤ T.2.1.2.1
  · rw [m_get_ok hc]
    exact ⟨h.1, Nat.le_trans hc.2 h.1⟩
  · rw [m_get_no hc]
    exact h
theorem m_bad_in {T : Mt} (h : m_in T) : m_in (m_bad T) := h
theorem m_beg_in {T : Mt} (h : pb_ok T.2.1) : m_in (m_beg T) := ⟨h.2, Nat.le_trans h.1 h.2⟩
def m_take (n : Int32) (T : Mt) : Int64 × Mt := if n < 0 ∨ 64 < n then (0, (1, (m_beg T).2)) else m_done (m_get n.toNatClampNeg (m_beg T)).1 2 (m_get n.toNatClampNeg (m_beg T)).2
def m_big (v m : Int64) : Prop := (v < 0 ∧ (0 ≤ m ∨ m < v)) ∨ (0 ≤ v ∧ 0 ≤ m ∧ m < v)
def m_tr (m v : Int64) (T : Mt) : Mt := if (v < 0 ∧ (0 ≤ m ∨ m < v)) ∨ (0 ≤ v ∧ 0 ≤ m ∧ m < v) then m_bad T else T
def m_takeRange (lo hi : Int64) (T : Mt) : Int64 × Mt := if hi < lo then (0, (1, (m_beg T).2)) else
  m_done (lo + (m_get (wid (hi - lo)) (m_beg T)).1) 2 (m_tr (hi - lo) (m_get (wid (hi - lo)) (m_beg T)).1 (m_get (wid (hi - lo)) (m_beg T)).2)
def m_len3 (T : Mt) : Int32 × Mt := ((m_get 14 T).1.toInt32, if (m_get 14 T).1.toInt32 < 128 then m_bad (m_get 14 T).2 else (m_get 14 T).2)
def m_len4 (T : Mt) : Int32 × Mt := (16384 * (m_get 6 T).1.toInt32, if (m_get 6 T).1.toInt32 < 1 ∨ 4 < (m_get 6 T).1.toInt32 then m_bad (m_get 6 T).2 else (m_get 6 T).2)
def m_len2 (T : Mt) : Int32 × Mt := if (m_get 1 T).1 = 0 then m_len3 (m_get 1 T).2 else m_len4 (m_get 1 T).2
def m_len1 (T : Mt) : Int32 × Mt := ((m_get 7 T).1.toInt32, (m_get 7 T).2)
def m_len (T : Mt) : Int32 × Mt := if (m_get 1 T).1 = 0 then m_len1 (m_get 1 T).2 else m_len2 (m_get 1 T).2
theorem m_len_in {T : Mt} (h : m_in T) : m_in (m_len T).2 := by
  have h1 : m_in (m_get 1 T).2 := m_get_in h
  have h2 : m_in (m_get 1 (m_get 1 T).2).2 := m_get_in h1
  unfold m_len m_len1 m_len2 m_len3 m_len4
  split
  · exact m_get_in h1
  · split
    · show m_in (if _ then _ else _)
      split
      · exact m_bad_in (m_get_in h2)
      · exact m_get_in h2
    · show m_in (if _ then _ else _)
      split
      · exact m_bad_in (m_get_in h2)
      · exact m_get_in h2
def m_takeLength (T : Mt) : Int32 × Mt := ((m_done (m_len (m_beg T)).1.toInt64 1 (m_len (m_beg T)).2).1.toInt32, (m_done (m_len (m_beg T)).1.toInt64 1 (m_len (m_beg T)).2).2)
def m_by (kind : Int32) (v : Int64) : Nat := if kind = 1 then byS v else byM v
def m_n3 (kind : Int32) (k : Nat) (v : Int64) (T : Mt) : Mt := if ¬ k = m_by kind v ∨ (kind = 2 ∧ 0 ≤ v ∧ v < 64) then m_bad T else T
def m_num3 (kind : Int32) (k : Nat) (T : Mt) : Int64 × Mt := m_done (o_fix kind k (m_get (8 * k) T).1) 2 (m_n3 kind k (o_fix kind k (m_get (8 * k) T).1) (m_get (8 * k) T).2)
def m_n2 (v : Int32) (T : Mt) : Mt := if v < 1 ∨ 8 < v then m_bad T else T
def m_num2 (kind : Int32) (T : Mt) : Int64 × Mt := if (m_n2 (m_len T).1 (m_len T).2).2.2.2 = true then m_num3 kind (m_len T).1.toNatClampNeg (m_n2 (m_len T).1 (m_len T).2) else (0, (2, (m_n2 (m_len T).1 (m_len T).2).2))
def m_num1 (T : Mt) : Int64 × Mt := m_done (m_get 6 T).1 2 (m_get 6 T).2
def m_takeNumber (kind : Int32) (T : Mt) : Int64 × Mt := if kind < 0 ∨ 2 < kind then (0, (1, (m_beg T).2)) else
  if kind = 2 then (if (m_get 1 (m_beg T)).1 = 0 then m_num1 (m_get 1 (m_beg T)).2 else m_num2 kind (m_get 1 (m_beg T)).2) else m_num2 kind (m_beg T)
theorem m_done_ok {v : Int64} {code : Int32} {T : Mt} (h : T.2.2.2 = true) : m_done v code T = (v, (T.1, (T.2.2.1, T.2.1.2), T.2.2)) := if_pos h
theorem m_done_no {v : Int64} {code : Int32} {T : Mt} (h : T.2.2.2 = false) : m_done v code T = (0, (code, T.2)) := if_neg (by rw [h]; decide)
theorem byM_in (x : Int64) : 1 ≤ byM x ∧ byM x ≤ 8 := by
  have h := wid_le x
  unfold byM
  split <;> omega
theorem m_by_in (kind : Int32) (x : Int64) : 1 ≤ m_by kind x ∧ m_by kind x ≤ 8 := by
  unfold m_by
  split
  · exact byS_in x
  · exact byM_in x
-- the model's number of bytes is the class's: both are the least k with x >>> 8 k = 0
theorem l_us_0 (x : Int64) {n : Nat} (hn : n < 64) : l_us x n = 0 ↔ x.toBitVec.toNat / 2 ^ n = 0 := by
  have e : (l_us x n).toBitVec.toNat = x.toBitVec.toNat / 2 ^ n := by
    show ((x.toUInt64 >>> ((nI n).toInt64.toUInt64 &&& Int64.toUInt64 63))).toBitVec.toNat = _
    rw [UInt64.toBitVec_shiftRight]
    show (x.toBitVec >>> (((nI n).toInt64.toUInt64 &&& Int64.toUInt64 63).toBitVec % 64)).toNat = _
    rw [BitVec.ushiftRight_eq', BitVec.toNat_ushiftRight, BitVec.toNat_umod]
    rw [show ((nI n).toInt64.toUInt64 &&& Int64.toUInt64 63).toBitVec.toNat % BitVec.toNat (64 : BitVec 64) = n from u_amt n hn, Nat.shiftRight_eq_div_pow]
  constructor
  · intro h
    rw [← e, h]
    rfl
  · intro h
    apply Int64.toBitVec_inj.mp
    apply BitVec.eq_of_toNat_eq
    rw [e, h]
    rfl
theorem l_us_pos (x : Int64) {n : Nat} (h0 : 0 < n) (hn : n < 64) : 0 < l_us x n ↔ ¬ l_us x n = 0 := by
  have e : (l_us x n).toBitVec.toNat = x.toBitVec.toNat / 2 ^ n := by
    show ((x.toUInt64 >>> ((nI n).toInt64.toUInt64 &&& Int64.toUInt64 63))).toBitVec.toNat = _
    rw [UInt64.toBitVec_shiftRight]
    show (x.toBitVec >>> (((nI n).toInt64.toUInt64 &&& Int64.toUInt64 63).toBitVec % 64)).toNat = _
    rw [BitVec.ushiftRight_eq', BitVec.toNat_ushiftRight, BitVec.toNat_umod]
    rw [show ((nI n).toInt64.toUInt64 &&& Int64.toUInt64 63).toBitVec.toNat % BitVec.toNat (64 : BitVec 64) = n from u_amt n hn, Nat.shiftRight_eq_div_pow]
  have hlt : x.toBitVec.toNat / 2 ^ n < 2 ^ 63 := by
    have h1 : x.toBitVec.toNat < 2 ^ 64 := x.toBitVec.isLt
    have h2 : 2 ^ 1 ≤ 2 ^ n := Nat.pow_le_pow_right (by decide) h0
    rw [Nat.div_lt_iff_lt_mul (Nat.two_pow_pos n)]
    omega
  have ht : (l_us x n).toInt = ((x.toBitVec.toNat / 2 ^ n : Nat) : Int) := by
    show (l_us x n).toBitVec.toInt = _
    rw [BitVec.toInt_eq_toNat_cond, e, if_pos (by omega)]
  rw [Int64.lt_iff_toInt_lt, ← Int64.toInt_inj, ht]
  show (0 : Int) < _ ↔ ¬ _ = (0 : Int)
  omega
theorem wgo_spec (x : Int64) : ∀ f n, n + f = 64 → (∀ j, j < n → ¬ l_us x j = 0) → (∀ j, j < wgo x f n → ¬ l_us x j = 0) ∧ (wgo x f n < 64 → l_us x (wgo x f n) = 0)
  | 0, n, hn, h => ⟨h, fun z => absurd z (by show ¬ n < 64; omega)⟩
  | f + 1, n, hn, h => by
    unfold wgo
    split
    · rename_i hc
      exact wgo_spec x f (n + 1) (by omega) (fun j hj => by
        rcases Nat.lt_succ_iff_lt_or_eq.mp hj with h1 | h1
        · exact h j h1
        · rw [h1]; exact hc.2)
    · rename_i hc
      refine ⟨h, fun hn64 => ?_⟩
      apply Decidable.byContradiction
      intro h2
      exact hc ⟨hn64, h2⟩
theorem bgo_spec (x : Int64) : ∀ f n, n + f = 8 → 1 ≤ n → (∀ j, 1 ≤ j → j < n → 0 < l_us x (8 * j)) → (∀ j, 1 ≤ j → j < bgo x f n → 0 < l_us x (8 * j)) ∧ (bgo x f n < 8 → ¬ 0 < l_us x (8 * bgo x f n))
  | 0, n, hn, h1, h => ⟨h, fun z => absurd z (by show ¬ n < 8; omega)⟩
  | f + 1, n, hn, h1, h => by
    unfold bgo
    split
    · rename_i hc
      exact bgo_spec x f (n + 1) (by omega) (by omega) (fun j hj hj2 => by
        rcases Nat.lt_succ_iff_lt_or_eq.mp hj2 with h3 | h3
        · exact h j hj h3
        · rw [h3]; exact hc.2)
    · rename_i hc
      exact ⟨h, fun hn8 h2 => hc ⟨hn8, h2⟩⟩
theorem byM_byU (x : Int64) : byM x = byU x := by
  obtain ⟨w1, w2⟩ := wgo_spec x 64 0 (by decide) (fun j hj => absurd hj (by omega))
  obtain ⟨b1, b2⟩ := bgo_spec x 7 1 (by decide) (by decide) (fun j h1 h2 => absurd h1 (by omega))
  have hw := wid_le x
  obtain ⟨u1, u2⟩ := byU_in x
  have w1' : ∀ j, j < wid x → ¬ l_us x j = 0 := w1
  have w2' : wid x < 64 → l_us x (wid x) = 0 := w2
  have b1' : ∀ j, 1 ≤ j → j < byU x → 0 < l_us x (8 * j) := b1
  have b2' : byU x < 8 → ¬ 0 < l_us x (8 * byU x) := b2
  -- zero from the width on
  have mono : ∀ j, wid x ≤ j → j < 64 → l_us x j = 0 := by
    intro j h1 h2
    have h3 := (l_us_0 x (by omega)).mp (w2' (by omega))
    apply (l_us_0 x h2).mpr
    rw [Nat.div_eq_zero_iff_lt (Nat.two_pow_pos _)] at h3 ⊢
    exact Nat.lt_of_lt_of_le h3 (Nat.pow_le_pow_right (by decide) h1)
  have hlo : ∀ j, 1 ≤ j → j < byU x → 8 * j < wid x := by
    intro j h1 h2
    apply Nat.lt_of_not_le
    intro h3
    exact ((l_us_pos x (by omega) (by omega)).mp (b1' j h1 h2)) (mono _ h3 (by omega))
  have hhi : byU x < 8 → wid x ≤ 8 * byU x := by
    intro h1
    apply Nat.le_of_not_lt
    intro h3
    exact b2' h1 ((l_us_pos x (by omega) (by omega)).mpr (w1' _ h3))
  have hlo' : byU x = 1 ∨ 8 * (byU x - 1) < wid x := by
    by_cases h : byU x = 1
    · exact Or.inl h
    · exact Or.inr (hlo (byU x - 1) (by omega) (by omega))
  unfold byM
  by_cases h8 : byU x < 8
  · have h9 := hhi h8
    split
    · omega
    · omega
  · split
    · omega
    · omega
theorem m_by_o (kind : Int32) (x : Int64) : m_by kind x = o_by kind x := by
  unfold m_by o_by
  rw [byM_byU]
theorem o_lenw_c (n : Int32) (S : St) : (o_lenw n S).1 = 0 ∨ (o_lenw n S).1 = 2 := by
  have key : ∀ (x : Int64) (k : Nat), (o_w x k S).1 = 0 ∨ (o_w x k S).1 = 2 := fun x k => by
    unfold o_w
    split
    · exact Or.inr rfl
    · exact Or.inl rfl
  unfold o_lenw
  split
  · exact key _ _
  · split
    · exact key _ _
    · exact key _ _
theorem o_putLength_a {n : Int32} {S : St} (h : ¬ n < 0) : o_putLength n S = ((o_lenw n S).1, if (o_lenw n S).1 = 0 then (if n < 16384 then n else o_kk n * 16384) else 0, (o_lenw n S).2.2) := if_neg h
theorem i_or64 (a b : Int32) : a.toInt64 ||| b.toInt64 = (a ||| b).toInt64 := by
  apply i64_ext
  intro i hi
  show (a.toBitVec.signExtend 64 ||| b.toBitVec.signExtend 64).getLsbD i = ((a ||| b).toBitVec.signExtend 64).getLsbD i
  rw [Int32.toBitVec_or, BitVec.getLsbD_or, BitVec.getLsbD_signExtend, BitVec.getLsbD_signExtend, BitVec.getLsbD_signExtend, BitVec.getLsbD_or, BitVec.msb_or]
  by_cases h : i < 32
  · simp [h, hi]
  · simp [h, hi]
theorem i_min {a b : Nat} (ha : a < 2 ^ 31) (hb : b < 2 ^ 31) : (if nI b < nI a then nI b else nI a) = nI (min a b) := by
  by_cases h : b < a
  · rw [if_pos ((nI_ltI hb ha).mpr h), Nat.min_eq_right (Nat.le_of_lt h)]
  · rw [if_neg (fun z => h ((nI_ltI hb ha).mp z)), Nat.min_eq_left (Nat.le_of_not_lt h)]
theorem i_18 {v : Int32} (h : ¬ (v < 1 ∨ 8 < v)) : ∃ k : Nat, (1 ≤ k ∧ k ≤ 8) ∧ v = nI k := by
  have h1 : ¬ v < 1 := fun z => h (Or.inl z)
  have h2 : ¬ 8 < v := fun z => h (Or.inr z)
  have g1 : ¬ v < 0 := fun z => h1 (Int32.lt_trans z (by decide))
  obtain ⟨k, hk, rfl⟩ := nI_of2 (x := v) (M := 8) (n := 8) rfl g1 (Int32.not_lt.mp h2)
  refine ⟨k, ⟨?_, hk⟩, rfl⟩
  have g3 : ¬ k < 1 := fun z => h1 ((nI_ltI (b := 1) (by omega) (by decide)).mpr z)
  omega
end
section
/-! part 16 (printed by gen/g16.py): M: thrown, fail, append, write, put .., fill, go, turn, cut, count -/
abbrev rm_M_thrown : Room := { frames := 0, cells := 0, slots := 0, locals := 0 }
set_option maxHeartbeats 4000000 in
set_option maxRecDepth 100000 in
theorem c_M_thrown (l : Launch) (w : Wc) (S : St) (T : Mt) (ov : Int64)  : pb_C l w y_M_thrown rm_M_thrown [.ref (w_m w)] S T ov (.inl (some (.int T.1)), S, T, ov) := by
  refine pb_enter (cc := prog_3_method_2_code) (maxL := 1) (ret := some .int) (own := "PackedBitsModel") (by decide) pb_k287 rfl (Nat.le_of_ble_eq_true rfl) ?_
  intro p e s m below meth c ls C hr hlocks hno hN hw hS hl
  have hx := C.1
  have hb := C.2.1
  have hown := C.2.2.2.1
  have hts := C.2.2.2.2
  have hl : lv_has ls 1 [(0, .ref (w_m w))] := hl
  refine lv_aload_n hx hb d_M_thrown_0 rfl (lv_at hl 0 rfl) ?_
  refine g_M_failed C hw d_M_thrown_1 ?_
  exact e_i ⟨hx, hb⟩ hr hlocks hw hS (rfl) (by decide) (by decide) d_M_thrown_4
abbrev rm_M_fail : Room := { frames := 0, cells := 0, slots := 0, locals := 0 }
set_option maxHeartbeats 4000000 in
set_option maxRecDepth 100000 in
theorem c_M_fail (l : Launch) (w : Wc) (S : St) (T : Mt) (ov : Int64) (n : Int32) : pb_C l w y_M_fail rm_M_fail [.ref (w_m w), .int n] S T ov (.inl (some (.int 0)), S, (n, T.2), ov) := by
  refine pb_enter (cc := prog_3_method_3_code) (maxL := 2) (ret := some .int) (own := "PackedBitsModel") (by decide) pb_k295 rfl (Nat.le_of_ble_eq_true rfl) ?_
  intro p e s m below meth c ls C hr hlocks hno hN hw hS hl
  have hx := C.1
  have hb := C.2.1
  have hown := C.2.2.2.1
  have hts := C.2.2.2.2
  have hl : lv_has ls 2 [(0, .ref (w_m w)), (1, .int n)] := hl
  refine lv_aload_n hx hb d_M_fail_0 rfl (lv_at hl 0 rfl) ?_
  refine lv_iload_n hx hb d_M_fail_1 rfl (lv_at hl 1 rfl) ?_
  refine p_M_failed C hN hw hS d_M_fail_2 (fun H locs hw hS => ?_)
  refine lv_iconst (v := 0) hx hb d_M_fail_5 (by decide) ?_
  exact e_i ⟨hx, hb⟩ hr hlocks hw hS (rfl) (by decide) (by decide) d_M_fail_6
abbrev rm_M_append : Room := { frames := 0, cells := 0, slots := 0, locals := 0 }
set_option maxHeartbeats 4000000 in
set_option maxRecDepth 100000 in
theorem c_M_append (l : Launch) (w : Wc) (S : St) (T : Mt) (ov : Int64) (x : Int64) (n : Nat) (hn : n ≤ 64) (he : T.2.1.2.1 + n ≤ 65536) : pb_C l w y_M_append rm_M_append [.ref (w_m w), .long x, .int (nI n)] S T ov (.inl none, S, (T.1, pw x n T.2.1, T.2.2), ov) := by
  refine pb_enter (cc := prog_3_method_7_code) (maxL := 5) (ret := none) (own := "PackedBitsModel") (by decide) pb_k303 rfl (Nat.le_of_ble_eq_true rfl) ?_
  intro p e s m below meth c ls C hr hlocks hno hN hw hS hl
  have hx := C.1
  have hb := C.2.1
  have hown := C.2.2.2.1
  have hts := C.2.2.2.2
  have hl : lv_has ls 5 [(0, .ref (w_m w)), (1, .long x), (3, .int (nI n))] := hl
  refine lv_iload_n hx hb d_M_append_0 rfl (lv_at hl 2 rfl) ?_
  refine lv_iconst (v := 1) hx hb d_M_append_1 (by decide) ?_
  refine lv_isub hx hb d_M_append_2 ?_
  refine lv_istore (lv' := [(4, .int ((nI n) - (1))), (0, .ref (w_m w)), (1, .long x), (3, .int (nI n))]) hx hb d_M_append_3 hl (by decide) rfl (fun ls hl => ?_)
  have loop : ∀ k, ∀ (Z : St) (H : Heap) (locs : List Loc) (ls : Array Slot), k ≤ 64 → Z.2.1 + k ≤ 65536 → pw x k Z = pw x n T.2.1 → pb_Wd w S (T.1, Z, T.2.2) ov s H → va_S (w_A w) s.heap H locs → lv_has ls 5 [(4, .int (nI k - 1)), (0, .ref (w_m w)), (1, .long x), (3, .int (nI n))] → W p l e rm_M_append s m ([.ref (w_m w), .long x, .int (nI n)] : List Value).toArray below meth c H locs (0) (0) (pb_MQA below (pb_Q w (.inl none, S, (T.1, pw x n T.2.1, T.2.2), ov)) ([.ref (w_m w), .long x, .int (nI n)] : List Value).toArray s rm_M_append.cells rm_M_append.slots (w_A w)) (F0 m 5 ls []) := by
    refine dn_loop (fun k ih => ?_)
    intro Z H locs ls hk hz hg hw hS hl
    refine lv_iload hx hb d_M_append_5 (lv_at hl 0 rfl) ?_
    refine lv_if_lt (tgt := 51) hx hb d_M_append_7 (by decide) (fun h1 => ?_) (fun h1 => ?_)
    · have hk0 : k = 0 := by
        cases k with
        | zero => rfl
        | succ j => rw [nI_pred] at h1; exact absurd h1 (nI_pos (by omega))
      subst hk0
      have hz2 : Z = pw x n T.2.1 := hg
      subst hz2
      exact e_v ⟨hx, hb⟩ hr hlocks hw hS (rfl) (by decide) (by decide) d_M_append_51
    · obtain ⟨j, rfl⟩ : ∃ j, k = j + 1 := by
        cases k with
        | zero => exact absurd (by decide : nI 0 - 1 < 0) h1
        | succ j => exact ⟨j, rfl⟩
      refine lv_aload_n hx hb d_M_append_10 rfl (lv_at hl 1 rfl) ?_
      refine g_M_row C hw d_M_append_11 ?_
      refine lv_aload_n hx hb d_M_append_14 rfl (lv_at hl 1 rfl) ?_
      refine g_M_size C hw d_M_append_15 ?_
      refine lv_lload_n hx hb d_M_append_18 rfl (lv_at hl 2 rfl) ?_
      refine lv_iload hx hb d_M_append_19 (lv_at hl 0 rfl) ?_
      refine lv_eqi (y := nI j) (nI_pred j) ?_
      refine lv_lushr hx hb d_M_append_21 rfl ?_
      refine lv_lconst (v := 1) hx hb d_M_append_22 (by decide) ?_
      refine lv_land hx hb d_M_append_23 ?_
      refine lv_lconst (v := 1) hx hb d_M_append_24 (by decide) ?_
      refine lc_ne (tgt := 33) ⟨hx, hb⟩ d_M_append_25 d_M_append_26 (by decide) (fun h2 => ?_) (fun h2 => ?_)
      · have hv : lb x j = false := Bool.eq_false_iff.mpr (fun z => h2 ((l_ubit x (by omega)).mpr z))
        refine lv_iconst (v := 0) hx hb d_M_append_33 (by decide) ?_
        refine z_st ⟨hx, hb⟩ hN hw hS false (k := Z.2.1) (by omega) d_M_append_34 (fun H locs hw hS => ?_)
        refine lv_aload_n hx hb d_M_append_35 rfl (lv_at hl 1 rfl) ?_
        refine lv_dup hx hb d_M_append_36 rfl ?_
        refine g_M_size C hw d_M_append_37 ?_
        refine lv_iconst (v := 1) hx hb d_M_append_40 (by decide) ?_
        refine lv_iadd hx hb d_M_append_41 ?_
        refine lv_eqi (y := nI (Z.2.1 + 1)) (nI_1 _) ?_
        refine p_M_size C hN hw hS (Z.2.1 + 1) d_M_append_42 (fun H locs hw hS => ?_)
        refine lv_iinc (k := 0) (v := nI j - 1) (lv' := [(4, .int (nI j - 1)), (0, .ref (w_m w)), (1, .long x), (3, .int (nI n))]) hx hb d_M_append_45 hl rfl (by rw [nI_pred]; exact (Int32.sub_eq_add_neg (nI j) 1).symm) (by decide) rfl (fun ls hl => ?_)
        refine lv_goto (tgt := 5) hx hb d_M_append_48 (by decide) ?_
        exact ih j rfl (pb1 false Z) H locs ls (by omega) (by show Z.2.1 + 1 + j ≤ 65536; omega) (by rw [← hg, pw_succ, hv]) hw hS hl
      · have hv : lb x j = true := (l_ubit x (by omega)).mp h2
        refine lv_iconst (v := 1) hx hb d_M_append_29 (by decide) ?_
        refine lv_goto (tgt := 34) hx hb d_M_append_30 (by decide) ?_
        refine z_st ⟨hx, hb⟩ hN hw hS true (k := Z.2.1) (by omega) d_M_append_34 (fun H locs hw hS => ?_)
        refine lv_aload_n hx hb d_M_append_35 rfl (lv_at hl 1 rfl) ?_
        refine lv_dup hx hb d_M_append_36 rfl ?_
        refine g_M_size C hw d_M_append_37 ?_
        refine lv_iconst (v := 1) hx hb d_M_append_40 (by decide) ?_
        refine lv_iadd hx hb d_M_append_41 ?_
        refine lv_eqi (y := nI (Z.2.1 + 1)) (nI_1 _) ?_
        refine p_M_size C hN hw hS (Z.2.1 + 1) d_M_append_42 (fun H locs hw hS => ?_)
        refine lv_iinc (k := 0) (v := nI j - 1) (lv' := [(4, .int (nI j - 1)), (0, .ref (w_m w)), (1, .long x), (3, .int (nI n))]) hx hb d_M_append_45 hl rfl (by rw [nI_pred]; exact (Int32.sub_eq_add_neg (nI j) 1).symm) (by decide) rfl (fun ls hl => ?_)
        refine lv_goto (tgt := 5) hx hb d_M_append_48 (by decide) ?_
        exact ih j rfl (pb1 true Z) H locs ls (by omega) (by show Z.2.1 + 1 + j ≤ 65536; omega) (by rw [← hg, pw_succ, hv]) hw hS hl
  exact loop n T.2.1 s.heap [] ls hn he rfl hw hS hl
abbrev rm_M_write : Room := { frames := 1, cells := 0, slots := 0, locals := 24 }
set_option maxHeartbeats 4000000 in
set_option maxRecDepth 100000 in
theorem c_M_write (l : Launch) (w : Wc) (S : St) (T : Mt) (ov : Int64) (x : Int64) (n : Nat) (code : Int32) (hn : n ≤ 64) (he : T.2.1.2.1 ≤ 65536) : pb_C l w y_M_write rm_M_write [.ref (w_m w), .long x, .int (nI n), .int code] S T ov (.inl (some (.int (m_write x n code T).1)), S, (m_write x n code T).2, ov) := by
  refine pb_enter (cc := prog_3_method_8_code) (maxL := 5) (ret := some .int) (own := "PackedBitsModel") (by decide) pb_k299 rfl (Nat.le_of_ble_eq_true rfl) ?_
  intro p e s m below meth c ls C hr hlocks hno hN hw hS hl
  have hx := C.1
  have hb := C.2.1
  have hown := C.2.2.2.1
  have hts := C.2.2.2.2
  have hl : lv_has ls 5 [(0, .ref (w_m w)), (1, .long x), (3, .int (nI n)), (4, .int code)] := hl
  refine lv_aload_n hx hb d_M_write_0 rfl (lv_at hl 0 rfl) ?_
  refine g_M_size C hw d_M_write_1 ?_
  refine lv_iload_n hx hb d_M_write_4 rfl (lv_at hl 2 rfl) ?_
  refine lv_iadd hx hb d_M_write_5 ?_
  refine lv_ldc hx hb hown (hts _ pb_k263) d_M_write_6 ?_
  refine lv_icmp_le (tgt := 18) hx hb d_M_write_8 (by decide) (fun h1 => ?_) (fun h1 => ?_)
  · have h2 : ¬ 65536 < T.2.1.2.1 + n := by
      rw [nI_add] at h1
      have h3 := (nI_leI (b := 65536) (by omega) (by decide)).mp h1
      omega
    refine lv_aload_n hx hb d_M_write_18 rfl (lv_at hl 0 rfl) ?_
    refine lv_lload_n hx hb d_M_write_19 rfl (lv_at hl 1 rfl) ?_
    refine lv_iload_n hx hb d_M_write_20 rfl (lv_at hl 2 rfl) ?_
    refine pb_retV (pb_V (rest := []) C f_M_31 ⟨by decide, by decide, by decide, by decide⟩ (c_M_append l w S T ov x n hn (by omega)) hw (pb_Wd_m hw) hl.1 rfl rfl (Nat.le_of_ble_eq_true rfl) d_M_write_21) hS (rfl) (fun H locs hw hS => ?_)
    refine lv_aload_n hx hb d_M_write_24 rfl (lv_at hl 0 rfl) ?_
    refine g_M_size C hw d_M_write_25 ?_
    exact e_i ⟨hx, hb⟩ hr hlocks hw hS (by rw [m_write_ok h2]; rfl) (by decide) (by decide) d_M_write_28
  · have h2 : 65536 < T.2.1.2.1 + n := by
      rw [nI_add] at h1
      exact Nat.lt_of_not_le (fun z => h1 ((nI_leI (b := 65536) (by omega) (by decide)).mpr z))
    refine lv_aload_n hx hb d_M_write_11 rfl (lv_at hl 0 rfl) ?_
    refine lv_iload hx hb d_M_write_12 (lv_at hl 3 rfl) ?_
    refine pb_retI (pb_V (rest := []) C f_M_27 ⟨by decide, by decide, by decide, by decide⟩ (c_M_fail l w S T ov code) hw (pb_Wd_m hw) hl.1 rfl rfl (Nat.le_of_ble_eq_true rfl) d_M_write_14) hS (rfl) (fun H locs hw hS => ?_)
    exact e_i ⟨hx, hb⟩ hr hlocks hw hS (by rw [m_write_no h2]) (by decide) (by decide) d_M_write_17
abbrev rm_M_put : Room := { frames := 2, cells := 0, slots := 0, locals := 48 }
set_option maxHeartbeats 4000000 in
set_option maxRecDepth 100000 in
theorem c_M_put (l : Launch) (w : Wc) (S : St) (T : Mt) (ov : Int64) (x : Int64) (n : Int32) (hok : pb_ok T.2.1) : pb_C l w y_M_put rm_M_put [.ref (w_m w), .long x, .int n] S T ov (mI S T ov (o_put x n T.2.1)) := by
  refine pb_enter (cc := prog_3_method_9_code) (maxL := 4) (ret := some .int) (own := "PackedBitsModel") (by decide) pb_k291 rfl (Nat.le_of_ble_eq_true rfl) ?_
  intro p e s m below meth c ls C hr hlocks hno hN hw hS hl
  have hx := C.1
  have hb := C.2.1
  have hown := C.2.2.2.1
  have hts := C.2.2.2.2
  have hl : lv_has ls 4 [(0, .ref (w_m w)), (1, .long x), (3, .int n)] := hl
  have hok2 := hok.2
  refine lv_aload_n hx hb d_M_put_0 rfl (lv_at hl 0 rfl) ?_
  refine lv_iconst (v := 0) hx hb d_M_put_1 (by decide) ?_
  refine p_M_failed C hN hw hS d_M_put_2 (fun H locs hw hS => ?_)
  refine lv_iload_n hx hb d_M_put_5 rfl (lv_at hl 2 rfl) ?_
  refine lv_if_lt (tgt := 15) hx hb d_M_put_6 (by decide) (fun h1 => ?_) (fun h1 => ?_)
  · refine lv_aload_n hx hb d_M_put_15 rfl (lv_at hl 0 rfl) ?_
    refine lv_iconst (v := 1) hx hb d_M_put_16 (by decide) ?_
    refine pb_retI (pb_V (rest := []) C f_M_27 ⟨by decide, by decide, by decide, by decide⟩ (c_M_fail l w S (0, T.2) ov 1) hw (pb_Wd_m hw) hl.1 rfl rfl (Nat.le_of_ble_eq_true rfl) d_M_put_17) hS (rfl) (fun H locs hw hS => ?_)
    refine lv_goto (tgt := 30) hx hb d_M_put_20 (by decide) ?_
    exact e_i ⟨hx, hb⟩ hr hlocks hw hS (by rw [show o_put x n T.2.1 = (1, 0, T.2.1) from if_pos (Or.inl h1)]; rfl) (by decide) (by decide) d_M_put_30
  · refine lv_iload_n hx hb d_M_put_9 rfl (lv_at hl 2 rfl) ?_
    refine lv_bipush (v := 64) hx hb d_M_put_10 (by decide) ?_
    refine lv_icmp_le (tgt := 23) hx hb d_M_put_12 (by decide) (fun h2 => ?_) (fun h2 => ?_)
    · obtain ⟨k, hk, rfl⟩ := nI_of2 (M := 64) (n := 64) rfl h1 h2
      refine lv_aload_n hx hb d_M_put_23 rfl (lv_at hl 0 rfl) ?_
      refine lv_lload_n hx hb d_M_put_24 rfl (lv_at hl 1 rfl) ?_
      refine lv_iload_n hx hb d_M_put_25 rfl (lv_at hl 2 rfl) ?_
      refine lv_iconst (v := 2) hx hb d_M_put_26 (by decide) ?_
      refine pb_retI (pb_V (rest := []) C f_M_35 ⟨by decide, by decide, by decide, by decide⟩ (c_M_write l w S (0, T.2) ov x k 2 hk hok2) hw (pb_Wd_m hw) hl.1 rfl rfl (Nat.le_of_ble_eq_true rfl) d_M_put_27) hS (by rw [m_write_w]) (fun H locs hw hS => ?_)
      exact e_i ⟨hx, hb⟩ hr hlocks hw hS (by rw [o_put_k hk]; rfl) (by decide) (by decide) d_M_put_30
    · refine lv_aload_n hx hb d_M_put_15 rfl (lv_at hl 0 rfl) ?_
      refine lv_iconst (v := 1) hx hb d_M_put_16 (by decide) ?_
      refine pb_retI (pb_V (rest := []) C f_M_27 ⟨by decide, by decide, by decide, by decide⟩ (c_M_fail l w S (0, T.2) ov 1) hw (pb_Wd_m hw) hl.1 rfl rfl (Nat.le_of_ble_eq_true rfl) d_M_put_17) hS (rfl) (fun H locs hw hS => ?_)
      refine lv_goto (tgt := 30) hx hb d_M_put_20 (by decide) ?_
      exact e_i ⟨hx, hb⟩ hr hlocks hw hS (by rw [show o_put x n T.2.1 = (1, 0, T.2.1) from if_pos (Or.inr (Int32.not_le.mp h2))]; rfl) (by decide) (by decide) d_M_put_30
abbrev rm_M_putRange : Room := { frames := 2, cells := 0, slots := 0, locals := 48 }
set_option maxHeartbeats 4000000 in
set_option maxRecDepth 100000 in
theorem c_M_putRange (l : Launch) (w : Wc) (S : St) (T : Mt) (ov : Int64) (lo hi n : Int64) (hok : pb_ok T.2.1) : pb_C l w y_M_putRange rm_M_putRange [.ref (w_m w), .long lo, .long hi, .long n] S T ov (mI S T ov (o_putRange lo hi n T.2.1)) := by
  refine pb_enter (cc := prog_3_method_10_code) (maxL := 7) (ret := some .int) (own := "PackedBitsModel") (by decide) pb_k307 rfl (Nat.le_of_ble_eq_true rfl) ?_
  intro p e s m below meth c ls C hr hlocks hno hN hw hS hl
  have hx := C.1
  have hb := C.2.1
  have hown := C.2.2.2.1
  have hts := C.2.2.2.2
  have hl : lv_has ls 7 [(0, .ref (w_m w)), (1, .long lo), (3, .long hi), (5, .long n)] := hl
  have hok2 := hok.2
  refine lv_aload_n hx hb d_M_putRange_0 rfl (lv_at hl 0 rfl) ?_
  refine lv_iconst (v := 0) hx hb d_M_putRange_1 (by decide) ?_
  refine p_M_failed C hN hw hS d_M_putRange_2 (fun H locs hw hS => ?_)
  refine lv_lload hx hb d_M_putRange_5 (lv_at hl 3 rfl) ?_
  refine lv_lload_n hx hb d_M_putRange_7 rfl (lv_at hl 1 rfl) ?_
  refine lc_lt (tgt := 19) ⟨hx, hb⟩ d_M_putRange_8 d_M_putRange_9 (by decide) (fun h1 => ?_) (fun h1 => ?_)
  · refine lv_aload_n hx hb d_M_putRange_19 rfl (lv_at hl 0 rfl) ?_
    refine lv_iconst (v := 1) hx hb d_M_putRange_20 (by decide) ?_
    refine pb_retI (pb_V (rest := []) C f_M_27 ⟨by decide, by decide, by decide, by decide⟩ (c_M_fail l w S (0, T.2) ov 1) hw (pb_Wd_m hw) hl.1 rfl rfl (Nat.le_of_ble_eq_true rfl) d_M_putRange_21) hS (rfl) (fun H locs hw hS => ?_)
    refine lv_goto (tgt := 43) hx hb d_M_putRange_24 (by decide) ?_
    exact e_i ⟨hx, hb⟩ hr hlocks hw hS (by rw [show o_putRange lo hi n T.2.1 = (1, 0, T.2.1) from if_pos (Or.inl h1)]; rfl) (by decide) (by decide) d_M_putRange_43
  · refine lv_lload hx hb d_M_putRange_12 (lv_at hl 3 rfl) ?_
    refine lv_lload_n hx hb d_M_putRange_14 rfl (lv_at hl 2 rfl) ?_
    refine lc_le (tgt := 27) ⟨hx, hb⟩ d_M_putRange_15 d_M_putRange_16 (by decide) (fun h2 => ?_) (fun h2 => ?_)
    · refine lv_aload_n hx hb d_M_putRange_27 rfl (lv_at hl 0 rfl) ?_
      refine lv_lload hx hb d_M_putRange_28 (lv_at hl 3 rfl) ?_
      refine lv_lload_n hx hb d_M_putRange_30 rfl (lv_at hl 1 rfl) ?_
      refine lv_lsub hx hb d_M_putRange_31 ?_
      refine lv_aload_n hx hb d_M_putRange_32 rfl (lv_at hl 0 rfl) ?_
      refine lv_lload_n hx hb d_M_putRange_33 rfl (lv_at hl 2 rfl) ?_
      refine lv_lload_n hx hb d_M_putRange_34 rfl (lv_at hl 1 rfl) ?_
      refine lv_lsub hx hb d_M_putRange_35 ?_
      refine pb_retI (pb_V (rest := [.long ((n) - (lo)), .ref (w_m w)]) C f_M_18 ⟨by decide, by decide, by decide, by decide⟩ (c_M_width l w S (0, T.2) ov (hi - lo)) hw (pb_Wd_m hw) hl.1 rfl rfl (Nat.le_of_ble_eq_true rfl) d_M_putRange_36) hS (rfl) (fun H locs hw hS => ?_)
      refine lv_iconst (v := 2) hx hb d_M_putRange_39 (by decide) ?_
      refine pb_retI (pb_V (rest := []) C f_M_35 ⟨by decide, by decide, by decide, by decide⟩ (c_M_write l w S (0, T.2) ov (n - lo) (wid (hi - lo)) 2 (wid_le _) hok2) hw (pb_Wd_m hw) hl.1 rfl rfl (Nat.le_of_ble_eq_true rfl) d_M_putRange_40) hS (by rw [m_write_w]) (fun H locs hw hS => ?_)
      exact e_i ⟨hx, hb⟩ hr hlocks hw hS (by rw [o_putRange_k h1 (Int64.not_lt.mpr h2)]; rfl) (by decide) (by decide) d_M_putRange_43
    · refine lv_aload_n hx hb d_M_putRange_19 rfl (lv_at hl 0 rfl) ?_
      refine lv_iconst (v := 1) hx hb d_M_putRange_20 (by decide) ?_
      refine pb_retI (pb_V (rest := []) C f_M_27 ⟨by decide, by decide, by decide, by decide⟩ (c_M_fail l w S (0, T.2) ov 1) hw (pb_Wd_m hw) hl.1 rfl rfl (Nat.le_of_ble_eq_true rfl) d_M_putRange_21) hS (rfl) (fun H locs hw hS => ?_)
      refine lv_goto (tgt := 43) hx hb d_M_putRange_24 (by decide) ?_
      exact e_i ⟨hx, hb⟩ hr hlocks hw hS (by rw [show o_putRange lo hi n T.2.1 = (1, 0, T.2.1) from if_pos (Or.inr (Int64.not_le.mp h2))]; rfl) (by decide) (by decide) d_M_putRange_43
abbrev rm_M_putLength : Room := { frames := 2, cells := 0, slots := 0, locals := 48 }
set_option maxHeartbeats 4000000 in
set_option maxRecDepth 100000 in
theorem c_M_putLength (l : Launch) (w : Wc) (S : St) (T : Mt) (ov : Int64) (n : Int32) (hok : pb_ok T.2.1) : pb_C l w y_M_putLength rm_M_putLength [.ref (w_m w), .int n] S T ov (mI S T ov (o_putLength n T.2.1)) := by
  refine pb_enter (cc := prog_3_method_11_code) (maxL := 4) (ret := some .int) (own := "PackedBitsModel") (by decide) pb_k315 rfl (Nat.le_of_ble_eq_true rfl) ?_
  intro p e s m below meth c ls C hr hlocks hno hN hw hS hl
  have hx := C.1
  have hb := C.2.1
  have hown := C.2.2.2.1
  have hts := C.2.2.2.2
  have hl : lv_has ls 4 [(0, .ref (w_m w)), (1, .int n)] := hl
  have hok2 := hok.2
  refine lv_aload_n hx hb d_M_putLength_0 rfl (lv_at hl 0 rfl) ?_
  refine lv_iconst (v := 0) hx hb d_M_putLength_1 (by decide) ?_
  refine p_M_failed C hN hw hS d_M_putLength_2 (fun H locs hw hS => ?_)
  refine lv_iload_n hx hb d_M_putLength_5 rfl (lv_at hl 1 rfl) ?_
  refine lv_if_ge (tgt := 15) hx hb d_M_putLength_6 (by decide) (fun h1 => ?_) (fun h1 => ?_)
  · refine lv_iconst (v := 4) hx hb d_M_putLength_15 (by decide) ?_
    refine lv_iload_n hx hb d_M_putLength_16 rfl (lv_at hl 1 rfl) ?_
    refine lv_sipush (v := 16384) hx hb d_M_putLength_17 (by decide) ?_
    refine lv_idiv hx hb d_M_putLength_20 (by decide) ?_
    refine va_mmin hx hb (by rw [C.2.2.1]; exact hl.1.symm) hown (hts _ pb_k316) (hts _ pb_k317) (hts _ pb_k8) (hts _ pb_k318) (by decide) (Nat.le_of_ble_eq_true rfl) (by decide) (by decide) d_M_putLength_21 ?_
    refine lv_eqi (y := o_kk n) (rfl) ?_
    refine lv_istore_n (lv' := [(2, .int (o_kk n)), (0, .ref (w_m w)), (1, .int n)]) hx hb d_M_putLength_24 rfl hl (by decide) rfl (fun ls hl => ?_)
    refine lv_iload_n hx hb d_M_putLength_25 rfl (lv_at hl 2 rfl) ?_
    refine lv_sipush (v := 128) hx hb d_M_putLength_26 (by decide) ?_
    have J80 : ∀ (v : Int32) (H : Heap) (locs : List Loc), pb_Wd w S (nI (o_lenw n T.2.1).1, (o_lenw n T.2.1).2.2, T.2.2) ov s H → va_S (w_A w) s.heap H locs → W p l e rm_M_putLength s m ([.ref (w_m w), .int n] : List Value).toArray below meth c H locs (0 + rm_M_write.cells) (0 + rm_M_write.slots) (pb_MQA below (pb_Q w (mI S T ov (o_putLength n T.2.1))) ([.ref (w_m w), .int n] : List Value).toArray s rm_M_putLength.cells rm_M_putLength.slots (w_A w)) (F0 m 80 ls [.int v]) := by
      intro v H locs hw hS
      have h1n : ¬ n < 0 := Int32.not_lt.mpr h1
      have hc : (o_lenw n T.2.1).1 = 0 ∨ (o_lenw n T.2.1).1 = 2 := o_lenw_c n T.2.1
      refine lv_istore_n (lv' := [(3, .int v), (2, .int (o_kk n)), (0, .ref (w_m w)), (1, .int n)]) hx hb d_M_putLength_80 rfl hl (by decide) rfl (fun ls hl => ?_)
      refine lv_aload_n hx hb d_M_putLength_81 rfl (lv_at hl 2 rfl) ?_
      refine g_M_failed C hw d_M_putLength_82 ?_
      refine lv_if_le (tgt := 92) hx hb d_M_putLength_85 (by decide) (fun h5 => ?_) (fun h5 => ?_)
      · have h5 : nI (o_lenw n T.2.1).1 ≤ 0 := h5
        have h6 : (o_lenw n T.2.1).1 = 0 := by
          rcases hc with h | h
          · exact h
          · rw [h] at h5; exact absurd h5 (by decide)
        refine lv_iload_n hx hb d_M_putLength_92 rfl (lv_at hl 3 rfl) ?_
        refine lv_sipush (v := 16384) hx hb d_M_putLength_93 (by decide) ?_
        refine lv_icmp_ge (tgt := 103) hx hb d_M_putLength_96 (by decide) (fun h7 => ?_) (fun h7 => ?_)
        · refine lv_sipush (v := 16384) hx hb d_M_putLength_103 (by decide) ?_
          refine lv_iload_n hx hb d_M_putLength_106 rfl (lv_at hl 1 rfl) ?_
          refine lv_imul hx hb d_M_putLength_107 ?_
          refine lv_eqi (y := o_kk n * 16384) (Int32.mul_comm _ _) ?_
          exact e_i ⟨hx, hb⟩ hr hlocks hw hS (by rw [o_putLength_a h1n, if_pos h6, if_neg (Int32.not_lt.mpr h7)]; rfl) (by decide) (by decide) d_M_putLength_108
        · refine lv_iload_n hx hb d_M_putLength_99 rfl (lv_at hl 3 rfl) ?_
          refine lv_goto (tgt := 108) hx hb d_M_putLength_100 (by decide) ?_
          exact e_i ⟨hx, hb⟩ hr hlocks hw hS (by rw [o_putLength_a h1n, if_pos h6, if_pos (Int32.not_le.mp h7)]; rfl) (by decide) (by decide) d_M_putLength_108
      · have h5 : ¬ nI (o_lenw n T.2.1).1 ≤ 0 := h5
        have h6 : ¬ (o_lenw n T.2.1).1 = 0 := fun z => h5 (by rw [z]; decide)
        refine lv_iconst (v := 0) hx hb d_M_putLength_88 (by decide) ?_
        refine lv_goto (tgt := 108) hx hb d_M_putLength_89 (by decide) ?_
        exact e_i ⟨hx, hb⟩ hr hlocks hw hS (by rw [o_putLength_a h1n, if_neg h6]; rfl) (by decide) (by decide) d_M_putLength_108
    refine lv_icmp_ge (tgt := 44) hx hb d_M_putLength_29 (by decide) (fun h2 => ?_) (fun h2 => ?_)
    · refine lv_iload_n hx hb d_M_putLength_44 rfl (lv_at hl 2 rfl) ?_
      refine lv_sipush (v := 16384) hx hb d_M_putLength_45 (by decide) ?_
      refine lv_icmp_ge (tgt := 67) hx hb d_M_putLength_48 (by decide) (fun h3 => ?_) (fun h3 => ?_)
      · refine lv_aload_n hx hb d_M_putLength_67 rfl (lv_at hl 1 rfl) ?_
        refine lv_ldc2 hx hb hown (hts _ pb_k320) d_M_putLength_68 ?_
        refine lv_iload_n hx hb d_M_putLength_71 rfl (lv_at hl 0 rfl) ?_
        refine lv_i2l hx hb d_M_putLength_72 rfl ?_
        refine lv_lor hx hb d_M_putLength_73 ?_
        refine lv_eql (y := (192 ||| o_kk n).toInt64) (i_or64 192 _) ?_
        refine lv_bipush (v := 8) hx hb d_M_putLength_74 (by decide) ?_
        refine lv_iconst (v := 2) hx hb d_M_putLength_76 (by decide) ?_
        refine pb_retI (pb_V (rest := []) C f_M_35 ⟨by decide, by decide, by decide, by decide⟩ (c_M_write l w S (0, T.2) ov (192 ||| o_kk n).toInt64 8 2 (by decide) hok2) hw (pb_Wd_m hw) hl.1 rfl rfl (Nat.le_of_ble_eq_true rfl) d_M_putLength_77) hS (by rw [m_write_w, ← o_lenw3 (Int32.not_lt.mpr h2) (Int32.not_lt.mpr h3)]) (fun H locs hw hS => ?_)
        exact J80 _ H locs hw hS
      · refine lv_aload_n hx hb d_M_putLength_51 rfl (lv_at hl 1 rfl) ?_
        refine lv_ldc2 hx hb hown (hts _ pb_k319) d_M_putLength_52 ?_
        refine lv_iload_n hx hb d_M_putLength_55 rfl (lv_at hl 2 rfl) ?_
        refine lv_i2l hx hb d_M_putLength_56 rfl ?_
        refine lv_lor hx hb d_M_putLength_57 ?_
        refine lv_eql (y := (32768 ||| n).toInt64) (i_or64 32768 _) ?_
        refine lv_bipush (v := 16) hx hb d_M_putLength_58 (by decide) ?_
        refine lv_iconst (v := 2) hx hb d_M_putLength_60 (by decide) ?_
        refine pb_retI (pb_V (rest := []) C f_M_35 ⟨by decide, by decide, by decide, by decide⟩ (c_M_write l w S (0, T.2) ov (32768 ||| n).toInt64 16 2 (by decide) hok2) hw (pb_Wd_m hw) hl.1 rfl rfl (Nat.le_of_ble_eq_true rfl) d_M_putLength_61) hS (by rw [m_write_w, ← o_lenw2 (Int32.not_lt.mpr h2) (Int32.not_le.mp h3)]) (fun H locs hw hS => ?_)
        refine lv_goto (tgt := 80) hx hb d_M_putLength_64 (by decide) ?_
        exact J80 _ H locs hw hS
    · refine lv_aload_n hx hb d_M_putLength_32 rfl (lv_at hl 1 rfl) ?_
      refine lv_iload_n hx hb d_M_putLength_33 rfl (lv_at hl 2 rfl) ?_
      refine lv_i2l hx hb d_M_putLength_34 rfl ?_
      refine lv_bipush (v := 8) hx hb d_M_putLength_35 (by decide) ?_
      refine lv_iconst (v := 2) hx hb d_M_putLength_37 (by decide) ?_
      refine pb_retI (pb_V (rest := []) C f_M_35 ⟨by decide, by decide, by decide, by decide⟩ (c_M_write l w S (0, T.2) ov n.toInt64 8 2 (by decide) hok2) hw (pb_Wd_m hw) hl.1 rfl rfl (Nat.le_of_ble_eq_true rfl) d_M_putLength_38) hS (by rw [m_write_w, ← o_lenw1 (Int32.not_le.mp h2)]) (fun H locs hw hS => ?_)
      refine lv_goto (tgt := 80) hx hb d_M_putLength_41 (by decide) ?_
      exact J80 _ H locs hw hS
  · refine lv_aload_n hx hb d_M_putLength_9 rfl (lv_at hl 0 rfl) ?_
    refine lv_iconst (v := 1) hx hb d_M_putLength_10 (by decide) ?_
    refine pb_retI (pb_V (rest := []) C f_M_27 ⟨by decide, by decide, by decide, by decide⟩ (c_M_fail l w S (0, T.2) ov 1) hw (pb_Wd_m hw) hl.1 rfl rfl (Nat.le_of_ble_eq_true rfl) d_M_putLength_11) hS (rfl) (fun H locs hw hS => ?_)
    exact e_i ⟨hx, hb⟩ hr hlocks hw hS (by rw [show o_putLength n T.2.1 = (1, 0, T.2.1) from if_pos (Int32.not_le.mp h1)]; rfl) (by decide) (by decide) d_M_putLength_14
abbrev rm_M_putNumber : Room := { frames := 2, cells := 0, slots := 0, locals := 45 }
set_option maxHeartbeats 4000000 in
set_option maxRecDepth 100000 in
theorem c_M_putNumber (l : Launch) (w : Wc) (S : St) (T : Mt) (ov : Int64) (kind : Int32) (n : Int64) (hok : pb_ok T.2.1) : pb_C l w y_M_putNumber rm_M_putNumber [.ref (w_m w), .int kind, .long n] S T ov (mI S T ov (o_putNumber kind n T.2.1)) := by
  refine pb_enter (cc := prog_3_method_12_code) (maxL := 7) (ret := some .int) (own := "PackedBitsModel") (by decide) pb_k324 rfl (Nat.le_of_ble_eq_true rfl) ?_
  intro p e s m below meth c ls C hr hlocks hno hN hw hS hl
  have hx := C.1
  have hb := C.2.1
  have hown := C.2.2.2.1
  have hts := C.2.2.2.2
  have hl : lv_has ls 7 [(0, .ref (w_m w)), (1, .int kind), (2, .long n)] := hl
  have hok2 := hok.2
  obtain ⟨hk1, hk2⟩ := o_by_in kind n
  have hk3 := o_1_le kind
  refine lv_aload_n hx hb d_M_putNumber_0 rfl (lv_at hl 0 rfl) ?_
  refine lv_iconst (v := 0) hx hb d_M_putNumber_1 (by decide) ?_
  refine p_M_failed C hN hw hS d_M_putNumber_2 (fun H locs hw hS => ?_)
  refine lv_iload_n hx hb d_M_putNumber_5 rfl (lv_at hl 1 rfl) ?_
  refine lv_if_lt (tgt := 14) hx hb d_M_putNumber_6 (by decide) (fun h1 => ?_) (fun h1 => ?_)
  · refine lv_aload_n hx hb d_M_putNumber_14 rfl (lv_at hl 0 rfl) ?_
    refine lv_iconst (v := 1) hx hb d_M_putNumber_15 (by decide) ?_
    refine pb_retI (pb_V (rest := []) C f_M_27 ⟨by decide, by decide, by decide, by decide⟩ (c_M_fail l w S (0, T.2) ov 1) hw (pb_Wd_m hw) hl.1 rfl rfl (Nat.le_of_ble_eq_true rfl) d_M_putNumber_16) hS (rfl) (fun H locs hw hS => ?_)
    exact e_i ⟨hx, hb⟩ hr hlocks hw hS (by rw [show o_putNumber kind n T.2.1 = (1, 0, T.2.1) from if_pos (Or.inl h1)]; rfl) (by decide) (by decide) d_M_putNumber_19
  · refine lv_iload_n hx hb d_M_putNumber_9 rfl (lv_at hl 1 rfl) ?_
    refine lv_iconst (v := 2) hx hb d_M_putNumber_10 (by decide) ?_
    refine lv_icmp_le (tgt := 20) hx hb d_M_putNumber_11 (by decide) (fun h2 => ?_) (fun h2 => ?_)
    · have J44 : ∀ sm : Bool, (sm = true ↔ (kind = 2 ∧ 0 ≤ n ∧ n < 64)) → W p l e rm_M_putNumber s m ([.ref (w_m w), .int kind, .long n] : List Value).toArray below meth c H locs (0) (0) (pb_MQA below (pb_Q w (mI S T ov (o_putNumber kind n T.2.1))) ([.ref (w_m w), .int kind, .long n] : List Value).toArray s rm_M_putNumber.cells rm_M_putNumber.slots (w_A w)) (F0 m 44 ls [.int (bI sm)]) := by
        intro sm hsm
        refine lv_istore (lv' := [(4, .int (bI sm)), (0, .ref (w_m w)), (1, .int kind), (2, .long n)]) hx hb d_M_putNumber_44 hl (by decide) rfl (fun ls hl => ?_)
        have J64 : ∀ (H : Heap) (locs : List Loc), pb_Wd w S (0, T.2) ov s H → va_S (w_A w) s.heap H locs → W p l e rm_M_putNumber s m ([.ref (w_m w), .int kind, .long n] : List Value).toArray below meth c H locs (0 + rm_M_bytesOf.cells) (0 + rm_M_bytesOf.slots) (pb_MQA below (pb_Q w (mI S T ov (o_putNumber kind n T.2.1))) ([.ref (w_m w), .int kind, .long n] : List Value).toArray s rm_M_putNumber.cells rm_M_putNumber.slots (w_A w)) (F0 m 64 ls [.int (nI (o_by kind n))]) := by
          intro H locs hw hS
          refine lv_istore (lv' := [(5, .int (nI (o_by kind n))), (4, .int (bI sm)), (0, .ref (w_m w)), (1, .int kind), (2, .long n)]) hx hb d_M_putNumber_64 hl (by decide) rfl (fun ls hl => ?_)
          have J95 : ∀ al : Nat, al ≤ 80 → (sm = true → al = 7) → (sm = false → al = 8 + 8 * o_by kind n + o_1 kind) → W p l e rm_M_putNumber s m ([.ref (w_m w), .int kind, .long n] : List Value).toArray below meth c H locs (0 + rm_M_bytesOf.cells) (0 + rm_M_bytesOf.slots) (pb_MQA below (pb_Q w (mI S T ov (o_putNumber kind n T.2.1))) ([.ref (w_m w), .int kind, .long n] : List Value).toArray s rm_M_putNumber.cells rm_M_putNumber.slots (w_A w)) (F0 m 95 ls [.int (nI al)]) := by
            intro al hal hal1 hal2
            refine lv_istore (lv' := [(6, .int (nI al)), (5, .int (nI (o_by kind n))), (4, .int (bI sm)), (0, .ref (w_m w)), (1, .int kind), (2, .long n)]) hx hb d_M_putNumber_95 hl (by decide) rfl (fun ls hl => ?_)
            refine lv_aload_n hx hb d_M_putNumber_97 rfl (lv_at hl 3 rfl) ?_
            refine g_M_size C hw d_M_putNumber_98 ?_
            refine lv_iload hx hb d_M_putNumber_101 (lv_at hl 0 rfl) ?_
            refine lv_iadd hx hb d_M_putNumber_103 ?_
            refine lv_ldc hx hb hown (hts _ pb_k263) d_M_putNumber_104 ?_
            refine lv_icmp_le (tgt := 115) hx hb d_M_putNumber_106 (by decide) (fun h5 => ?_) (fun h5 => ?_)
            · have h5 : nI T.2.1.2.1 + nI al ≤ 65536 := h5
              have h6 : ¬ 65536 < T.2.1.2.1 + al := by
                rw [nI_add] at h5
                have h7 := (nI_leI (b := 65536) (by omega) (by decide)).mp h5
                omega
              refine lv_iload hx hb d_M_putNumber_115 (lv_at hl 2 rfl) ?_
              refine lv_if_eq (tgt := 130) hx hb d_M_putNumber_117 (by decide) (fun h8 => ?_) (fun h8 => ?_)
              · have hs : sm = false := by
                  cases sm
                  · rfl
                  · exact absurd h8 (by decide)
                have hal3 := hal2 hs
                have hq := o_putNumber_k (S := T.2.1) h1 (Int32.not_lt.mpr h2) (fun z => absurd (hsm.mpr z) (by rw [hs]; decide))
                rw [hal3] at h6
                have J141 : ∀ (Z : St) (H : Heap) (locs : List Loc), Z = (if kind = 2 then pb1 true T.2.1 else T.2.1) → Z.2.1 = T.2.1.2.1 + o_1 kind → pb_Wd w S (0, Z, T.2.2) ov s H → va_S (w_A w) s.heap H locs → W p l e rm_M_putNumber s m ([.ref (w_m w), .int kind, .long n] : List Value).toArray below meth c H locs (0 + rm_M_bytesOf.cells + rm_M_append.cells) (0 + rm_M_bytesOf.slots + rm_M_append.slots) (pb_MQA below (pb_Q w (mI S T ov (o_putNumber kind n T.2.1))) ([.ref (w_m w), .int kind, .long n] : List Value).toArray s rm_M_putNumber.cells rm_M_putNumber.slots (w_A w)) (F0 m 141 ls []) := by
                  intro Z H locs hZ hZ1 hw hS
                  refine lv_aload_n hx hb d_M_putNumber_141 rfl (lv_at hl 3 rfl) ?_
                  refine lv_iload hx hb d_M_putNumber_142 (lv_at hl 1 rfl) ?_
                  refine lv_i2l hx hb d_M_putNumber_144 rfl ?_
                  refine lv_bipush (v := 8) hx hb d_M_putNumber_145 (by decide) ?_
                  refine pb_retV (pb_V (rest := []) C f_M_31 ⟨by decide, by decide, by decide, by decide⟩ (c_M_append l w S (0, Z, T.2.2) ov (nI (o_by kind n)).toInt64 8 (by decide) (by show Z.2.1 + 8 ≤ 65536; omega)) hw (pb_Wd_m hw) hl.1 rfl rfl (Nat.le_of_ble_eq_true rfl) d_M_putNumber_147) hS (rfl) (fun H locs hw hS => ?_)
                  refine lv_aload_n hx hb d_M_putNumber_150 rfl (lv_at hl 3 rfl) ?_
                  refine lv_lload_n hx hb d_M_putNumber_151 rfl (lv_at hl 5 rfl) ?_
                  refine lv_bipush (v := 8) hx hb d_M_putNumber_152 (by decide) ?_
                  refine lv_iload hx hb d_M_putNumber_154 (lv_at hl 1 rfl) ?_
                  refine lv_imul hx hb d_M_putNumber_156 ?_
                  refine lv_eqi (y := nI (8 * o_by kind n)) (i_8 _) ?_
                  refine pb_retV (pb_V (rest := []) C f_M_31 ⟨by decide, by decide, by decide, by decide⟩ (c_M_append l w S (0, pw (nI (o_by kind n)).toInt64 8 Z, T.2.2) ov n (8 * o_by kind n) (by omega) (by show Z.2.1 + 8 + 8 * o_by kind n ≤ 65536; omega)) hw (pb_Wd_m hw) hl.1 rfl rfl (Nat.le_of_ble_eq_true rfl) d_M_putNumber_157) hS (rfl) (fun H locs hw hS => ?_)
                  refine lv_aload_n hx hb d_M_putNumber_160 rfl (lv_at hl 3 rfl) ?_
                  refine g_M_size C hw d_M_putNumber_161 ?_
                  refine lv_eqi (y := nI (T.2.1.2.1 + (8 + 8 * o_by kind n + o_1 kind))) (congrArg nI (by show Z.2.1 + 8 + 8 * o_by kind n = _; omega)) ?_
                  exact e_i ⟨hx, hb⟩ hr hlocks hw hS (by rw [hq, o_big_ok h6, ← hZ]; rfl) (by decide) (by decide) d_M_putNumber_164
                refine lv_iload_n hx hb d_M_putNumber_130 rfl (lv_at hl 4 rfl) ?_
                refine lv_iconst (v := 2) hx hb d_M_putNumber_131 (by decide) ?_
                refine lv_icmp_ne (tgt := 141) hx hb d_M_putNumber_132 (by decide) (fun h9 => ?_) (fun h9 => ?_)
                · exact W.widen (Nat.le_add_right _ _) (Nat.le_add_right _ _) (J141 T.2.1 H locs (if_neg h9).symm (by rw [show o_1 kind = 0 from if_neg h9]; rfl) hw hS)
                · refine lv_aload_n hx hb d_M_putNumber_135 rfl (lv_at hl 3 rfl) ?_
                  refine lv_lconst (v := 1) hx hb d_M_putNumber_136 (by decide) ?_
                  refine lv_iconst (v := 1) hx hb d_M_putNumber_137 (by decide) ?_
                  refine pb_retV (pb_V (rest := []) C f_M_31 ⟨by decide, by decide, by decide, by decide⟩ (c_M_append l w S (0, T.2) ov 1 1 (by decide) (by rw [show o_1 kind = 1 from if_pos h9] at h6; show T.2.1.2.1 + 1 ≤ 65536; omega)) hw (pb_Wd_m hw) hl.1 rfl rfl (Nat.le_of_ble_eq_true rfl) d_M_putNumber_138) hS (rfl) (fun H locs hw hS => ?_)
                  exact J141 (pb1 true T.2.1) H locs (if_pos h9).symm (by rw [show o_1 kind = 1 from if_pos h9]; rfl) hw hS
              · have hs : sm = true := by
                  cases sm
                  · exact absurd rfl h8
                  · rfl
                have hal3 := hal1 hs
                subst hal3
                have hq := o_putNumber_s (S := T.2.1) h1 (Int32.not_lt.mpr h2) (hsm.mp hs)
                refine lv_aload_n hx hb d_M_putNumber_120 rfl (lv_at hl 3 rfl) ?_
                refine lv_lload_n hx hb d_M_putNumber_121 rfl (lv_at hl 5 rfl) ?_
                refine lv_bipush (v := 7) hx hb d_M_putNumber_122 (by decide) ?_
                refine pb_retV (pb_V (rest := []) C f_M_31 ⟨by decide, by decide, by decide, by decide⟩ (c_M_append l w S (0, T.2) ov n 7 (by decide) (by show T.2.1.2.1 + 7 ≤ 65536; omega)) hw (pb_Wd_m hw) hl.1 rfl rfl (Nat.le_of_ble_eq_true rfl) d_M_putNumber_124) hS (rfl) (fun H locs hw hS => ?_)
                refine lv_goto (tgt := 160) hx hb d_M_putNumber_127 (by decide) ?_
                refine lv_aload_n hx hb d_M_putNumber_160 rfl (lv_at hl 3 rfl) ?_
                refine g_M_size C hw d_M_putNumber_161 ?_
                exact e_i ⟨hx, hb⟩ hr hlocks hw hS (by rw [hq, o_w_ok h6]; rfl) (by decide) (by decide) d_M_putNumber_164
            · have h5 : ¬ nI T.2.1.2.1 + nI al ≤ 65536 := h5
              have h6 : 65536 < T.2.1.2.1 + al := by
                rw [nI_add] at h5
                exact Nat.lt_of_not_le (fun z => h5 ((nI_leI (b := 65536) (by omega) (by decide)).mpr z))
              have hq : o_putNumber kind n T.2.1 = (2, 0, T.2.1) := by
                cases sm
                · have hal3 := hal2 rfl
                  rw [hal3] at h6
                  rw [o_putNumber_k h1 (Int32.not_lt.mpr h2) (fun z => absurd (hsm.mpr z) (by decide)), o_big_no h6]
                · have hal3 := hal1 rfl
                  rw [hal3] at h6
                  rw [o_putNumber_s h1 (Int32.not_lt.mpr h2) (hsm.mp rfl), o_w_no h6]
              refine lv_aload_n hx hb d_M_putNumber_109 rfl (lv_at hl 3 rfl) ?_
              refine lv_iconst (v := 2) hx hb d_M_putNumber_110 (by decide) ?_
              refine pb_retI (pb_V (rest := []) C f_M_27 ⟨by decide, by decide, by decide, by decide⟩ (c_M_fail l w S (0, T.2) ov 2) hw (pb_Wd_m hw) hl.1 rfl rfl (Nat.le_of_ble_eq_true rfl) d_M_putNumber_111) hS (rfl) (fun H locs hw hS => ?_)
              exact e_i ⟨hx, hb⟩ hr hlocks hw hS (by rw [hq]; rfl) (by decide) (by decide) d_M_putNumber_114
          refine lv_iload hx hb d_M_putNumber_66 (lv_at hl 1 rfl) ?_
          refine lv_if_eq (tgt := 76) hx hb d_M_putNumber_68 (by decide) (fun h3 => ?_) (fun h3 => ?_)
          · have hs : sm = false := by
              cases sm
              · rfl
              · exact absurd h3 (by decide)
            refine lv_bipush (v := 8) hx hb d_M_putNumber_76 (by decide) ?_
            refine lv_bipush (v := 8) hx hb d_M_putNumber_78 (by decide) ?_
            refine lv_iload hx hb d_M_putNumber_80 (lv_at hl 0 rfl) ?_
            refine lv_imul hx hb d_M_putNumber_82 ?_
            refine lv_eqi (y := nI (8 * o_by kind n)) (i_8 _) ?_
            refine lv_iadd hx hb d_M_putNumber_83 ?_
            refine lv_eqi (y := nI (8 + 8 * o_by kind n)) (nI_add 8 _) ?_
            refine lv_iload_n hx hb d_M_putNumber_84 rfl (lv_at hl 3 rfl) ?_
            refine lv_iconst (v := 2) hx hb d_M_putNumber_85 (by decide) ?_
            refine lv_icmp_ne (tgt := 93) hx hb d_M_putNumber_86 (by decide) (fun h4 => ?_) (fun h4 => ?_)
            · refine lv_iconst (v := 0) hx hb d_M_putNumber_93 (by decide) ?_
              refine lv_iadd hx hb d_M_putNumber_94 ?_
              refine lv_eqi (y := nI (8 + 8 * o_by kind n + o_1 kind)) (by rw [show o_1 kind = 0 from if_neg h4]; exact nI_add _ 0) ?_
              exact J95 _ (by omega) (fun z => absurd (z.symm.trans hs) (by decide)) (fun _ => rfl)
            · refine lv_iconst (v := 1) hx hb d_M_putNumber_89 (by decide) ?_
              refine lv_goto (tgt := 94) hx hb d_M_putNumber_90 (by decide) ?_
              refine lv_iadd hx hb d_M_putNumber_94 ?_
              refine lv_eqi (y := nI (8 + 8 * o_by kind n + o_1 kind)) (by rw [show o_1 kind = 1 from if_pos h4]; exact nI_add _ 1) ?_
              exact J95 _ (by omega) (fun z => absurd (z.symm.trans hs) (by decide)) (fun _ => rfl)
          · have hs : sm = true := by
              cases sm
              · exact absurd rfl h3
              · rfl
            refine lv_bipush (v := 7) hx hb d_M_putNumber_71 (by decide) ?_
            refine lv_goto (tgt := 95) hx hb d_M_putNumber_73 (by decide) ?_
            exact J95 7 (by decide) (fun _ => rfl) (fun z => absurd (z.symm.trans hs) (by decide))
        refine lv_iload_n hx hb d_M_putNumber_46 rfl (lv_at hl 2 rfl) ?_
        refine lv_iconst (v := 1) hx hb d_M_putNumber_47 (by decide) ?_
        refine lv_icmp_ne (tgt := 59) hx hb d_M_putNumber_48 (by decide) (fun h3 => ?_) (fun h3 => ?_)
        · refine lv_aload_n hx hb d_M_putNumber_59 rfl (lv_at hl 1 rfl) ?_
          refine lv_lload_n hx hb d_M_putNumber_60 rfl (lv_at hl 3 rfl) ?_
          refine pb_retI (pb_V (rest := []) C f_M_54 ⟨by decide, by decide, by decide, by decide⟩ (c_M_bytesOf l w S (0, T.2) ov n) hw (pb_Wd_m hw) hl.1 rfl rfl (Nat.le_of_ble_eq_true rfl) d_M_putNumber_61) hS (by rw [byM_byU, ← show o_by kind n = byU n from if_neg h3]) (fun H locs hw hS => ?_)
          exact J64 H locs hw hS
        · refine lv_aload_n hx hb d_M_putNumber_51 rfl (lv_at hl 1 rfl) ?_
          refine lv_lload_n hx hb d_M_putNumber_52 rfl (lv_at hl 3 rfl) ?_
          refine pb_retI (pb_V (rest := []) C f_M_51 ⟨by decide, by decide, by decide, by decide⟩ (c_M_complement l w S (0, T.2) ov n) hw (pb_Wd_m hw) hl.1 rfl rfl (Nat.le_of_ble_eq_true rfl) d_M_putNumber_53) hS (by rw [← show o_by kind n = byS n from if_pos h3]) (fun H locs hw hS => ?_)
          refine lv_goto (tgt := 64) hx hb d_M_putNumber_56 (by decide) ?_
          exact J64 H locs hw hS
      refine lv_iload_n hx hb d_M_putNumber_20 rfl (lv_at hl 1 rfl) ?_
      refine lv_iconst (v := 2) hx hb d_M_putNumber_21 (by decide) ?_
      refine lv_icmp_ne (tgt := 43) hx hb d_M_putNumber_22 (by decide) (fun h3 => ?_) (fun h3 => ?_)
      · refine lv_iconst (v := 0) hx hb d_M_putNumber_43 (by decide) ?_
        exact J44 false ⟨fun z => absurd z (by decide), fun z => absurd z.1 h3⟩
      · refine lv_lload_n hx hb d_M_putNumber_25 rfl (lv_at hl 2 rfl) ?_
        refine lv_lconst (v := 0) hx hb d_M_putNumber_26 (by decide) ?_
        refine lc_lt (tgt := 43) ⟨hx, hb⟩ d_M_putNumber_27 d_M_putNumber_28 (by decide) (fun h4 => ?_) (fun h4 => ?_)
        · refine lv_iconst (v := 0) hx hb d_M_putNumber_43 (by decide) ?_
          exact J44 false ⟨fun z => absurd z (by decide), fun z => absurd h4 (Int64.not_lt.mpr z.2.1)⟩
        · refine lv_lload_n hx hb d_M_putNumber_31 rfl (lv_at hl 2 rfl) ?_
          refine lv_ldc2 hx hb hown (hts _ pb_k325) d_M_putNumber_32 ?_
          refine lc_ge (tgt := 43) ⟨hx, hb⟩ d_M_putNumber_35 d_M_putNumber_36 (by decide) (fun h5 => ?_) (fun h5 => ?_)
          · refine lv_iconst (v := 0) hx hb d_M_putNumber_43 (by decide) ?_
            exact J44 false ⟨fun z => absurd z (by decide), fun z => absurd z.2.2 (Int64.not_lt.mpr h5)⟩
          · refine lv_iconst (v := 1) hx hb d_M_putNumber_39 (by decide) ?_
            refine lv_goto (tgt := 44) hx hb d_M_putNumber_40 (by decide) ?_
            exact J44 true ⟨fun _ => ⟨h3, Int64.not_lt.mp h4, Int64.not_le.mp h5⟩, fun _ => rfl⟩
    · refine lv_aload_n hx hb d_M_putNumber_14 rfl (lv_at hl 0 rfl) ?_
      refine lv_iconst (v := 1) hx hb d_M_putNumber_15 (by decide) ?_
      refine pb_retI (pb_V (rest := []) C f_M_27 ⟨by decide, by decide, by decide, by decide⟩ (c_M_fail l w S (0, T.2) ov 1) hw (pb_Wd_m hw) hl.1 rfl rfl (Nat.le_of_ble_eq_true rfl) d_M_putNumber_16) hS (rfl) (fun H locs hw hS => ?_)
      exact e_i ⟨hx, hb⟩ hr hlocks hw hS (by rw [show o_putNumber kind n T.2.1 = (1, 0, T.2.1) from if_pos (Or.inr (Int32.not_le.mp h2))]; rfl) (by decide) (by decide) d_M_putNumber_19
abbrev rm_M_fill : Room := { frames := 2, cells := 0, slots := 0, locals := 48 }
set_option maxHeartbeats 4000000 in
set_option maxRecDepth 100000 in
theorem c_M_fill (l : Launch) (w : Wc) (S : St) (T : Mt) (ov : Int64) (hok : pb_ok T.2.1) : pb_C l w y_M_fill rm_M_fill [.ref (w_m w)] S T ov (mI S T ov (o_fill T.2.1)) := by
  refine pb_enter (cc := prog_3_method_13_code) (maxL := 2) (ret := some .int) (own := "PackedBitsModel") (by decide) pb_k338 rfl (Nat.le_of_ble_eq_true rfl) ?_
  intro p e s m below meth c ls C hr hlocks hno hN hw hS hl
  have hx := C.1
  have hb := C.2.1
  have hown := C.2.2.2.1
  have hts := C.2.2.2.2
  have hl : lv_has ls 2 [(0, .ref (w_m w))] := hl
  have hok2 := hok.2
  have hm := o_more_le hok2
  have hm8 : o_more T.2.1.2.1 ≤ 8 := by
    unfold o_more
    split <;> omega
  refine lv_aload_n hx hb d_M_fill_0 rfl (lv_at hl 0 rfl) ?_
  refine lv_iconst (v := 0) hx hb d_M_fill_1 (by decide) ?_
  refine p_M_failed C hN hw hS d_M_fill_2 (fun H locs hw hS => ?_)
  have J30 : W p l e rm_M_fill s m ([.ref (w_m w)] : List Value).toArray below meth c H locs (0) (0) (pb_MQA below (pb_Q w (mI S T ov (o_fill T.2.1))) ([.ref (w_m w)] : List Value).toArray s rm_M_fill.cells rm_M_fill.slots (w_A w)) (F0 m 30 ls [.int (nI (o_more T.2.1.2.1))]) := by
    refine lv_istore_n (lv' := [(1, .int (nI (o_more T.2.1.2.1))), (0, .ref (w_m w))]) hx hb d_M_fill_30 rfl hl (by decide) rfl (fun ls hl => ?_)
    refine lv_aload_n hx hb d_M_fill_31 rfl (lv_at hl 1 rfl) ?_
    refine lv_lconst (v := 0) hx hb d_M_fill_32 (by decide) ?_
    refine lv_iload_n hx hb d_M_fill_33 rfl (lv_at hl 0 rfl) ?_
    refine lv_iconst (v := 1) hx hb d_M_fill_34 (by decide) ?_
    refine pb_retI (pb_V (rest := []) C f_M_35 ⟨by decide, by decide, by decide, by decide⟩ (c_M_write l w S (0, T.2) ov 0 (o_more T.2.1.2.1) 1 (by omega) hok2) hw (pb_Wd_m hw) hl.1 rfl rfl (Nat.le_of_ble_eq_true rfl) d_M_fill_35) hS (by rw [m_write_ok (T := (0, T.2)) (show ¬ 65536 < T.2.1.2.1 + _ by omega)]) (fun H locs hw hS => ?_)
    exact e_i ⟨hx, hb⟩ hr hlocks hw hS (rfl) (by decide) (by decide) d_M_fill_38
  refine lv_aload_n hx hb d_M_fill_5 rfl (lv_at hl 0 rfl) ?_
  refine g_M_size C hw d_M_fill_6 ?_
  refine lv_if_ne (tgt := 17) hx hb d_M_fill_9 (by decide) (fun h1 => ?_) (fun h1 => ?_)
  · have h2 : ¬ T.2.1.2.1 = 0 := fun z => h1 (by rw [z]; rfl)
    refine lv_bipush (v := 8) hx hb d_M_fill_17 (by decide) ?_
    refine lv_aload_n hx hb d_M_fill_19 rfl (lv_at hl 0 rfl) ?_
    refine g_M_size C hw d_M_fill_20 ?_
    refine lv_bipush (v := 8) hx hb d_M_fill_23 (by decide) ?_
    refine lv_irem hx hb d_M_fill_25 (by decide) ?_
    refine lv_eqi (y := nI (T.2.1.2.1 % 8)) (pk_rem (a := T.2.1.2.1) (d := 8) (by omega) (by decide) (by decide)) ?_
    refine lv_isub hx hb d_M_fill_26 ?_
    refine lv_eqi (y := nI (8 - T.2.1.2.1 % 8)) (pk_sub (a := 8) (by omega)) ?_
    refine lv_bipush (v := 8) hx hb d_M_fill_27 (by decide) ?_
    refine lv_irem hx hb d_M_fill_29 (by decide) ?_
    refine lv_eqi (y := nI (o_more T.2.1.2.1)) (by rw [show o_more T.2.1.2.1 = (8 - T.2.1.2.1 % 8) % 8 from if_neg h2]; exact pk_rem (d := 8) (by omega) (by decide) (by decide)) ?_
    exact J30
  · have h2 : T.2.1.2.1 = 0 := (nI_eq (b := 0) (by omega) (by decide)).mp h1
    refine lv_bipush (v := 8) hx hb d_M_fill_12 (by decide) ?_
    refine lv_eqi (y := nI (o_more T.2.1.2.1)) (by rw [h2]; rfl) ?_
    refine lv_goto (tgt := 30) hx hb d_M_fill_14 (by decide) ?_
    exact J30
abbrev rm_M_go : Room := { frames := 1, cells := 0, slots := 0, locals := 21 }
set_option maxHeartbeats 4000000 in
set_option maxRecDepth 100000 in
theorem c_M_go (l : Launch) (w : Wc) (S : St) (T : Mt) (ov : Int64) (n : Int32) (hok : pb_ok T.2.1) : pb_C l w y_M_go rm_M_go [.ref (w_m w), .int n] S T ov (mI S T ov (o_go n T.2.1)) := by
  refine pb_enter (cc := prog_3_method_22_code) (maxL := 3) (ret := some .int) (own := "PackedBitsModel") (by decide) pb_k374 rfl (Nat.le_of_ble_eq_true rfl) ?_
  intro p e s m below meth c ls C hr hlocks hno hN hw hS hl
  have hx := C.1
  have hb := C.2.1
  have hown := C.2.2.2.1
  have hts := C.2.2.2.2
  have hl : lv_has ls 3 [(0, .ref (w_m w)), (1, .int n)] := hl
  have hok1 := hok.1
  have hok2 := hok.2
  refine lv_aload_n hx hb d_M_go_0 rfl (lv_at hl 0 rfl) ?_
  refine lv_iconst (v := 0) hx hb d_M_go_1 (by decide) ?_
  refine p_M_failed C hN hw hS d_M_go_2 (fun H locs hw hS => ?_)
  refine lv_iload_n hx hb d_M_go_5 rfl (lv_at hl 1 rfl) ?_
  refine lv_if_lt (tgt := 17) hx hb d_M_go_6 (by decide) (fun h1 => ?_) (fun h1 => ?_)
  · refine lv_aload_n hx hb d_M_go_17 rfl (lv_at hl 0 rfl) ?_
    refine lv_iconst (v := 1) hx hb d_M_go_18 (by decide) ?_
    refine pb_retI (pb_V (rest := []) C f_M_27 ⟨by decide, by decide, by decide, by decide⟩ (c_M_fail l w S (0, T.2) ov 1) hw (pb_Wd_m hw) hl.1 rfl rfl (Nat.le_of_ble_eq_true rfl) d_M_go_19) hS (rfl) (fun H locs hw hS => ?_)
    exact e_i ⟨hx, hb⟩ hr hlocks hw hS (by rw [show o_go n T.2.1 = (1, 0, T.2.1) from if_pos (Or.inl h1)]; rfl) (by decide) (by decide) d_M_go_22
  · refine lv_iload_n hx hb d_M_go_9 rfl (lv_at hl 1 rfl) ?_
    refine lv_aload_n hx hb d_M_go_10 rfl (lv_at hl 0 rfl) ?_
    refine g_M_size C hw d_M_go_11 ?_
    refine lv_icmp_le (tgt := 23) hx hb d_M_go_14 (by decide) (fun h2 => ?_) (fun h2 => ?_)
    · obtain ⟨k, hk, rfl⟩ : ∃ k : Nat, k ≤ T.2.1.2.1 ∧ n = nI k := by
        obtain ⟨k, hk, rfl⟩ := nI_of h1
        exact ⟨k, (nI_leI hk (by omega)).mp h2, rfl⟩
      refine lv_aload_n hx hb d_M_go_23 rfl (lv_at hl 0 rfl) ?_
      refine g_M_place C hw d_M_go_24 ?_
      refine lv_istore_n (lv' := [(2, .int (nI T.2.1.1)), (0, .ref (w_m w)), (1, .int (nI k))]) hx hb d_M_go_27 rfl hl (by decide) rfl (fun ls hl => ?_)
      refine lv_aload_n hx hb d_M_go_28 rfl (lv_at hl 1 rfl) ?_
      refine lv_iload_n hx hb d_M_go_29 rfl (lv_at hl 2 rfl) ?_
      refine p_M_place C hN hw hS (k) d_M_go_30 (fun H locs hw hS => ?_)
      refine lv_iload_n hx hb d_M_go_33 rfl (lv_at hl 0 rfl) ?_
      exact e_i ⟨hx, hb⟩ hr hlocks hw hS (by rw [o_go_k hk (by omega)]; rfl) (by decide) (by decide) d_M_go_34
    · refine lv_aload_n hx hb d_M_go_17 rfl (lv_at hl 0 rfl) ?_
      refine lv_iconst (v := 1) hx hb d_M_go_18 (by decide) ?_
      refine pb_retI (pb_V (rest := []) C f_M_27 ⟨by decide, by decide, by decide, by decide⟩ (c_M_fail l w S (0, T.2) ov 1) hw (pb_Wd_m hw) hl.1 rfl rfl (Nat.le_of_ble_eq_true rfl) d_M_go_19) hS (rfl) (fun H locs hw hS => ?_)
      exact e_i ⟨hx, hb⟩ hr hlocks hw hS (by rw [show o_go n T.2.1 = (1, 0, T.2.1) from if_pos (Or.inr (Int32.not_le.mp h2))]; rfl) (by decide) (by decide) d_M_go_22
abbrev rm_M_turn : Room := { frames := 1, cells := 0, slots := 0, locals := 21 }
set_option maxHeartbeats 4000000 in
set_option maxRecDepth 100000 in
theorem c_M_turn (l : Launch) (w : Wc) (S : St) (T : Mt) (ov : Int64) (n : Int32) (hok : pb_ok T.2.1) : pb_C l w y_M_turn rm_M_turn [.ref (w_m w), .int n] S T ov (mZ S T ov (o_turn n T.2.1)) := by
  refine pb_enter (cc := prog_3_method_23_code) (maxL := 2) (ret := some .boolean) (own := "PackedBitsModel") (by decide) pb_k378 rfl (Nat.le_of_ble_eq_true rfl) ?_
  intro p e s m below meth c ls C hr hlocks hno hN hw hS hl
  have hx := C.1
  have hb := C.2.1
  have hown := C.2.2.2.1
  have hts := C.2.2.2.2
  have hl : lv_has ls 2 [(0, .ref (w_m w)), (1, .int n)] := hl
  have hok1 := hok.1
  have hok2 := hok.2
  refine lv_aload_n hx hb d_M_turn_0 rfl (lv_at hl 0 rfl) ?_
  refine lv_iconst (v := 0) hx hb d_M_turn_1 (by decide) ?_
  refine p_M_failed C hN hw hS d_M_turn_2 (fun H locs hw hS => ?_)
  refine lv_iload_n hx hb d_M_turn_5 rfl (lv_at hl 1 rfl) ?_
  refine lv_if_lt (tgt := 17) hx hb d_M_turn_6 (by decide) (fun h1 => ?_) (fun h1 => ?_)
  · refine lv_aload_n hx hb d_M_turn_17 rfl (lv_at hl 0 rfl) ?_
    refine lv_iconst (v := 1) hx hb d_M_turn_18 (by decide) ?_
    refine pb_retI (pb_V (rest := []) C f_M_27 ⟨by decide, by decide, by decide, by decide⟩ (c_M_fail l w S (0, T.2) ov 1) hw (pb_Wd_m hw) hl.1 rfl rfl (Nat.le_of_ble_eq_true rfl) d_M_turn_19) hS (rfl) (fun H locs hw hS => ?_)
    refine lv_if_le (tgt := 29) hx hb d_M_turn_22 (by decide) (fun h9 => ?_) (fun h9 => ?_)
    · refine lv_iconst (v := 0) hx hb d_M_turn_29 (by decide) ?_
      exact e_z (v := false) ⟨hx, hb⟩ hr hlocks hw hS (by rw [show o_turn n T.2.1 = (1, false, T.2.1) from if_pos (Or.inl h1)]; rfl) (by decide) (by decide) d_M_turn_30
    · exact absurd (by decide) h9
  · refine lv_iload_n hx hb d_M_turn_9 rfl (lv_at hl 1 rfl) ?_
    refine lv_aload_n hx hb d_M_turn_10 rfl (lv_at hl 0 rfl) ?_
    refine g_M_size C hw d_M_turn_11 ?_
    refine lv_icmp_lt (tgt := 31) hx hb d_M_turn_14 (by decide) (fun h2 => ?_) (fun h2 => ?_)
    · obtain ⟨k, hk, rfl⟩ : ∃ k : Nat, k < T.2.1.2.1 ∧ n = nI k := by
        obtain ⟨k, hk, rfl⟩ := nI_of h1
        exact ⟨k, (nI_ltI hk (by omega)).mp h2, rfl⟩
      refine lv_aload_n hx hb d_M_turn_31 rfl (lv_at hl 0 rfl) ?_
      refine g_M_row C hw d_M_turn_32 ?_
      refine lv_iload_n hx hb d_M_turn_35 rfl (lv_at hl 1 rfl) ?_
      refine lv_aload_n hx hb d_M_turn_36 rfl (lv_at hl 0 rfl) ?_
      refine g_M_row C hw d_M_turn_37 ?_
      refine lv_iload_n hx hb d_M_turn_40 rfl (lv_at hl 1 rfl) ?_
      refine z_ld ⟨hx, hb⟩ hw (k := k) (by omega) d_M_turn_41 ?_
      refine lv_if_ne (tgt := 49) hx hb d_M_turn_42 (by decide) (fun h3 => ?_) (fun h3 => ?_)
      · have hv : (!T.2.1.2.2 k) = false := by
          cases hc : T.2.1.2.2 k
          · rw [hc] at h3; exact absurd rfl h3
          · rfl
        refine lv_iconst (v := 0) hx hb d_M_turn_49 (by decide) ?_
        refine z_st ⟨hx, hb⟩ hN hw hS false (k := k) (by omega) d_M_turn_50 (fun H locs hw hS => ?_)
        refine lv_aload_n hx hb d_M_turn_51 rfl (lv_at hl 0 rfl) ?_
        refine g_M_row C hw d_M_turn_52 ?_
        refine lv_iload_n hx hb d_M_turn_55 rfl (lv_at hl 1 rfl) ?_
        refine z_ld ⟨hx, hb⟩ hw (k := k) (by omega) d_M_turn_56 ?_
        refine lv_eqi (y := bI false) (congrArg bI (upb_same _ _ _)) ?_
        exact e_z (v := false) ⟨hx, hb⟩ hr hlocks hw hS (by rw [o_turn_k hk (by omega), hv]; rfl) (by decide) (by decide) d_M_turn_57
      · have hv : (!T.2.1.2.2 k) = true := by
          cases hc : T.2.1.2.2 k
          · rfl
          · rw [hc] at h3; exact absurd h3 (by decide)
        refine lv_iconst (v := 1) hx hb d_M_turn_45 (by decide) ?_
        refine lv_goto (tgt := 50) hx hb d_M_turn_46 (by decide) ?_
        refine z_st ⟨hx, hb⟩ hN hw hS true (k := k) (by omega) d_M_turn_50 (fun H locs hw hS => ?_)
        refine lv_aload_n hx hb d_M_turn_51 rfl (lv_at hl 0 rfl) ?_
        refine g_M_row C hw d_M_turn_52 ?_
        refine lv_iload_n hx hb d_M_turn_55 rfl (lv_at hl 1 rfl) ?_
        refine z_ld ⟨hx, hb⟩ hw (k := k) (by omega) d_M_turn_56 ?_
        refine lv_eqi (y := bI true) (congrArg bI (upb_same _ _ _)) ?_
        exact e_z (v := true) ⟨hx, hb⟩ hr hlocks hw hS (by rw [o_turn_k hk (by omega), hv]; rfl) (by decide) (by decide) d_M_turn_57
    · refine lv_aload_n hx hb d_M_turn_17 rfl (lv_at hl 0 rfl) ?_
      refine lv_iconst (v := 1) hx hb d_M_turn_18 (by decide) ?_
      refine pb_retI (pb_V (rest := []) C f_M_27 ⟨by decide, by decide, by decide, by decide⟩ (c_M_fail l w S (0, T.2) ov 1) hw (pb_Wd_m hw) hl.1 rfl rfl (Nat.le_of_ble_eq_true rfl) d_M_turn_19) hS (rfl) (fun H locs hw hS => ?_)
      refine lv_if_le (tgt := 29) hx hb d_M_turn_22 (by decide) (fun h9 => ?_) (fun h9 => ?_)
      · refine lv_iconst (v := 0) hx hb d_M_turn_29 (by decide) ?_
        exact e_z (v := false) ⟨hx, hb⟩ hr hlocks hw hS (by rw [show o_turn n T.2.1 = (1, false, T.2.1) from if_pos (Or.inr (Int32.not_lt.mp h2))]; rfl) (by decide) (by decide) d_M_turn_30
      · exact absurd (by decide) h9
abbrev rm_M_cut : Room := { frames := 1, cells := 0, slots := 0, locals := 21 }
set_option maxHeartbeats 4000000 in
set_option maxRecDepth 100000 in
theorem c_M_cut (l : Launch) (w : Wc) (S : St) (T : Mt) (ov : Int64) (n : Int32) (hok : pb_ok T.2.1) : pb_C l w y_M_cut rm_M_cut [.ref (w_m w), .int n] S T ov (mI S T ov (o_cut n T.2.1)) := by
  refine pb_enter (cc := prog_3_method_24_code) (maxL := 3) (ret := some .int) (own := "PackedBitsModel") (by decide) pb_k382 rfl (Nat.le_of_ble_eq_true rfl) ?_
  intro p e s m below meth c ls C hr hlocks hno hN hw hS hl
  have hx := C.1
  have hb := C.2.1
  have hown := C.2.2.2.1
  have hts := C.2.2.2.2
  have hl : lv_has ls 3 [(0, .ref (w_m w)), (1, .int n)] := hl
  have hok1 := hok.1
  have hok2 := hok.2
  refine lv_aload_n hx hb d_M_cut_0 rfl (lv_at hl 0 rfl) ?_
  refine lv_iconst (v := 0) hx hb d_M_cut_1 (by decide) ?_
  refine p_M_failed C hN hw hS d_M_cut_2 (fun H locs hw hS => ?_)
  refine lv_iload_n hx hb d_M_cut_5 rfl (lv_at hl 1 rfl) ?_
  refine lv_if_lt (tgt := 17) hx hb d_M_cut_6 (by decide) (fun h1 => ?_) (fun h1 => ?_)
  · refine lv_aload_n hx hb d_M_cut_17 rfl (lv_at hl 0 rfl) ?_
    refine lv_iconst (v := 1) hx hb d_M_cut_18 (by decide) ?_
    refine pb_retI (pb_V (rest := []) C f_M_27 ⟨by decide, by decide, by decide, by decide⟩ (c_M_fail l w S (0, T.2) ov 1) hw (pb_Wd_m hw) hl.1 rfl rfl (Nat.le_of_ble_eq_true rfl) d_M_cut_19) hS (rfl) (fun H locs hw hS => ?_)
    exact e_i ⟨hx, hb⟩ hr hlocks hw hS (by rw [show o_cut n T.2.1 = (1, 0, T.2.1) from if_pos (Or.inl h1)]; rfl) (by decide) (by decide) d_M_cut_22
  · refine lv_iload_n hx hb d_M_cut_9 rfl (lv_at hl 1 rfl) ?_
    refine lv_aload_n hx hb d_M_cut_10 rfl (lv_at hl 0 rfl) ?_
    refine g_M_size C hw d_M_cut_11 ?_
    refine lv_icmp_le (tgt := 23) hx hb d_M_cut_14 (by decide) (fun h2 => ?_) (fun h2 => ?_)
    · obtain ⟨k, hk, rfl⟩ : ∃ k : Nat, k ≤ T.2.1.2.1 ∧ n = nI k := by
        obtain ⟨k, hk, rfl⟩ := nI_of h1
        exact ⟨k, (nI_leI hk (by omega)).mp h2, rfl⟩
      refine lv_aload_n hx hb d_M_cut_23 rfl (lv_at hl 0 rfl) ?_
      refine g_M_size C hw d_M_cut_24 ?_
      refine lv_istore_n (lv' := [(2, .int (nI T.2.1.2.1)), (0, .ref (w_m w)), (1, .int (nI k))]) hx hb d_M_cut_27 rfl hl (by decide) rfl (fun ls hl => ?_)
      refine lv_aload_n hx hb d_M_cut_28 rfl (lv_at hl 1 rfl) ?_
      refine lv_iload_n hx hb d_M_cut_29 rfl (lv_at hl 2 rfl) ?_
      refine p_M_size C hN hw hS (k) d_M_cut_30 (fun H locs hw hS => ?_)
      refine lv_aload_n hx hb d_M_cut_33 rfl (lv_at hl 1 rfl) ?_
      refine lv_aload_n hx hb d_M_cut_34 rfl (lv_at hl 1 rfl) ?_
      refine g_M_place C hw d_M_cut_35 ?_
      refine lv_iload_n hx hb d_M_cut_38 rfl (lv_at hl 2 rfl) ?_
      refine va_mmin hx hb (by rw [C.2.2.1]; exact hl.1.symm) hown (hts _ pb_k316) (hts _ pb_k317) (hts _ pb_k8) (hts _ pb_k318) (by decide) (Nat.le_of_ble_eq_true rfl) (by decide) (by decide) d_M_cut_39 ?_
      refine lv_eqi (y := nI (min T.2.1.1 k)) (i_min (a := T.2.1.1) (b := k) (by omega) (by omega)) ?_
      refine p_M_place C hN hw hS (min T.2.1.1 k) d_M_cut_42 (fun H locs hw hS => ?_)
      refine lv_iload_n hx hb d_M_cut_45 rfl (lv_at hl 0 rfl) ?_
      exact e_i ⟨hx, hb⟩ hr hlocks hw hS (by rw [o_cut_k hk (by omega)]; rfl) (by decide) (by decide) d_M_cut_46
    · refine lv_aload_n hx hb d_M_cut_17 rfl (lv_at hl 0 rfl) ?_
      refine lv_iconst (v := 1) hx hb d_M_cut_18 (by decide) ?_
      refine pb_retI (pb_V (rest := []) C f_M_27 ⟨by decide, by decide, by decide, by decide⟩ (c_M_fail l w S (0, T.2) ov 1) hw (pb_Wd_m hw) hl.1 rfl rfl (Nat.le_of_ble_eq_true rfl) d_M_cut_19) hS (rfl) (fun H locs hw hS => ?_)
      exact e_i ⟨hx, hb⟩ hr hlocks hw hS (by rw [show o_cut n T.2.1 = (1, 0, T.2.1) from if_pos (Or.inr (Int32.not_le.mp h2))]; rfl) (by decide) (by decide) d_M_cut_22
abbrev rm_M_count : Room := { frames := 1, cells := 0, slots := 0, locals := 21 }
set_option maxHeartbeats 4000000 in
set_option maxRecDepth 100000 in
theorem c_M_count (l : Launch) (w : Wc) (S : St) (T : Mt) (ov : Int64) (n : Int32) : pb_C l w y_M_count rm_M_count [.ref (w_m w), .int n] S T ov (mI S T ov (o_count n T.2.1)) := by
  refine pb_enter (cc := prog_3_method_25_code) (maxL := 2) (ret := some .int) (own := "PackedBitsModel") (by decide) pb_k386 rfl (Nat.le_of_ble_eq_true rfl) ?_
  intro p e s m below meth c ls C hr hlocks hno hN hw hS hl
  have hx := C.1
  have hb := C.2.1
  have hown := C.2.2.2.1
  have hts := C.2.2.2.2
  have hl : lv_has ls 2 [(0, .ref (w_m w)), (1, .int n)] := hl
  refine lv_aload_n hx hb d_M_count_0 rfl (lv_at hl 0 rfl) ?_
  refine lv_iconst (v := 0) hx hb d_M_count_1 (by decide) ?_
  refine p_M_failed C hN hw hS d_M_count_2 (fun H locs hw hS => ?_)
  refine lv_iload_n hx hb d_M_count_5 rfl (lv_at hl 1 rfl) ?_
  refine lv_if_ne (tgt := 16) hx hb d_M_count_6 (by decide) (fun h1 => ?_) (fun h1 => ?_)
  · refine lv_iload_n hx hb d_M_count_16 rfl (lv_at hl 1 rfl) ?_
    refine lv_iconst (v := 1) hx hb d_M_count_17 (by decide) ?_
    refine lv_icmp_ne (tgt := 28) hx hb d_M_count_18 (by decide) (fun h2 => ?_) (fun h2 => ?_)
    · refine lv_aload_n hx hb d_M_count_28 rfl (lv_at hl 0 rfl) ?_
      refine lv_iconst (v := 1) hx hb d_M_count_29 (by decide) ?_
      refine pb_retI (pb_V (rest := []) C f_M_27 ⟨by decide, by decide, by decide, by decide⟩ (c_M_fail l w S (0, T.2) ov 1) hw (pb_Wd_m hw) hl.1 rfl rfl (Nat.le_of_ble_eq_true rfl) d_M_count_30) hS (rfl) (fun H locs hw hS => ?_)
      exact e_i ⟨hx, hb⟩ hr hlocks hw hS (by rw [show o_count n T.2.1 = (1, 0, T.2.1) by unfold o_count; rw [if_neg h1, if_neg h2]]; rfl) (by decide) (by decide) d_M_count_33
    · refine lv_aload_n hx hb d_M_count_21 rfl (lv_at hl 0 rfl) ?_
      refine g_M_place C hw d_M_count_22 ?_
      refine lv_goto (tgt := 33) hx hb d_M_count_25 (by decide) ?_
      exact e_i ⟨hx, hb⟩ hr hlocks hw hS (by rw [show o_count n T.2.1 = (0, nI T.2.1.1, T.2.1) by unfold o_count; rw [if_neg h1, if_pos h2]]; rfl) (by decide) (by decide) d_M_count_33
  · refine lv_aload_n hx hb d_M_count_9 rfl (lv_at hl 0 rfl) ?_
    refine g_M_size C hw d_M_count_10 ?_
    refine lv_goto (tgt := 33) hx hb d_M_count_13 (by decide) ?_
    exact e_i ⟨hx, hb⟩ hr hlocks hw hS (by rw [show o_count n T.2.1 = (0, nI T.2.1.2.1, T.2.1) from if_pos h1]; rfl) (by decide) (by decide) d_M_count_33
end
section
/-! part 17 (printed by gen/g17.py): M: get, begin, done, take, takeRange, length, takeLength, takeNumber -/
abbrev rm_M_get : Room := { frames := 0, cells := 0, slots := 0, locals := 0 }
set_option maxHeartbeats 4000000 in
set_option maxRecDepth 100000 in
theorem c_M_get (l : Launch) (w : Wc) (S : St) (T : Mt) (ov : Int64) (n : Nat) (hn : n ≤ 64) (hin : m_in T) : pb_C l w y_M_get rm_M_get [.ref (w_m w), .int (nI n)] S T ov (.inl (some (.long (m_get n T).1)), S, (m_get n T).2, ov) := by
  refine pb_enter (cc := prog_3_method_14_code) (maxL := 5) (ret := some .long) (own := "PackedBitsModel") (by decide) pb_k350 rfl (Nat.le_of_ble_eq_true rfl) ?_
  intro p e s m below meth c ls C hr hlocks hno hN hw hS hl
  have hx := C.1
  have hb := C.2.1
  have hown := C.2.2.2.1
  have hts := C.2.2.2.2
  have hl : lv_has ls 5 [(0, .ref (w_m w)), (1, .int (nI n))] := hl
  have hin1 := hin.1
  have hin2 := hin.2
  have J18 : ∀ (H : Heap) (locs : List Loc), m_get n T = (0, (T.1, T.2.1, T.2.2.1, false)) → pb_Wd w S (T.1, T.2.1, T.2.2.1, false) ov s H → va_S (w_A w) s.heap H locs → W p l e rm_M_get s m ([.ref (w_m w), .int (nI n)] : List Value).toArray below meth c H locs (0) (0) (pb_MQA below (pb_Q w (.inl (some (.long (m_get n T).1)), S, (m_get n T).2, ov)) ([.ref (w_m w), .int (nI n)] : List Value).toArray s rm_M_get.cells rm_M_get.slots (w_A w)) (F0 m 18 ls []) := by
    intro H locs hq hw hS
    refine lv_lconst (v := 0) hx hb d_M_get_18 (by decide) ?_
    refine lv_lstore_n (lv' := [(2, .long 0), (0, .ref (w_m w)), (1, .int (nI n))]) hx hb d_M_get_19 rfl hl (by decide) rfl (fun ls hl => ?_)
    refine lv_iconst (v := 0) hx hb d_M_get_20 (by decide) ?_
    refine lv_istore (lv' := [(4, .int 0), (2, .long 0), (0, .ref (w_m w)), (1, .int (nI n))]) hx hb d_M_get_21 hl (by decide) rfl (fun ls hl => ?_)
    refine lv_iload hx hb d_M_get_23 (lv_at hl 0 rfl) ?_
    refine lv_iload_n hx hb d_M_get_25 rfl (lv_at hl 3 rfl) ?_
    refine lv_icmp_ge (tgt := 74) hx hb d_M_get_26 (by decide) (fun h2 => ?_) (fun h2 => ?_)
    · refine lv_lload_n hx hb d_M_get_74 rfl (lv_at hl 1 rfl) ?_
      exact e_l ⟨hx, hb⟩ hr hlocks hw hS (by rw [hq]) (by decide) (by decide) d_M_get_75
    · refine lv_aload_n hx hb d_M_get_29 rfl (lv_at hl 2 rfl) ?_
      refine g_M_good C hw d_M_get_30 ?_
      refine lv_if_eq (tgt := 74) hx hb d_M_get_33 (by decide) (fun h3 => ?_) (fun h3 => ?_)
      · refine lv_lload_n hx hb d_M_get_74 rfl (lv_at hl 1 rfl) ?_
        exact e_l ⟨hx, hb⟩ hr hlocks hw hS (by rw [hq]) (by decide) (by decide) d_M_get_75
      · exact absurd rfl h3
  refine lv_aload_n hx hb d_M_get_0 rfl (lv_at hl 0 rfl) ?_
  refine g_M_reading C hw d_M_get_1 ?_
  refine lv_iload_n hx hb d_M_get_4 rfl (lv_at hl 1 rfl) ?_
  refine lv_iadd hx hb d_M_get_5 ?_
  refine lv_aload_n hx hb d_M_get_6 rfl (lv_at hl 0 rfl) ?_
  refine g_M_size C hw d_M_get_7 ?_
  refine lv_icmp_le (tgt := 18) hx hb d_M_get_10 (by decide) (fun h1 => ?_) (fun h1 => ?_)
  · have h2 : T.2.2.1 + n ≤ T.2.1.2.1 := by
      rw [nI_add] at h1
      exact (nI_leI (by omega) (by omega)).mp h1
    by_cases hg : T.2.2.2 = true
    · have hT : T = (T.1, T.2.1, T.2.2.1 + 0, true) := by rw [← hg]; rfl
      refine lv_lconst (v := 0) hx hb d_M_get_18 (by decide) ?_
      refine lv_lstore_n (lv' := [(2, .long 0), (0, .ref (w_m w)), (1, .int (nI n))]) hx hb d_M_get_19 rfl hl (by decide) rfl (fun ls hl => ?_)
      refine lv_iconst (v := 0) hx hb d_M_get_20 (by decide) ?_
      refine lv_istore (lv' := [(4, .int 0), (2, .long 0), (0, .ref (w_m w)), (1, .int (nI n))]) hx hb d_M_get_21 hl (by decide) rfl (fun ls hl => ?_)
      have loop : ∀ k, k ≤ n → (∀ (H : Heap) (locs : List Loc) (ls : Array Slot), pb_Wd w S (T.1, T.2.1, T.2.2.1 + k, true) ov s H → va_S (w_A w) s.heap H locs → lv_has ls 5 [(4, .int (nI k)), (2, .long (rdv T.2.1.2.2 T.2.2.1 k)), (0, .ref (w_m w)), (1, .int (nI n))] → W p l e rm_M_get s m ([.ref (w_m w), .int (nI n)] : List Value).toArray below meth c H locs (0) (0) (pb_MQA below (pb_Q w (.inl (some (.long (m_get n T).1)), S, (m_get n T).2, ov)) ([.ref (w_m w), .int (nI n)] : List Value).toArray s rm_M_get.cells rm_M_get.slots (w_A w)) (F0 m 23 ls [])) := by
        refine up_loop n (fun k hk ih => ?_)
        intro H locs ls hw hS hl
        refine lv_iload hx hb d_M_get_23 (lv_at hl 0 rfl) ?_
        refine lv_iload_n hx hb d_M_get_25 rfl (lv_at hl 3 rfl) ?_
        refine lv_icmp_ge (tgt := 74) hx hb d_M_get_26 (by decide) (fun h3 => ?_) (fun h3 => ?_)
        · have h4 : k = n := by
            have h5 := (nI_leI (by omega) (by omega)).mp h3
            omega
          subst h4
          refine lv_lload_n hx hb d_M_get_74 rfl (lv_at hl 1 rfl) ?_
          exact e_l ⟨hx, hb⟩ hr hlocks hw hS (by rw [m_get_ok ⟨hg, h2⟩]) (by decide) (by decide) d_M_get_75
        · have h4 : k < n := Nat.lt_of_not_le (fun z => h3 ((nI_leI (by omega) (by omega)).mpr z))
          refine lv_aload_n hx hb d_M_get_29 rfl (lv_at hl 2 rfl) ?_
          refine g_M_good C hw d_M_get_30 ?_
          refine lv_if_eq (tgt := 74) hx hb d_M_get_33 (by decide) (fun h5 => ?_) (fun h5 => ?_)
          · exact absurd h5 (by decide : ¬ bI true = 0)
          · refine lv_lload_n hx hb d_M_get_36 rfl (lv_at hl 1 rfl) ?_
            refine lv_iconst (v := 1) hx hb d_M_get_37 (by decide) ?_
            refine lv_lshl hx hb d_M_get_38 rfl ?_
            refine lv_aload_n hx hb d_M_get_39 rfl (lv_at hl 2 rfl) ?_
            refine g_M_row C hw d_M_get_40 ?_
            refine lv_aload_n hx hb d_M_get_43 rfl (lv_at hl 2 rfl) ?_
            refine g_M_reading C hw d_M_get_44 ?_
            refine z_ld ⟨hx, hb⟩ hw (k := T.2.2.1 + k) (by omega) d_M_get_47 ?_
            refine lv_if_eq (tgt := 55) hx hb d_M_get_48 (by decide) (fun h6 => ?_) (fun h6 => ?_)
            · have hv : T.2.1.2.2 (T.2.2.1 + k) = false := by
                cases hc : T.2.1.2.2 (T.2.2.1 + k)
                · rfl
                · rw [hc] at h6; exact absurd h6 (by decide)
              refine lv_lconst (v := 0) hx hb d_M_get_55 (by decide) ?_
              refine lv_lor hx hb d_M_get_56 ?_
              refine lv_eql (y := rdv T.2.1.2.2 T.2.2.1 (k + 1)) (by rw [rdv_succ, hv]; rfl) ?_
              refine lv_lstore_n (lv' := [(2, .long (rdv T.2.1.2.2 T.2.2.1 (k + 1))), (4, .int (nI k)), (0, .ref (w_m w)), (1, .int (nI n))]) hx hb d_M_get_57 rfl hl (by decide) rfl (fun ls hl => ?_)
              refine lv_aload_n hx hb d_M_get_58 rfl (lv_at hl 2 rfl) ?_
              refine lv_dup hx hb d_M_get_59 rfl ?_
              refine g_M_reading C hw d_M_get_60 ?_
              refine lv_iconst (v := 1) hx hb d_M_get_63 (by decide) ?_
              refine lv_iadd hx hb d_M_get_64 ?_
              refine lv_eqi (y := nI (T.2.2.1 + (k + 1))) (nI_1 _) ?_
              refine p_M_reading C hN hw hS (T.2.2.1 + (k + 1)) d_M_get_65 (fun H locs hw hS => ?_)
              refine lv_iinc (k := 1) (v := nI (k + 1)) (lv' := [(4, .int (nI (k + 1))), (2, .long (rdv T.2.1.2.2 T.2.2.1 (k + 1))), (0, .ref (w_m w)), (1, .int (nI n))]) hx hb d_M_get_68 hl rfl (nI_1 k) (by decide) rfl (fun ls hl => ?_)
              refine lv_goto (tgt := 23) hx hb d_M_get_71 (by decide) ?_
              exact ih h4 H locs ls hw hS hl
            · have hv : T.2.1.2.2 (T.2.2.1 + k) = true := by
                cases hc : T.2.1.2.2 (T.2.2.1 + k)
                · rw [hc] at h6; exact absurd rfl h6
                · rfl
              refine lv_lconst (v := 1) hx hb d_M_get_51 (by decide) ?_
              refine lv_goto (tgt := 56) hx hb d_M_get_52 (by decide) ?_
              refine lv_lor hx hb d_M_get_56 ?_
              refine lv_eql (y := rdv T.2.1.2.2 T.2.2.1 (k + 1)) (by rw [rdv_succ, hv]; rfl) ?_
              refine lv_lstore_n (lv' := [(2, .long (rdv T.2.1.2.2 T.2.2.1 (k + 1))), (4, .int (nI k)), (0, .ref (w_m w)), (1, .int (nI n))]) hx hb d_M_get_57 rfl hl (by decide) rfl (fun ls hl => ?_)
              refine lv_aload_n hx hb d_M_get_58 rfl (lv_at hl 2 rfl) ?_
              refine lv_dup hx hb d_M_get_59 rfl ?_
              refine g_M_reading C hw d_M_get_60 ?_
              refine lv_iconst (v := 1) hx hb d_M_get_63 (by decide) ?_
              refine lv_iadd hx hb d_M_get_64 ?_
              refine lv_eqi (y := nI (T.2.2.1 + (k + 1))) (nI_1 _) ?_
              refine p_M_reading C hN hw hS (T.2.2.1 + (k + 1)) d_M_get_65 (fun H locs hw hS => ?_)
              refine lv_iinc (k := 1) (v := nI (k + 1)) (lv' := [(4, .int (nI (k + 1))), (2, .long (rdv T.2.1.2.2 T.2.2.1 (k + 1))), (0, .ref (w_m w)), (1, .int (nI n))]) hx hb d_M_get_68 hl rfl (nI_1 k) (by decide) rfl (fun ls hl => ?_)
              refine lv_goto (tgt := 23) hx hb d_M_get_71 (by decide) ?_
              exact ih h4 H locs ls hw hS hl
      exact loop 0 (by omega) s.heap [] ls (by rw [← hT]; exact hw) hS hl
    · have hT : T = (T.1, T.2.1, T.2.2.1, false) := by rw [← Bool.eq_false_iff.mpr hg]
      exact J18 s.heap [] (m_get_no (fun z => hg z.1)) (by rw [← hT]; exact hw) hS
  · have h2 : ¬ T.2.2.1 + n ≤ T.2.1.2.1 := by
      rw [nI_add] at h1
      exact fun z => h1 ((nI_leI (by omega) (by omega)).mpr z)
    refine lv_aload_n hx hb d_M_get_13 rfl (lv_at hl 0 rfl) ?_
    refine lv_iconst (v := 0) hx hb d_M_get_14 (by decide) ?_
    refine p_M_good C hN hw hS (false) d_M_get_15 (fun H locs hw hS => ?_)
    exact J18 H locs (m_get_no (fun z => h2 z.2)) hw hS
abbrev rm_M_begin : Room := { frames := 0, cells := 0, slots := 0, locals := 0 }
set_option maxHeartbeats 4000000 in
set_option maxRecDepth 100000 in
theorem c_M_begin (l : Launch) (w : Wc) (S : St) (T : Mt) (ov : Int64)  : pb_C l w y_M_begin rm_M_begin [.ref (w_m w)] S T ov (.inl none, S, m_beg T, ov) := by
  refine pb_enter (cc := prog_3_method_15_code) (maxL := 1) (ret := none) (own := "PackedBitsModel") (by decide) pb_k346 rfl (Nat.le_of_ble_eq_true rfl) ?_
  intro p e s m below meth c ls C hr hlocks hno hN hw hS hl
  have hx := C.1
  have hb := C.2.1
  have hown := C.2.2.2.1
  have hts := C.2.2.2.2
  have hl : lv_has ls 1 [(0, .ref (w_m w))] := hl
  refine lv_aload_n hx hb d_M_begin_0 rfl (lv_at hl 0 rfl) ?_
  refine lv_iconst (v := 0) hx hb d_M_begin_1 (by decide) ?_
  refine p_M_failed C hN hw hS d_M_begin_2 (fun H locs hw hS => ?_)
  refine lv_aload_n hx hb d_M_begin_5 rfl (lv_at hl 0 rfl) ?_
  refine lv_aload_n hx hb d_M_begin_6 rfl (lv_at hl 0 rfl) ?_
  refine g_M_place C hw d_M_begin_7 ?_
  refine p_M_reading C hN hw hS (T.2.1.1) d_M_begin_10 (fun H locs hw hS => ?_)
  refine lv_aload_n hx hb d_M_begin_13 rfl (lv_at hl 0 rfl) ?_
  refine lv_iconst (v := 1) hx hb d_M_begin_14 (by decide) ?_
  refine p_M_good C hN hw hS (true) d_M_begin_15 (fun H locs hw hS => ?_)
  exact e_v ⟨hx, hb⟩ hr hlocks hw hS (rfl) (by decide) (by decide) d_M_begin_18
abbrev rm_M_done : Room := { frames := 1, cells := 0, slots := 0, locals := 21 }
set_option maxHeartbeats 4000000 in
set_option maxRecDepth 100000 in
theorem c_M_done (l : Launch) (w : Wc) (S : St) (T : Mt) (ov : Int64) (v : Int64) (code : Int32) : pb_C l w y_M_done rm_M_done [.ref (w_m w), .long v, .int code] S T ov (.inl (some (.long (m_done v code T).1)), S, (m_done v code T).2, ov) := by
  refine pb_enter (cc := prog_3_method_16_code) (maxL := 4) (ret := some .long) (own := "PackedBitsModel") (by decide) pb_k354 rfl (Nat.le_of_ble_eq_true rfl) ?_
  intro p e s m below meth c ls C hr hlocks hno hN hw hS hl
  have hx := C.1
  have hb := C.2.1
  have hown := C.2.2.2.1
  have hts := C.2.2.2.2
  have hl : lv_has ls 4 [(0, .ref (w_m w)), (1, .long v), (3, .int code)] := hl
  refine lv_aload_n hx hb d_M_done_0 rfl (lv_at hl 0 rfl) ?_
  refine g_M_good C hw d_M_done_1 ?_
  refine lv_if_ne (tgt := 14) hx hb d_M_done_4 (by decide) (fun h1 => ?_) (fun h1 => ?_)
  · have hg : T.2.2.2 = true := by
      cases hc : T.2.2.2
      · rw [hc] at h1; exact absurd rfl h1
      · rfl
    refine lv_aload_n hx hb d_M_done_14 rfl (lv_at hl 0 rfl) ?_
    refine lv_aload_n hx hb d_M_done_15 rfl (lv_at hl 0 rfl) ?_
    refine g_M_reading C hw d_M_done_16 ?_
    refine p_M_place C hN hw hS (T.2.2.1) d_M_done_19 (fun H locs hw hS => ?_)
    refine lv_lload_n hx hb d_M_done_22 rfl (lv_at hl 1 rfl) ?_
    exact e_l ⟨hx, hb⟩ hr hlocks hw hS (by rw [m_done_ok hg]) (by decide) (by decide) d_M_done_23
  · have hg : T.2.2.2 = false := by
      cases hc : T.2.2.2
      · rfl
      · rw [hc] at h1; exact absurd h1 (by decide)
    refine lv_aload_n hx hb d_M_done_7 rfl (lv_at hl 0 rfl) ?_
    refine lv_iload_n hx hb d_M_done_8 rfl (lv_at hl 2 rfl) ?_
    refine pb_retI (pb_V (rest := []) C f_M_27 ⟨by decide, by decide, by decide, by decide⟩ (c_M_fail l w S T ov code) hw (pb_Wd_m hw) hl.1 rfl rfl (Nat.le_of_ble_eq_true rfl) d_M_done_9) hS (rfl) (fun H locs hw hS => ?_)
    refine lv_i2l hx hb d_M_done_12 rfl ?_
    exact e_l ⟨hx, hb⟩ hr hlocks hw hS (by rw [m_done_no hg]; rfl) (by decide) (by decide) d_M_done_13
abbrev rm_M_take : Room := { frames := 2, cells := 0, slots := 0, locals := 44 }
set_option maxHeartbeats 4000000 in
set_option maxRecDepth 100000 in
theorem c_M_take (l : Launch) (w : Wc) (S : St) (T : Mt) (ov : Int64) (n : Int32) (hok : pb_ok T.2.1) : pb_C l w y_M_take rm_M_take [.ref (w_m w), .int n] S T ov (.inl (some (.long (m_take n T).1)), S, (m_take n T).2, ov) := by
  refine pb_enter (cc := prog_3_method_17_code) (maxL := 2) (ret := some .long) (own := "PackedBitsModel") (by decide) pb_k342 rfl (Nat.le_of_ble_eq_true rfl) ?_
  intro p e s m below meth c ls C hr hlocks hno hN hw hS hl
  have hx := C.1
  have hb := C.2.1
  have hown := C.2.2.2.1
  have hts := C.2.2.2.2
  have hl : lv_has ls 2 [(0, .ref (w_m w)), (1, .int n)] := hl
  refine lv_aload_n hx hb d_M_take_0 rfl (lv_at hl 0 rfl) ?_
  refine pb_retV (pb_V (rest := []) C f_M_67 ⟨by decide, by decide, by decide, by decide⟩ (c_M_begin l w S T ov) hw (pb_Wd_m hw) hl.1 rfl rfl (Nat.le_of_ble_eq_true rfl) d_M_take_1) hS (rfl) (fun H locs hw hS => ?_)
  refine lv_iload_n hx hb d_M_take_4 rfl (lv_at hl 1 rfl) ?_
  refine lv_if_lt (tgt := 14) hx hb d_M_take_5 (by decide) (fun h1 => ?_) (fun h1 => ?_)
  · refine lv_aload_n hx hb d_M_take_14 rfl (lv_at hl 0 rfl) ?_
    refine lv_iconst (v := 1) hx hb d_M_take_15 (by decide) ?_
    refine pb_retI (pb_V (rest := []) C f_M_27 ⟨by decide, by decide, by decide, by decide⟩ (c_M_fail l w S (m_beg T) ov 1) hw (pb_Wd_m hw) hl.1 rfl rfl (Nat.le_of_ble_eq_true rfl) d_M_take_16) hS (rfl) (fun H locs hw hS => ?_)
    refine lv_i2l hx hb d_M_take_19 rfl ?_
    exact e_l ⟨hx, hb⟩ hr hlocks hw hS (by rw [show m_take n T = (0, (1, (m_beg T).2)) from if_pos (Or.inl h1)]; rfl) (by decide) (by decide) d_M_take_20
  · refine lv_iload_n hx hb d_M_take_8 rfl (lv_at hl 1 rfl) ?_
    refine lv_bipush (v := 64) hx hb d_M_take_9 (by decide) ?_
    refine lv_icmp_le (tgt := 21) hx hb d_M_take_11 (by decide) (fun h2 => ?_) (fun h2 => ?_)
    · have hq : m_take n T = m_done (m_get n.toNatClampNeg (m_beg T)).1 2 (m_get n.toNatClampNeg (m_beg T)).2 := if_neg (fun z => z.elim h1 (Int32.not_lt.mpr h2))
      obtain ⟨k, hk, rfl⟩ := nI_of2 (M := 64) (n := 64) rfl h1 h2
      rw [nI_clamp (by omega)] at hq
      refine lv_aload_n hx hb d_M_take_21 rfl (lv_at hl 0 rfl) ?_
      refine lv_aload_n hx hb d_M_take_22 rfl (lv_at hl 0 rfl) ?_
      refine lv_iload_n hx hb d_M_take_23 rfl (lv_at hl 1 rfl) ?_
      refine pb_retL (pb_V (rest := [.ref (w_m w)]) C f_M_70 ⟨by decide, by decide, by decide, by decide⟩ (c_M_get l w S (m_beg T) ov k hk (m_beg_in hok)) hw (pb_Wd_m hw) hl.1 rfl rfl (Nat.le_of_ble_eq_true rfl) d_M_take_24) hS (rfl) (fun H locs hw hS => ?_)
      refine lv_iconst (v := 2) hx hb d_M_take_27 (by decide) ?_
      refine pb_retL (pb_V (rest := []) C f_M_74 ⟨by decide, by decide, by decide, by decide⟩ (c_M_done l w S (m_get k (m_beg T)).2 ov (m_get k (m_beg T)).1 2) hw (pb_Wd_m hw) hl.1 rfl rfl (Nat.le_of_ble_eq_true rfl) d_M_take_28) hS (rfl) (fun H locs hw hS => ?_)
      exact e_l ⟨hx, hb⟩ hr hlocks hw hS (by rw [hq]) (by decide) (by decide) d_M_take_31
    · refine lv_aload_n hx hb d_M_take_14 rfl (lv_at hl 0 rfl) ?_
      refine lv_iconst (v := 1) hx hb d_M_take_15 (by decide) ?_
      refine pb_retI (pb_V (rest := []) C f_M_27 ⟨by decide, by decide, by decide, by decide⟩ (c_M_fail l w S (m_beg T) ov 1) hw (pb_Wd_m hw) hl.1 rfl rfl (Nat.le_of_ble_eq_true rfl) d_M_take_16) hS (rfl) (fun H locs hw hS => ?_)
      refine lv_i2l hx hb d_M_take_19 rfl ?_
      exact e_l ⟨hx, hb⟩ hr hlocks hw hS (by rw [show m_take n T = (0, (1, (m_beg T).2)) from if_pos (Or.inr (Int32.not_le.mp h2))]; rfl) (by decide) (by decide) d_M_take_20
abbrev rm_M_takeRange : Room := { frames := 2, cells := 0, slots := 0, locals := 44 }
set_option maxHeartbeats 4000000 in
set_option maxRecDepth 100000 in
theorem c_M_takeRange (l : Launch) (w : Wc) (S : St) (T : Mt) (ov : Int64) (lo hi : Int64) (hok : pb_ok T.2.1) : pb_C l w y_M_takeRange rm_M_takeRange [.ref (w_m w), .long lo, .long hi] S T ov (.inl (some (.long (m_takeRange lo hi T).1)), S, (m_takeRange lo hi T).2, ov) := by
  refine pb_enter (cc := prog_3_method_18_code) (maxL := 9) (ret := some .long) (own := "PackedBitsModel") (by decide) pb_k358 rfl (Nat.le_of_ble_eq_true rfl) ?_
  intro p e s m below meth c ls C hr hlocks hno hN hw hS hl
  have hx := C.1
  have hb := C.2.1
  have hown := C.2.2.2.1
  have hts := C.2.2.2.2
  have hl : lv_has ls 9 [(0, .ref (w_m w)), (1, .long lo), (3, .long hi)] := hl
  refine lv_aload_n hx hb d_M_takeRange_0 rfl (lv_at hl 0 rfl) ?_
  refine pb_retV (pb_V (rest := []) C f_M_67 ⟨by decide, by decide, by decide, by decide⟩ (c_M_begin l w S T ov) hw (pb_Wd_m hw) hl.1 rfl rfl (Nat.le_of_ble_eq_true rfl) d_M_takeRange_1) hS (rfl) (fun H locs hw hS => ?_)
  refine lv_lload_n hx hb d_M_takeRange_4 rfl (lv_at hl 1 rfl) ?_
  refine lv_lload_n hx hb d_M_takeRange_5 rfl (lv_at hl 2 rfl) ?_
  refine lc_le (tgt := 17) ⟨hx, hb⟩ d_M_takeRange_6 d_M_takeRange_7 (by decide) (fun h1 => ?_) (fun h1 => ?_)
  · have hq : m_takeRange lo hi T = m_done (lo + (m_get (wid (hi - lo)) (m_beg T)).1) 2 (m_tr (hi - lo) (m_get (wid (hi - lo)) (m_beg T)).1 (m_get (wid (hi - lo)) (m_beg T)).2) := if_neg (Int64.not_lt.mpr h1)
    refine lv_lload_n hx hb d_M_takeRange_17 rfl (lv_at hl 2 rfl) ?_
    refine lv_lload_n hx hb d_M_takeRange_18 rfl (lv_at hl 1 rfl) ?_
    refine lv_lsub hx hb d_M_takeRange_19 ?_
    refine lv_lstore (lv' := [(5, .long ((hi) - (lo))), (0, .ref (w_m w)), (1, .long lo), (3, .long hi)]) hx hb d_M_takeRange_20 hl (by decide) rfl (fun ls hl => ?_)
    refine lv_aload_n hx hb d_M_takeRange_22 rfl (lv_at hl 1 rfl) ?_
    refine lv_aload_n hx hb d_M_takeRange_23 rfl (lv_at hl 1 rfl) ?_
    refine lv_lload hx hb d_M_takeRange_24 (lv_at hl 0 rfl) ?_
    refine pb_retI (pb_V (rest := [.ref (w_m w)]) C f_M_18 ⟨by decide, by decide, by decide, by decide⟩ (c_M_width l w S (m_beg T) ov (hi - lo)) hw (pb_Wd_m hw) hl.1 rfl rfl (Nat.le_of_ble_eq_true rfl) d_M_takeRange_26) hS (rfl) (fun H locs hw hS => ?_)
    refine pb_retL (pb_V (rest := []) C f_M_70 ⟨by decide, by decide, by decide, by decide⟩ (c_M_get l w S (m_beg T) ov (wid (hi - lo)) (wid_le _) (m_beg_in hok)) hw (pb_Wd_m hw) hl.1 rfl rfl (Nat.le_of_ble_eq_true rfl) d_M_takeRange_29) hS (rfl) (fun H locs hw hS => ?_)
    refine lv_lstore (lv' := [(7, .long ((m_get (wid (hi - lo)) (m_beg T)).1)), (5, .long ((hi) - (lo))), (0, .ref (w_m w)), (1, .long lo), (3, .long hi)]) hx hb d_M_takeRange_32 hl (by decide) rfl (fun ls hl => ?_)
    have J79 : ∀ (Y : Mt) (H : Heap) (locs : List Loc), Y = m_tr (hi - lo) (m_get (wid (hi - lo)) (m_beg T)).1 (m_get (wid (hi - lo)) (m_beg T)).2 → pb_Wd w S Y ov s H → va_S (w_A w) s.heap H locs → W p l e rm_M_takeRange s m ([.ref (w_m w), .long lo, .long hi] : List Value).toArray below meth c H locs (0 + rm_M_begin.cells + rm_M_width.cells + rm_M_get.cells) (0 + rm_M_begin.slots + rm_M_width.slots + rm_M_get.slots) (pb_MQA below (pb_Q w (.inl (some (.long (m_takeRange lo hi T).1)), S, (m_takeRange lo hi T).2, ov)) ([.ref (w_m w), .long lo, .long hi] : List Value).toArray s rm_M_takeRange.cells rm_M_takeRange.slots (w_A w)) (F0 m 79 ls []) := by
      intro Y H locs hY hw hS
      refine lv_aload_n hx hb d_M_takeRange_79 rfl (lv_at hl 2 rfl) ?_
      refine lv_lload_n hx hb d_M_takeRange_80 rfl (lv_at hl 3 rfl) ?_
      refine lv_lload hx hb d_M_takeRange_81 (lv_at hl 0 rfl) ?_
      refine lv_ladd hx hb d_M_takeRange_83 ?_
      refine lv_iconst (v := 2) hx hb d_M_takeRange_84 (by decide) ?_
      refine pb_retL (pb_V (rest := []) C f_M_74 ⟨by decide, by decide, by decide, by decide⟩ (c_M_done l w S Y ov (lo + (m_get (wid (hi - lo)) (m_beg T)).1) 2) hw (pb_Wd_m hw) hl.1 rfl rfl (Nat.le_of_ble_eq_true rfl) d_M_takeRange_85) hS (rfl) (fun H locs hw hS => ?_)
      exact e_l ⟨hx, hb⟩ hr hlocks hw hS (by rw [hq, ← hY]) (by decide) (by decide) d_M_takeRange_88
    have J74 : (((m_get (wid (hi - lo)) (m_beg T)).1 < 0 ∧ (0 ≤ hi - lo ∨ hi - lo < (m_get (wid (hi - lo)) (m_beg T)).1)) ∨ (0 ≤ (m_get (wid (hi - lo)) (m_beg T)).1 ∧ 0 ≤ hi - lo ∧ hi - lo < (m_get (wid (hi - lo)) (m_beg T)).1)) → W p l e rm_M_takeRange s m ([.ref (w_m w), .long lo, .long hi] : List Value).toArray below meth c H locs (0 + rm_M_begin.cells + rm_M_width.cells + rm_M_get.cells) (0 + rm_M_begin.slots + rm_M_width.slots + rm_M_get.slots) (pb_MQA below (pb_Q w (.inl (some (.long (m_takeRange lo hi T).1)), S, (m_takeRange lo hi T).2, ov)) ([.ref (w_m w), .long lo, .long hi] : List Value).toArray s rm_M_takeRange.cells rm_M_takeRange.slots (w_A w)) (F0 m 74 ls []) := by
      intro hc
      refine lv_aload_n hx hb d_M_takeRange_74 rfl (lv_at hl 2 rfl) ?_
      refine lv_iconst (v := 0) hx hb d_M_takeRange_75 (by decide) ?_
      refine p_M_good C hN hw hS (false) d_M_takeRange_76 (fun H locs hw hS => ?_)
      exact J79 (m_bad (m_get (wid (hi - lo)) (m_beg T)).2) H locs (if_pos hc).symm hw hS
    refine lv_lload hx hb d_M_takeRange_34 (lv_at hl 0 rfl) ?_
    refine lv_lconst (v := 0) hx hb d_M_takeRange_36 (by decide) ?_
    refine lc_ge (tgt := 59) ⟨hx, hb⟩ d_M_takeRange_37 d_M_takeRange_38 (by decide) (fun h2 => ?_) (fun h2 => ?_)
    · refine lv_lload hx hb d_M_takeRange_59 (lv_at hl 1 rfl) ?_
      refine lv_lconst (v := 0) hx hb d_M_takeRange_61 (by decide) ?_
      refine lc_lt (tgt := 79) ⟨hx, hb⟩ d_M_takeRange_62 d_M_takeRange_63 (by decide) (fun h3 => ?_) (fun h3 => ?_)
      · exact J79 (m_get (wid (hi - lo)) (m_beg T)).2 H locs (if_neg (fun z => z.elim (fun u => absurd u.1 (Int64.not_lt.mpr h2)) (fun u => absurd h3 (Int64.not_lt.mpr u.2.1)))).symm hw hS
      · refine lv_lload hx hb d_M_takeRange_66 (lv_at hl 0 rfl) ?_
        refine lv_lload hx hb d_M_takeRange_68 (lv_at hl 1 rfl) ?_
        refine lc_le (tgt := 79) ⟨hx, hb⟩ d_M_takeRange_70 d_M_takeRange_71 (by decide) (fun h4 => ?_) (fun h4 => ?_)
        · exact J79 (m_get (wid (hi - lo)) (m_beg T)).2 H locs (if_neg (fun z => z.elim (fun u => absurd u.1 (Int64.not_lt.mpr h2)) (fun u => absurd u.2.2 (Int64.not_lt.mpr h4)))).symm hw hS
        · exact J74 (Or.inr ⟨h2, Int64.not_lt.mp h3, Int64.not_le.mp h4⟩)
    · refine lv_lload hx hb d_M_takeRange_41 (lv_at hl 1 rfl) ?_
      refine lv_lconst (v := 0) hx hb d_M_takeRange_43 (by decide) ?_
      refine lc_ge (tgt := 74) ⟨hx, hb⟩ d_M_takeRange_44 d_M_takeRange_45 (by decide) (fun h3 => ?_) (fun h3 => ?_)
      · exact J74 (Or.inl ⟨Int64.not_le.mp h2, Or.inl h3⟩)
      · refine lv_lload hx hb d_M_takeRange_48 (lv_at hl 0 rfl) ?_
        refine lv_lload hx hb d_M_takeRange_50 (lv_at hl 1 rfl) ?_
        refine lc_le (tgt := 79) ⟨hx, hb⟩ d_M_takeRange_52 d_M_takeRange_53 (by decide) (fun h4 => ?_) (fun h4 => ?_)
        · exact J79 (m_get (wid (hi - lo)) (m_beg T)).2 H locs (if_neg (fun z => z.elim (fun u => u.2.elim h3 (fun t => absurd t (Int64.not_lt.mpr h4))) (fun u => h2 u.1))).symm hw hS
        · refine lv_goto (tgt := 74) hx hb d_M_takeRange_56 (by decide) ?_
          exact J74 (Or.inl ⟨Int64.not_le.mp h2, Or.inr (Int64.not_le.mp h4)⟩)
  · refine lv_aload_n hx hb d_M_takeRange_10 rfl (lv_at hl 0 rfl) ?_
    refine lv_iconst (v := 1) hx hb d_M_takeRange_11 (by decide) ?_
    refine pb_retI (pb_V (rest := []) C f_M_27 ⟨by decide, by decide, by decide, by decide⟩ (c_M_fail l w S (m_beg T) ov 1) hw (pb_Wd_m hw) hl.1 rfl rfl (Nat.le_of_ble_eq_true rfl) d_M_takeRange_12) hS (rfl) (fun H locs hw hS => ?_)
    refine lv_i2l hx hb d_M_takeRange_15 rfl ?_
    exact e_l ⟨hx, hb⟩ hr hlocks hw hS (by rw [show m_takeRange lo hi T = (0, (1, (m_beg T).2)) from if_pos (Int64.not_le.mp h1)]; rfl) (by decide) (by decide) d_M_takeRange_16
abbrev rm_M_length : Room := { frames := 1, cells := 0, slots := 0, locals := 24 }
set_option maxHeartbeats 4000000 in
set_option maxRecDepth 100000 in
theorem c_M_length (l : Launch) (w : Wc) (S : St) (T : Mt) (ov : Int64) (hin : m_in T) : pb_C l w y_M_length rm_M_length [.ref (w_m w)] S T ov (.inl (some (.int (m_len T).1)), S, (m_len T).2, ov) := by
  refine pb_enter (cc := prog_3_method_19_code) (maxL := 2) (ret := some .int) (own := "PackedBitsModel") (by decide) pb_k366 rfl (Nat.le_of_ble_eq_true rfl) ?_
  intro p e s m below meth c ls C hr hlocks hno hN hw hS hl
  have hx := C.1
  have hb := C.2.1
  have hown := C.2.2.2.1
  have hts := C.2.2.2.2
  have hl : lv_has ls 2 [(0, .ref (w_m w))] := hl
  have i1 : m_in (m_get 1 T).2 := m_get_in hin
  have i2 : m_in (m_get 1 (m_get 1 T).2).2 := m_get_in i1
  refine lv_aload_n hx hb d_M_length_0 rfl (lv_at hl 0 rfl) ?_
  refine lv_iconst (v := 1) hx hb d_M_length_1 (by decide) ?_
  refine pb_retL (pb_V (rest := []) C f_M_70 ⟨by decide, by decide, by decide, by decide⟩ (c_M_get l w S (T) ov 1 (by decide) hin) hw (pb_Wd_m hw) hl.1 rfl rfl (Nat.le_of_ble_eq_true rfl) d_M_length_2) hS (rfl) (fun H locs hw hS => ?_)
  refine lv_lconst (v := 0) hx hb d_M_length_5 (by decide) ?_
  refine lc_ne (tgt := 18) ⟨hx, hb⟩ d_M_length_6 d_M_length_7 (by decide) (fun h1 => ?_) (fun h1 => ?_)
  · have hq : m_len T = m_len2 (m_get 1 T).2 := if_neg h1
    refine lv_aload_n hx hb d_M_length_18 rfl (lv_at hl 0 rfl) ?_
    refine lv_iconst (v := 1) hx hb d_M_length_19 (by decide) ?_
    refine pb_retL (pb_V (rest := []) C f_M_70 ⟨by decide, by decide, by decide, by decide⟩ (c_M_get l w S ((m_get 1 T).2) ov 1 (by decide) i1) hw (pb_Wd_m hw) hl.1 rfl rfl (Nat.le_of_ble_eq_true rfl) d_M_length_20) hS (rfl) (fun H locs hw hS => ?_)
    refine lv_lconst (v := 0) hx hb d_M_length_23 (by decide) ?_
    refine lc_ne (tgt := 50) ⟨hx, hb⟩ d_M_length_24 d_M_length_25 (by decide) (fun h2 => ?_) (fun h2 => ?_)
    · have hq2 : m_len T = m_len4 (m_get 1 (m_get 1 T).2).2 := hq.trans (if_neg h2)
      refine lv_aload_n hx hb d_M_length_50 rfl (lv_at hl 0 rfl) ?_
      refine lv_bipush (v := 6) hx hb d_M_length_51 (by decide) ?_
      refine pb_retL (pb_V (rest := []) C f_M_70 ⟨by decide, by decide, by decide, by decide⟩ (c_M_get l w S ((m_get 1 (m_get 1 T).2).2) ov 6 (by decide) i2) hw (pb_Wd_m hw) hl.1 rfl rfl (Nat.le_of_ble_eq_true rfl) d_M_length_53) hS (rfl) (fun H locs hw hS => ?_)
      refine lv_l2i hx hb d_M_length_56 rfl ?_
      refine lv_istore_n (lv' := [(1, .int (((m_get 6 ((m_get 1 (m_get 1 T).2).2)).1 : Int64).toInt32)), (0, .ref (w_m w))]) hx hb d_M_length_57 rfl hl (by decide) rfl (fun ls hl => ?_)
      refine lv_iload_n hx hb d_M_length_58 rfl (lv_at hl 0 rfl) ?_
      refine lv_iconst (v := 1) hx hb d_M_length_59 (by decide) ?_
      have J73 : ∀ (Y : Mt) (H : Heap) (locs : List Loc), Y = (m_len4 (m_get 1 (m_get 1 T).2).2).2 → pb_Wd w S Y ov s H → va_S (w_A w) s.heap H locs → W p l e rm_M_length s m ([.ref (w_m w)] : List Value).toArray below meth c H locs (0 + rm_M_get.cells + rm_M_get.cells + rm_M_get.cells) (0 + rm_M_get.slots + rm_M_get.slots + rm_M_get.slots) (pb_MQA below (pb_Q w (.inl (some (.int (m_len T).1)), S, (m_len T).2, ov)) ([.ref (w_m w)] : List Value).toArray s rm_M_length.cells rm_M_length.slots (w_A w)) (F0 m 73 ls []) := by
        intro Y H locs hY hw hS
        refine lv_sipush (v := 16384) hx hb d_M_length_73 (by decide) ?_
        refine lv_iload_n hx hb d_M_length_76 rfl (lv_at hl 0 rfl) ?_
        refine lv_imul hx hb d_M_length_77 ?_
        exact e_i ⟨hx, hb⟩ hr hlocks hw hS (by rw [hq2, hY]; rfl) (by decide) (by decide) d_M_length_78
      have J68 : ((m_get 6 (m_get 1 (m_get 1 T).2).2).1.toInt32 < 1 ∨ 4 < (m_get 6 (m_get 1 (m_get 1 T).2).2).1.toInt32) → W p l e rm_M_length s m ([.ref (w_m w)] : List Value).toArray below meth c H locs (0 + rm_M_get.cells + rm_M_get.cells + rm_M_get.cells) (0 + rm_M_get.slots + rm_M_get.slots + rm_M_get.slots) (pb_MQA below (pb_Q w (.inl (some (.int (m_len T).1)), S, (m_len T).2, ov)) ([.ref (w_m w)] : List Value).toArray s rm_M_length.cells rm_M_length.slots (w_A w)) (F0 m 68 ls []) := by
        intro hc
        refine lv_aload_n hx hb d_M_length_68 rfl (lv_at hl 1 rfl) ?_
        refine lv_iconst (v := 0) hx hb d_M_length_69 (by decide) ?_
        refine p_M_good C hN hw hS (false) d_M_length_70 (fun H locs hw hS => ?_)
        exact J73 (m_bad (m_get 6 (m_get 1 (m_get 1 T).2).2).2) H locs (if_pos hc).symm hw hS
      refine lv_icmp_lt (tgt := 68) hx hb d_M_length_60 (by decide) (fun h3 => ?_) (fun h3 => ?_)
      · exact J68 (Or.inl h3)
      · refine lv_iload_n hx hb d_M_length_63 rfl (lv_at hl 0 rfl) ?_
        refine lv_iconst (v := 4) hx hb d_M_length_64 (by decide) ?_
        refine lv_icmp_le (tgt := 73) hx hb d_M_length_65 (by decide) (fun h4 => ?_) (fun h4 => ?_)
        · exact J73 (m_get 6 (m_get 1 (m_get 1 T).2).2).2 H locs (if_neg (fun z => z.elim h3 (Int32.not_lt.mpr h4))).symm hw hS
        · exact J68 (Or.inr (Int32.not_le.mp h4))
    · have hq2 : m_len T = m_len3 (m_get 1 (m_get 1 T).2).2 := hq.trans (if_pos h2)
      refine lv_aload_n hx hb d_M_length_28 rfl (lv_at hl 0 rfl) ?_
      refine lv_bipush (v := 14) hx hb d_M_length_29 (by decide) ?_
      refine pb_retL (pb_V (rest := []) C f_M_70 ⟨by decide, by decide, by decide, by decide⟩ (c_M_get l w S ((m_get 1 (m_get 1 T).2).2) ov 14 (by decide) i2) hw (pb_Wd_m hw) hl.1 rfl rfl (Nat.le_of_ble_eq_true rfl) d_M_length_31) hS (rfl) (fun H locs hw hS => ?_)
      refine lv_l2i hx hb d_M_length_34 rfl ?_
      refine lv_istore_n (lv' := [(1, .int (((m_get 14 ((m_get 1 (m_get 1 T).2).2)).1 : Int64).toInt32)), (0, .ref (w_m w))]) hx hb d_M_length_35 rfl hl (by decide) rfl (fun ls hl => ?_)
      refine lv_iload_n hx hb d_M_length_36 rfl (lv_at hl 0 rfl) ?_
      refine lv_sipush (v := 128) hx hb d_M_length_37 (by decide) ?_
      refine lv_icmp_ge (tgt := 48) hx hb d_M_length_40 (by decide) (fun h3 => ?_) (fun h3 => ?_)
      · refine lv_iload_n hx hb d_M_length_48 rfl (lv_at hl 0 rfl) ?_
        exact e_i ⟨hx, hb⟩ hr hlocks hw hS (by rw [hq2, show m_len3 (m_get 1 (m_get 1 T).2).2 = ((m_get 14 (m_get 1 (m_get 1 T).2).2).1.toInt32, (m_get 14 (m_get 1 (m_get 1 T).2).2).2) from congrArg (Prod.mk _) (if_neg (Int32.not_lt.mpr h3))]) (by decide) (by decide) d_M_length_49
      · refine lv_aload_n hx hb d_M_length_43 rfl (lv_at hl 1 rfl) ?_
        refine lv_iconst (v := 0) hx hb d_M_length_44 (by decide) ?_
        refine p_M_good C hN hw hS (false) d_M_length_45 (fun H locs hw hS => ?_)
        refine lv_iload_n hx hb d_M_length_48 rfl (lv_at hl 0 rfl) ?_
        exact e_i ⟨hx, hb⟩ hr hlocks hw hS (by rw [hq2, show m_len3 (m_get 1 (m_get 1 T).2).2 = ((m_get 14 (m_get 1 (m_get 1 T).2).2).1.toInt32, m_bad (m_get 14 (m_get 1 (m_get 1 T).2).2).2) from congrArg (Prod.mk _) (if_pos (Int32.not_le.mp h3))]; rfl) (by decide) (by decide) d_M_length_49
  · have hq : m_len T = m_len1 (m_get 1 T).2 := if_pos h1
    refine lv_aload_n hx hb d_M_length_10 rfl (lv_at hl 0 rfl) ?_
    refine lv_bipush (v := 7) hx hb d_M_length_11 (by decide) ?_
    refine pb_retL (pb_V (rest := []) C f_M_70 ⟨by decide, by decide, by decide, by decide⟩ (c_M_get l w S ((m_get 1 T).2) ov 7 (by decide) i1) hw (pb_Wd_m hw) hl.1 rfl rfl (Nat.le_of_ble_eq_true rfl) d_M_length_13) hS (rfl) (fun H locs hw hS => ?_)
    refine lv_l2i hx hb d_M_length_16 rfl ?_
    exact e_i ⟨hx, hb⟩ hr hlocks hw hS (by rw [hq]; rfl) (by decide) (by decide) d_M_length_17
abbrev rm_M_takeLength : Room := { frames := 2, cells := 0, slots := 0, locals := 45 }
set_option maxHeartbeats 4000000 in
set_option maxRecDepth 100000 in
theorem c_M_takeLength (l : Launch) (w : Wc) (S : St) (T : Mt) (ov : Int64) (hok : pb_ok T.2.1) : pb_C l w y_M_takeLength rm_M_takeLength [.ref (w_m w)] S T ov (.inl (some (.int (m_takeLength T).1)), S, (m_takeLength T).2, ov) := by
  refine pb_enter (cc := prog_3_method_20_code) (maxL := 1) (ret := some .int) (own := "PackedBitsModel") (by decide) pb_k362 rfl (Nat.le_of_ble_eq_true rfl) ?_
  intro p e s m below meth c ls C hr hlocks hno hN hw hS hl
  have hx := C.1
  have hb := C.2.1
  have hown := C.2.2.2.1
  have hts := C.2.2.2.2
  have hl : lv_has ls 1 [(0, .ref (w_m w))] := hl
  refine lv_aload_n hx hb d_M_takeLength_0 rfl (lv_at hl 0 rfl) ?_
  refine pb_retV (pb_V (rest := []) C f_M_67 ⟨by decide, by decide, by decide, by decide⟩ (c_M_begin l w S T ov) hw (pb_Wd_m hw) hl.1 rfl rfl (Nat.le_of_ble_eq_true rfl) d_M_takeLength_1) hS (rfl) (fun H locs hw hS => ?_)
  refine lv_aload_n hx hb d_M_takeLength_4 rfl (lv_at hl 0 rfl) ?_
  refine lv_aload_n hx hb d_M_takeLength_5 rfl (lv_at hl 0 rfl) ?_
  refine pb_retI (pb_V (rest := [.ref (w_m w)]) C f_M_78 ⟨by decide, by decide, by decide, by decide⟩ (c_M_length l w S (m_beg T) ov (m_beg_in hok)) hw (pb_Wd_m hw) hl.1 rfl rfl (Nat.le_of_ble_eq_true rfl) d_M_takeLength_6) hS (rfl) (fun H locs hw hS => ?_)
  refine lv_i2l hx hb d_M_takeLength_9 rfl ?_
  refine lv_iconst (v := 1) hx hb d_M_takeLength_10 (by decide) ?_
  refine pb_retL (pb_V (rest := []) C f_M_74 ⟨by decide, by decide, by decide, by decide⟩ (c_M_done l w S (m_len (m_beg T)).2 ov (m_len (m_beg T)).1.toInt64 1) hw (pb_Wd_m hw) hl.1 rfl rfl (Nat.le_of_ble_eq_true rfl) d_M_takeLength_11) hS (rfl) (fun H locs hw hS => ?_)
  refine lv_l2i hx hb d_M_takeLength_14 rfl ?_
  exact e_i ⟨hx, hb⟩ hr hlocks hw hS (rfl) (by decide) (by decide) d_M_takeLength_15
abbrev rm_M_takeNumber : Room := { frames := 2, cells := 0, slots := 0, locals := 45 }
set_option maxHeartbeats 4000000 in
set_option maxRecDepth 100000 in
theorem c_M_takeNumber (l : Launch) (w : Wc) (S : St) (T : Mt) (ov : Int64) (kind : Int32) (hok : pb_ok T.2.1) : pb_C l w y_M_takeNumber rm_M_takeNumber [.ref (w_m w), .int kind] S T ov (.inl (some (.long (m_takeNumber kind T).1)), S, (m_takeNumber kind T).2, ov) := by
  refine pb_enter (cc := prog_3_method_21_code) (maxL := 5) (ret := some .long) (own := "PackedBitsModel") (by decide) pb_k370 rfl (Nat.le_of_ble_eq_true rfl) ?_
  intro p e s m below meth c ls C hr hlocks hno hN hw hS hl
  have hx := C.1
  have hb := C.2.1
  have hown := C.2.2.2.1
  have hts := C.2.2.2.2
  have hl : lv_has ls 5 [(0, .ref (w_m w)), (1, .int kind)] := hl
  have i0 : m_in (m_beg T) := m_beg_in hok
  refine lv_aload_n hx hb d_M_takeNumber_0 rfl (lv_at hl 0 rfl) ?_
  refine pb_retV (pb_V (rest := []) C f_M_67 ⟨by decide, by decide, by decide, by decide⟩ (c_M_begin l w S T ov) hw (pb_Wd_m hw) hl.1 rfl rfl (Nat.le_of_ble_eq_true rfl) d_M_takeNumber_1) hS (rfl) (fun H locs hw hS => ?_)
  refine lv_iload_n hx hb d_M_takeNumber_4 rfl (lv_at hl 1 rfl) ?_
  refine lv_if_lt (tgt := 13) hx hb d_M_takeNumber_5 (by decide) (fun h1 => ?_) (fun h1 => ?_)
  · refine lv_aload_n hx hb d_M_takeNumber_13 rfl (lv_at hl 0 rfl) ?_
    refine lv_iconst (v := 1) hx hb d_M_takeNumber_14 (by decide) ?_
    refine pb_retI (pb_V (rest := []) C f_M_27 ⟨by decide, by decide, by decide, by decide⟩ (c_M_fail l w S (m_beg T) ov 1) hw (pb_Wd_m hw) hl.1 rfl rfl (Nat.le_of_ble_eq_true rfl) d_M_takeNumber_15) hS (rfl) (fun H locs hw hS => ?_)
    refine lv_i2l hx hb d_M_takeNumber_18 rfl ?_
    exact e_l ⟨hx, hb⟩ hr hlocks hw hS (by rw [show m_takeNumber kind T = (0, (1, (m_beg T).2)) from if_pos (Or.inl h1)]; rfl) (by decide) (by decide) d_M_takeNumber_19
  · refine lv_iload_n hx hb d_M_takeNumber_8 rfl (lv_at hl 1 rfl) ?_
    refine lv_iconst (v := 2) hx hb d_M_takeNumber_9 (by decide) ?_
    refine lv_icmp_le (tgt := 20) hx hb d_M_takeNumber_10 (by decide) (fun h2 => ?_) (fun h2 => ?_)
    · have hq0 : m_takeNumber kind T = if kind = 2 then (if (m_get 1 (m_beg T)).1 = 0 then m_num1 (m_get 1 (m_beg T)).2 else m_num2 kind (m_get 1 (m_beg T)).2) else m_num2 kind (m_beg T) := if_neg (fun z => z.elim h1 (Int32.not_lt.mpr h2))
      have J47 : ∀ (Y : Mt) (H : Heap) (locs : List Loc), m_in Y → m_takeNumber kind T = m_num2 kind Y → pb_Wd w S Y ov s H → va_S (w_A w) s.heap H locs → W p l e rm_M_takeNumber s m ([.ref (w_m w), .int kind] : List Value).toArray below meth c H locs (0 + rm_M_begin.cells + rm_M_get.cells) (0 + rm_M_begin.slots + rm_M_get.slots) (pb_MQA below (pb_Q w (.inl (some (.long (m_takeNumber kind T).1)), S, (m_takeNumber kind T).2, ov)) ([.ref (w_m w), .int kind] : List Value).toArray s rm_M_takeNumber.cells rm_M_takeNumber.slots (w_A w)) (F0 m 47 ls []) := by
        intro Y H locs hY hq hw hS
        have iL : m_in (m_len Y).2 := m_len_in hY
        refine lv_aload_n hx hb d_M_takeNumber_47 rfl (lv_at hl 0 rfl) ?_
        refine pb_retI (pb_V (rest := []) C f_M_78 ⟨by decide, by decide, by decide, by decide⟩ (c_M_length l w S Y ov hY) hw (pb_Wd_m hw) hl.1 rfl rfl (Nat.le_of_ble_eq_true rfl) d_M_takeNumber_48) hS (rfl) (fun H locs hw hS => ?_)
        refine lv_istore_n (lv' := [(2, .int ((m_len Y).1)), (0, .ref (w_m w)), (1, .int kind)]) hx hb d_M_takeNumber_51 rfl hl (by decide) rfl (fun ls hl => ?_)
        have J68 : ∀ (H : Heap) (locs : List Loc), pb_Wd w S (m_n2 (m_len Y).1 (m_len Y).2) ov s H → va_S (w_A w) s.heap H locs → W p l e rm_M_takeNumber s m ([.ref (w_m w), .int kind] : List Value).toArray below meth c H locs (0 + rm_M_begin.cells + rm_M_get.cells + rm_M_length.cells) (0 + rm_M_begin.slots + rm_M_get.slots + rm_M_length.slots) (pb_MQA below (pb_Q w (.inl (some (.long (m_takeNumber kind T).1)), S, (m_takeNumber kind T).2, ov)) ([.ref (w_m w), .int kind] : List Value).toArray s rm_M_takeNumber.cells rm_M_takeNumber.slots (w_A w)) (F0 m 68 ls []) := by
          intro H locs hw hS
          refine lv_aload_n hx hb d_M_takeNumber_68 rfl (lv_at hl 1 rfl) ?_
          refine g_M_good C hw d_M_takeNumber_69 ?_
          refine lv_if_ne (tgt := 82) hx hb d_M_takeNumber_72 (by decide) (fun h3 => ?_) (fun h3 => ?_)
          · have hg : (m_n2 (m_len Y).1 (m_len Y).2).2.2.2 = true := by
              cases hc : (m_n2 (m_len Y).1 (m_len Y).2).2.2.2
              · rw [hc] at h3; exact absurd rfl h3
              · rfl
            have hv : ¬ ((m_len Y).1 < 1 ∨ 8 < (m_len Y).1) := fun z => by
              rw [show (m_n2 (m_len Y).1 (m_len Y).2) = m_bad (m_len Y).2 from if_pos z] at hg
              exact absurd hg (by show ¬ false = true; decide)
            have hN2 : (m_n2 (m_len Y).1 (m_len Y).2) = (m_len Y).2 := if_neg hv
            have hqk : m_takeNumber kind T = m_num3 kind (m_len Y).1.toNatClampNeg (m_len Y).2 := by
              rw [hq]
              unfold m_num2
              rw [if_pos hg, hN2]
            rw [hN2] at hw
            obtain ⟨k, hk, hlk⟩ : ∃ k : Nat, (1 ≤ k ∧ k ≤ 8) ∧ (m_len Y).1 = nI k := i_18 hv
            rw [hlk, nI_clamp (by omega)] at hqk
            rw [hlk] at hl
            refine lv_aload_n hx hb d_M_takeNumber_82 rfl (lv_at hl 1 rfl) ?_
            refine lv_bipush (v := 8) hx hb d_M_takeNumber_83 (by decide) ?_
            refine lv_iload_n hx hb d_M_takeNumber_85 rfl (lv_at hl 0 rfl) ?_
            refine lv_imul hx hb d_M_takeNumber_86 ?_
            refine lv_eqi (y := nI (8 * k)) (i_8 _) ?_
            refine pb_retL (pb_V (rest := []) C f_M_70 ⟨by decide, by decide, by decide, by decide⟩ (c_M_get l w S (m_len Y).2 ov (8 * k) (by omega) iL) hw (pb_Wd_m hw) hl.1 rfl rfl (Nat.le_of_ble_eq_true rfl) d_M_takeNumber_87) hS (rfl) (fun H locs hw hS => ?_)
            refine lv_lstore_n (lv' := [(3, .long ((m_get (8 * k) (m_len Y).2).1)), (2, .int (nI k)), (0, .ref (w_m w)), (1, .int kind)]) hx hb d_M_takeNumber_90 rfl hl (by decide) rfl (fun ls hl => ?_)
            have J114 : ∀ ls : Array Slot, lv_has ls 5 [(3, .long (o_fix kind k (m_get (8 * k) (m_len Y).2).1)), (2, .int (nI k)), (0, .ref (w_m w)), (1, .int kind)] → W p l e rm_M_takeNumber s m ([.ref (w_m w), .int kind] : List Value).toArray below meth c H locs (0 + rm_M_begin.cells + rm_M_get.cells + rm_M_length.cells + rm_M_get.cells) (0 + rm_M_begin.slots + rm_M_get.slots + rm_M_length.slots + rm_M_get.slots) (pb_MQA below (pb_Q w (.inl (some (.long (m_takeNumber kind T).1)), S, (m_takeNumber kind T).2, ov)) ([.ref (w_m w), .int kind] : List Value).toArray s rm_M_takeNumber.cells rm_M_takeNumber.slots (w_A w)) (F0 m 114 ls []) := by
              intro ls hl
              have J160 : ∀ (H : Heap) (locs : List Loc), pb_Wd w S (m_n3 kind k (o_fix kind k (m_get (8 * k) (m_len Y).2).1) (m_get (8 * k) (m_len Y).2).2) ov s H → va_S (w_A w) s.heap H locs → W p l e rm_M_takeNumber s m ([.ref (w_m w), .int kind] : List Value).toArray below meth c H locs (0 + rm_M_begin.cells + rm_M_get.cells + rm_M_length.cells + rm_M_get.cells + rm_M_bytesOf.cells) (0 + rm_M_begin.slots + rm_M_get.slots + rm_M_length.slots + rm_M_get.slots + rm_M_bytesOf.slots) (pb_MQA below (pb_Q w (.inl (some (.long (m_takeNumber kind T).1)), S, (m_takeNumber kind T).2, ov)) ([.ref (w_m w), .int kind] : List Value).toArray s rm_M_takeNumber.cells rm_M_takeNumber.slots (w_A w)) (F0 m 160 ls []) := by
                intro H locs hw hS
                refine lv_aload_n hx hb d_M_takeNumber_160 rfl (lv_at hl 2 rfl) ?_
                refine lv_lload_n hx hb d_M_takeNumber_161 rfl (lv_at hl 0 rfl) ?_
                refine lv_iconst (v := 2) hx hb d_M_takeNumber_162 (by decide) ?_
                refine pb_retL (pb_V (rest := []) C f_M_74 ⟨by decide, by decide, by decide, by decide⟩ (c_M_done l w S (m_n3 kind k (o_fix kind k (m_get (8 * k) (m_len Y).2).1) (m_get (8 * k) (m_len Y).2).2) ov (o_fix kind k (m_get (8 * k) (m_len Y).2).1) 2) hw (pb_Wd_m hw) hl.1 rfl rfl (Nat.le_of_ble_eq_true rfl) d_M_takeNumber_163) hS (rfl) (fun H locs hw hS => ?_)
                exact e_l ⟨hx, hb⟩ hr hlocks hw hS (by rw [hqk]; rfl) (by decide) (by decide) d_M_takeNumber_166
              have J155 : ∀ (H : Heap) (locs : List Loc), (¬ k = m_by kind (o_fix kind k (m_get (8 * k) (m_len Y).2).1) ∨ (kind = 2 ∧ 0 ≤ o_fix kind k (m_get (8 * k) (m_len Y).2).1 ∧ o_fix kind k (m_get (8 * k) (m_len Y).2).1 < 64)) → pb_Wd w S (m_get (8 * k) (m_len Y).2).2 ov s H → va_S (w_A w) s.heap H locs → W p l e rm_M_takeNumber s m ([.ref (w_m w), .int kind] : List Value).toArray below meth c H locs (0 + rm_M_begin.cells + rm_M_get.cells + rm_M_length.cells + rm_M_get.cells + rm_M_bytesOf.cells) (0 + rm_M_begin.slots + rm_M_get.slots + rm_M_length.slots + rm_M_get.slots + rm_M_bytesOf.slots) (pb_MQA below (pb_Q w (.inl (some (.long (m_takeNumber kind T).1)), S, (m_takeNumber kind T).2, ov)) ([.ref (w_m w), .int kind] : List Value).toArray s rm_M_takeNumber.cells rm_M_takeNumber.slots (w_A w)) (F0 m 155 ls []) := by
                intro H locs hc hw hS
                refine lv_aload_n hx hb d_M_takeNumber_155 rfl (lv_at hl 2 rfl) ?_
                refine lv_iconst (v := 0) hx hb d_M_takeNumber_156 (by decide) ?_
                refine p_M_good C hN hw hS (false) d_M_takeNumber_157 (fun H locs hw hS => ?_)
                exact J160 H locs (by rw [show (m_n3 kind k (o_fix kind k (m_get (8 * k) (m_len Y).2).1) (m_get (8 * k) (m_len Y).2).2) = m_bad (m_get (8 * k) (m_len Y).2).2 from if_pos hc]; exact hw) hS
              have J133 : ∀ (H : Heap) (locs : List Loc), pb_Wd w S (m_get (8 * k) (m_len Y).2).2 ov s H → va_S (w_A w) s.heap H locs → W p l e rm_M_takeNumber s m ([.ref (w_m w), .int kind] : List Value).toArray below meth c H locs (0 + rm_M_begin.cells + rm_M_get.cells + rm_M_length.cells + rm_M_get.cells + rm_M_bytesOf.cells) (0 + rm_M_begin.slots + rm_M_get.slots + rm_M_length.slots + rm_M_get.slots + rm_M_bytesOf.slots) (pb_MQA below (pb_Q w (.inl (some (.long (m_takeNumber kind T).1)), S, (m_takeNumber kind T).2, ov)) ([.ref (w_m w), .int kind] : List Value).toArray s rm_M_takeNumber.cells rm_M_takeNumber.slots (w_A w)) (F0 m 133 ls [.int (nI (m_by kind (o_fix kind k (m_get (8 * k) (m_len Y).2).1))), .int (nI k)]) := by
                intro H locs hw hS
                refine lv_icmp_ne (tgt := 155) hx hb d_M_takeNumber_133 (by decide) (fun h5 => ?_) (fun h5 => ?_)
                · exact J155 H locs (Or.inl (fun z => h5 (congrArg nI z))) hw hS
                · have h6 : k = m_by kind (o_fix kind k (m_get (8 * k) (m_len Y).2).1) := (nI_eq (by omega) (Nat.lt_of_le_of_lt (m_by_in kind _).2 (by decide))).mp h5
                  refine lv_iload_n hx hb d_M_takeNumber_136 rfl (lv_at hl 3 rfl) ?_
                  refine lv_iconst (v := 2) hx hb d_M_takeNumber_137 (by decide) ?_
                  refine lv_icmp_ne (tgt := 160) hx hb d_M_takeNumber_138 (by decide) (fun h7 => ?_) (fun h7 => ?_)
                  · exact J160 H locs (by rw [show (m_n3 kind k (o_fix kind k (m_get (8 * k) (m_len Y).2).1) (m_get (8 * k) (m_len Y).2).2) = (m_get (8 * k) (m_len Y).2).2 from if_neg (fun z => z.elim (fun t => t h6) (fun t => h7 t.1))]; exact hw) hS
                  · refine lv_lload_n hx hb d_M_takeNumber_141 rfl (lv_at hl 0 rfl) ?_
                    refine lv_lconst (v := 0) hx hb d_M_takeNumber_142 (by decide) ?_
                    refine lc_lt (tgt := 160) ⟨hx, hb⟩ d_M_takeNumber_143 d_M_takeNumber_144 (by decide) (fun h8 => ?_) (fun h8 => ?_)
                    · exact J160 H locs (by rw [show (m_n3 kind k (o_fix kind k (m_get (8 * k) (m_len Y).2).1) (m_get (8 * k) (m_len Y).2).2) = (m_get (8 * k) (m_len Y).2).2 from if_neg (fun z => z.elim (fun t => t h6) (fun t => absurd h8 (Int64.not_lt.mpr t.2.1)))]; exact hw) hS
                    · refine lv_lload_n hx hb d_M_takeNumber_147 rfl (lv_at hl 0 rfl) ?_
                      refine lv_ldc2 hx hb hown (hts _ pb_k325) d_M_takeNumber_148 ?_
                      refine lc_ge (tgt := 160) ⟨hx, hb⟩ d_M_takeNumber_151 d_M_takeNumber_152 (by decide) (fun h9 => ?_) (fun h9 => ?_)
                      · exact J160 H locs (by rw [show (m_n3 kind k (o_fix kind k (m_get (8 * k) (m_len Y).2).1) (m_get (8 * k) (m_len Y).2).2) = (m_get (8 * k) (m_len Y).2).2 from if_neg (fun z => z.elim (fun t => t h6) (fun t => absurd t.2.2 (Int64.not_lt.mpr h9)))]; exact hw) hS
                      · exact J155 H locs (Or.inr ⟨h7, Int64.not_lt.mp h8, Int64.not_le.mp h9⟩) hw hS
              refine lv_iload_n hx hb d_M_takeNumber_114 rfl (lv_at hl 1 rfl) ?_
              refine lv_iload_n hx hb d_M_takeNumber_115 rfl (lv_at hl 3 rfl) ?_
              refine lv_iconst (v := 1) hx hb d_M_takeNumber_116 (by decide) ?_
              refine lv_icmp_ne (tgt := 128) hx hb d_M_takeNumber_117 (by decide) (fun h4 => ?_) (fun h4 => ?_)
              · refine lv_aload_n hx hb d_M_takeNumber_128 rfl (lv_at hl 2 rfl) ?_
                refine lv_lload_n hx hb d_M_takeNumber_129 rfl (lv_at hl 0 rfl) ?_
                refine pb_retI (pb_V (rest := [.int (nI k)]) C f_M_54 ⟨by decide, by decide, by decide, by decide⟩ (c_M_bytesOf l w S (m_get (8 * k) (m_len Y).2).2 ov (o_fix kind k (m_get (8 * k) (m_len Y).2).1)) hw (pb_Wd_m hw) hl.1 rfl rfl (Nat.le_of_ble_eq_true rfl) d_M_takeNumber_130) hS (by rw [← show m_by kind (o_fix kind k (m_get (8 * k) (m_len Y).2).1) = byM (o_fix kind k (m_get (8 * k) (m_len Y).2).1) from if_neg h4]) (fun H locs hw hS => ?_)
                exact J133 H locs hw hS
              · refine lv_aload_n hx hb d_M_takeNumber_120 rfl (lv_at hl 2 rfl) ?_
                refine lv_lload_n hx hb d_M_takeNumber_121 rfl (lv_at hl 0 rfl) ?_
                refine pb_retI (pb_V (rest := [.int (nI k)]) C f_M_51 ⟨by decide, by decide, by decide, by decide⟩ (c_M_complement l w S (m_get (8 * k) (m_len Y).2).2 ov (o_fix kind k (m_get (8 * k) (m_len Y).2).1)) hw (pb_Wd_m hw) hl.1 rfl rfl (Nat.le_of_ble_eq_true rfl) d_M_takeNumber_122) hS (by rw [← show m_by kind (o_fix kind k (m_get (8 * k) (m_len Y).2).1) = byS (o_fix kind k (m_get (8 * k) (m_len Y).2).1) from if_pos h4]) (fun H locs hw hS => ?_)
                refine lv_goto (tgt := 133) hx hb d_M_takeNumber_125 (by decide) ?_
                exact J133 H locs hw hS
            refine lv_iload_n hx hb d_M_takeNumber_91 rfl (lv_at hl 3 rfl) ?_
            refine lv_iconst (v := 1) hx hb d_M_takeNumber_92 (by decide) ?_
            refine lv_icmp_ne (tgt := 114) hx hb d_M_takeNumber_93 (by decide) (fun h4 => ?_) (fun h4 => ?_)
            · exact J114 ls (by unfold o_fix; rw [if_neg h4]; exact hl)
            · refine lv_lload_n hx hb d_M_takeNumber_96 rfl (lv_at hl 0 rfl) ?_
              refine lv_bipush (v := 64) hx hb d_M_takeNumber_97 (by decide) ?_
              refine lv_bipush (v := 8) hx hb d_M_takeNumber_99 (by decide) ?_
              refine lv_iload_n hx hb d_M_takeNumber_101 rfl (lv_at hl 1 rfl) ?_
              refine lv_imul hx hb d_M_takeNumber_102 ?_
              refine lv_eqi (y := nI (8 * k)) (i_8 _) ?_
              refine lv_isub hx hb d_M_takeNumber_103 ?_
              refine lv_lshl hx hb d_M_takeNumber_104 rfl ?_
              refine lv_bipush (v := 64) hx hb d_M_takeNumber_105 (by decide) ?_
              refine lv_bipush (v := 8) hx hb d_M_takeNumber_107 (by decide) ?_
              refine lv_iload_n hx hb d_M_takeNumber_109 rfl (lv_at hl 1 rfl) ?_
              refine lv_imul hx hb d_M_takeNumber_110 ?_
              refine lv_eqi (y := nI (8 * k)) (i_8 _) ?_
              refine lv_isub hx hb d_M_takeNumber_111 ?_
              refine lv_lshr hx hb d_M_takeNumber_112 rfl ?_
              refine lv_lstore_n (lv' := [(3, .long ((((m_get (8 * k) (m_len Y).2).1) <<< (((64) - (nI (8 * k)) : Int32).toInt64 &&& 63)) >>> (((64) - (nI (8 * k)) : Int32).toInt64 &&& 63))), (2, .int (nI k)), (0, .ref (w_m w)), (1, .int kind)]) hx hb d_M_takeNumber_113 rfl hl (by decide) rfl (fun ls hl => ?_)
              exact J114 ls (by unfold o_fix; rw [if_pos h4]; exact hl)
          · have hg : ¬ (m_n2 (m_len Y).1 (m_len Y).2).2.2.2 = true := by
              intro hc
              rw [hc] at h3
              exact absurd h3 (by decide)
            have hqk : m_takeNumber kind T = (0, (2, (m_n2 (m_len Y).1 (m_len Y).2).2)) := by
              rw [hq]
              unfold m_num2
              rw [if_neg hg]
            refine lv_aload_n hx hb d_M_takeNumber_75 rfl (lv_at hl 1 rfl) ?_
            refine lv_iconst (v := 2) hx hb d_M_takeNumber_76 (by decide) ?_
            refine pb_retI (pb_V (rest := []) C f_M_27 ⟨by decide, by decide, by decide, by decide⟩ (c_M_fail l w S ((m_n2 (m_len Y).1 (m_len Y).2)) ov 2) hw (pb_Wd_m hw) hl.1 rfl rfl (Nat.le_of_ble_eq_true rfl) d_M_takeNumber_77) hS (rfl) (fun H locs hw hS => ?_)
            refine lv_i2l hx hb d_M_takeNumber_80 rfl ?_
            exact e_l ⟨hx, hb⟩ hr hlocks hw hS (by rw [hqk]; rfl) (by decide) (by decide) d_M_takeNumber_81
        have J63 : ((m_len Y).1 < 1 ∨ 8 < (m_len Y).1) → W p l e rm_M_takeNumber s m ([.ref (w_m w), .int kind] : List Value).toArray below meth c H locs (0 + rm_M_begin.cells + rm_M_get.cells + rm_M_length.cells) (0 + rm_M_begin.slots + rm_M_get.slots + rm_M_length.slots) (pb_MQA below (pb_Q w (.inl (some (.long (m_takeNumber kind T).1)), S, (m_takeNumber kind T).2, ov)) ([.ref (w_m w), .int kind] : List Value).toArray s rm_M_takeNumber.cells rm_M_takeNumber.slots (w_A w)) (F0 m 63 ls []) := by
          intro hc
          refine lv_aload_n hx hb d_M_takeNumber_63 rfl (lv_at hl 1 rfl) ?_
          refine lv_iconst (v := 0) hx hb d_M_takeNumber_64 (by decide) ?_
          refine p_M_good C hN hw hS (false) d_M_takeNumber_65 (fun H locs hw hS => ?_)
          exact J68 H locs (by rw [show (m_n2 (m_len Y).1 (m_len Y).2) = m_bad (m_len Y).2 from if_pos hc]; exact hw) hS
        refine lv_iload_n hx hb d_M_takeNumber_52 rfl (lv_at hl 0 rfl) ?_
        refine lv_iconst (v := 1) hx hb d_M_takeNumber_53 (by decide) ?_
        refine lv_icmp_lt (tgt := 63) hx hb d_M_takeNumber_54 (by decide) (fun h3 => ?_) (fun h3 => ?_)
        · exact J63 (Or.inl h3)
        · refine lv_iload_n hx hb d_M_takeNumber_57 rfl (lv_at hl 0 rfl) ?_
          refine lv_bipush (v := 8) hx hb d_M_takeNumber_58 (by decide) ?_
          refine lv_icmp_le (tgt := 68) hx hb d_M_takeNumber_60 (by decide) (fun h4 => ?_) (fun h4 => ?_)
          · exact J68 H locs (by rw [show (m_n2 (m_len Y).1 (m_len Y).2) = (m_len Y).2 from if_neg (fun z => z.elim h3 (Int32.not_lt.mpr h4))]; exact hw) hS
          · exact J63 (Or.inr (Int32.not_le.mp h4))
      refine lv_iload_n hx hb d_M_takeNumber_20 rfl (lv_at hl 1 rfl) ?_
      refine lv_iconst (v := 2) hx hb d_M_takeNumber_21 (by decide) ?_
      refine lv_icmp_ne (tgt := 47) hx hb d_M_takeNumber_22 (by decide) (fun h3 => ?_) (fun h3 => ?_)
      · exact W.widen (Nat.le_add_right _ _) (Nat.le_add_right _ _) (J47 (m_beg T) H locs i0 (by rw [hq0, if_neg h3]) hw hS)
      · refine lv_aload_n hx hb d_M_takeNumber_25 rfl (lv_at hl 0 rfl) ?_
        refine lv_iconst (v := 1) hx hb d_M_takeNumber_26 (by decide) ?_
        refine pb_retL (pb_V (rest := []) C f_M_70 ⟨by decide, by decide, by decide, by decide⟩ (c_M_get l w S (m_beg T) ov 1 (by decide) i0) hw (pb_Wd_m hw) hl.1 rfl rfl (Nat.le_of_ble_eq_true rfl) d_M_takeNumber_27) hS (rfl) (fun H locs hw hS => ?_)
        refine lv_lconst (v := 0) hx hb d_M_takeNumber_30 (by decide) ?_
        refine lc_ne (tgt := 47) ⟨hx, hb⟩ d_M_takeNumber_31 d_M_takeNumber_32 (by decide) (fun h4 => ?_) (fun h4 => ?_)
        · exact J47 (m_get 1 (m_beg T)).2 H locs (m_get_in i0) (by rw [hq0, if_pos h3, if_neg h4]) hw hS
        · refine lv_aload_n hx hb d_M_takeNumber_35 rfl (lv_at hl 0 rfl) ?_
          refine lv_aload_n hx hb d_M_takeNumber_36 rfl (lv_at hl 0 rfl) ?_
          refine lv_bipush (v := 6) hx hb d_M_takeNumber_37 (by decide) ?_
          refine pb_retL (pb_V (rest := [.ref (w_m w)]) C f_M_70 ⟨by decide, by decide, by decide, by decide⟩ (c_M_get l w S ((m_get 1 (m_beg T)).2) ov 6 (by decide) (m_get_in i0)) hw (pb_Wd_m hw) hl.1 rfl rfl (Nat.le_of_ble_eq_true rfl) d_M_takeNumber_39) hS (rfl) (fun H locs hw hS => ?_)
          refine lv_iconst (v := 2) hx hb d_M_takeNumber_42 (by decide) ?_
          refine pb_retL (pb_V (rest := []) C f_M_74 ⟨by decide, by decide, by decide, by decide⟩ (c_M_done l w S (m_get 6 (m_get 1 (m_beg T)).2).2 ov (m_get 6 (m_get 1 (m_beg T)).2).1 2) hw (pb_Wd_m hw) hl.1 rfl rfl (Nat.le_of_ble_eq_true rfl) d_M_takeNumber_43) hS (rfl) (fun H locs hw hS => ?_)
          exact e_l ⟨hx, hb⟩ hr hlocks hw hS (by rw [hq0, if_pos h3, if_pos h4]; rfl) (by decide) (by decide) d_M_takeNumber_46
    · refine lv_aload_n hx hb d_M_takeNumber_13 rfl (lv_at hl 0 rfl) ?_
      refine lv_iconst (v := 1) hx hb d_M_takeNumber_14 (by decide) ?_
      refine pb_retI (pb_V (rest := []) C f_M_27 ⟨by decide, by decide, by decide, by decide⟩ (c_M_fail l w S (m_beg T) ov 1) hw (pb_Wd_m hw) hl.1 rfl rfl (Nat.le_of_ble_eq_true rfl) d_M_takeNumber_15) hS (rfl) (fun H locs hw hS => ?_)
      refine lv_i2l hx hb d_M_takeNumber_18 rfl ?_
      exact e_l ⟨hx, hb⟩ hr hlocks hw hS (by rw [show m_takeNumber kind T = (0, (1, (m_beg T).2)) from if_pos (Or.inr (Int32.not_le.mp h2))]; rfl) (by decide) (by decide) d_M_takeNumber_19
end
section
/-! part 18: the codes of the commands; what a helper of the law gives -/
theorem o_w_c (x : Int64) (k : Nat) (S : St) : (o_w x k S).1 ≤ 2 := by
  unfold o_w
  split <;> exact Nat.le_of_ble_eq_true rfl
theorem o_put_c (x : Int64) (n : Int32) (S : St) : (o_put x n S).1 ≤ 2 := by
  unfold o_put
  split
  · exact Nat.le_of_ble_eq_true rfl
  · exact o_w_c _ _ _
theorem o_putRange_c (lo hi n : Int64) (S : St) : (o_putRange lo hi n S).1 ≤ 2 := by
  unfold o_putRange
  split
  · exact Nat.le_of_ble_eq_true rfl
  · exact o_w_c _ _ _
theorem o_putLength_c (n : Int32) (S : St) : (o_putLength n S).1 ≤ 2 := by
  unfold o_putLength
  split
  · exact Nat.le_of_ble_eq_true rfl
  · show (o_lenw n S).1 ≤ 2
    rcases o_lenw_c n S with h | h <;> omega
theorem o_putNumber_c (kind : Int32) (n : Int64) (S : St) : (o_putNumber kind n S).1 ≤ 2 := by
  unfold o_putNumber
  split
  · exact Nat.le_of_ble_eq_true rfl
  · split
    · exact o_w_c _ _ _
    · unfold o_big
      split <;> exact Nat.le_of_ble_eq_true rfl
theorem o_fill_c (S : St) : (o_fill S).1 ≤ 1 := Nat.le_of_ble_eq_true rfl
theorem o_rd_c (k : Nat) (S : St) : (o_rd k S).1 ≤ 2 := by
  unfold o_rd
  split <;> exact Nat.le_of_ble_eq_true rfl
theorem o_take_c (n : Int32) (S : St) : (o_take n S).1 ≤ 2 := by
  unfold o_take
  split
  · exact Nat.le_of_ble_eq_true rfl
  · exact o_rd_c _ _
theorem o_takeRange_c (lo hi : Int64) (S : St) : (o_takeRange lo hi S).1 ≤ 2 := by
  unfold o_takeRange
  repeat' split
  all_goals exact Nat.le_of_ble_eq_true rfl
theorem o_takeLength_c (S : St) : (o_takeLength S).1 ≤ 1 := by
  unfold o_takeLength
  split <;> exact Nat.le_of_ble_eq_true rfl
theorem o_takeNumber_c (kind : Int32) (S : St) : (o_takeNumber kind S).1 ≤ 2 := by
  unfold o_takeNumber
  split
  · exact Nat.le_of_ble_eq_true rfl
  · split <;> exact Nat.le_of_ble_eq_true rfl
theorem o_go_c (n : Int32) (S : St) : (o_go n S).1 ≤ 1 := by
  unfold o_go
  split <;> exact Nat.le_of_ble_eq_true rfl
theorem o_turn_c (n : Int32) (S : St) : (o_turn n S).1 ≤ 1 := by
  unfold o_turn
  split <;> exact Nat.le_of_ble_eq_true rfl
theorem o_cut_c (n : Int32) (S : St) : (o_cut n S).1 ≤ 1 := by
  unfold o_cut
  split <;> exact Nat.le_of_ble_eq_true rfl
theorem o_count_c (n : Int32) (S : St) : (o_count n S).1 ≤ 1 := by
  unfold o_count
  repeat' split
  all_goals exact Nat.le_of_ble_eq_true rfl
def hI (T : Mt) (ov : Int64) (q : Nat × Int32 × St) : Rs := (.inl (some (.int (nI q.1))), q.2.2, T, if q.1 = 0 then q.2.1.toInt64 else ov)
def hL (T : Mt) (ov : Int64) (q : Nat × Int64 × St) : Rs := (.inl (some (.int (nI q.1))), q.2.2, T, if q.1 = 0 then q.2.1 else ov)
def hZ (T : Mt) (ov : Int64) (q : Nat × Bool × St) : Rs := (.inl (some (.int (nI q.1))), q.2.2, T, if q.1 = 0 then (if q.2.1 then 1 else 0) else ov)
end
section
/-! part 19 (printed by gen/g19.py): the helpers of the law -/
abbrev rm_L_put : Room := { frames := 8, cells := 2, slots := 12, locals := 133 }
set_option maxHeartbeats 4000000 in
set_option maxRecDepth 100000 in
theorem c_L_put (l : Launch) (hfl : l.stackTraces = false) (w : Wc) (S : St) (T : Mt) (ov : Int64) (x : Int64) (n : Int32) (hok : pb_ok S) : pb_C l w y_L_put rm_L_put [.ref (w_x w), .long x, .int n, .ref (w_o w)] S T ov (hI T ov (o_put x n S)) := by
  refine pb_enterW (cc := method_3_code) (maxL := 6) (ret := some .int) (own := "PackedBitsLaw") (by decide) pb_k31 rfl (Nat.le_of_ble_eq_true rfl) ?_
  intro p e s m below meth c ls C hr hlocks hno hN hw hS hl
  have hx := C.1
  have hb := C.2.1
  have hown := C.2.2.2.1
  have hts := C.2.2.2.2
  have hl : lv_has ls 6 [(0, .ref (w_x w)), (1, .long x), (3, .int n), (4, .ref (w_o w))] := hl
  have hc := o_put_c x n S
  refine lv_aload hx hb d_L_put_0 (lv_at hl 3 rfl) ?_
  refine lv_iconst (v := 0) hx hb d_L_put_2 (by decide) ?_
  refine lv_aload_n hx hb d_L_put_3 rfl (lv_at hl 0 rfl) ?_
  refine lv_lload_n hx hb d_L_put_4 rfl (lv_at hl 1 rfl) ?_
  refine lv_iload_n hx hb d_L_put_5 rfl (lv_at hl 2 rfl) ?_
  rcases hq : o_put x n S with ⟨_ | _ | _ | j, v, Z⟩
  · refine pb_retI (pb_V (rest := [.int 0, .ref (w_o w)]) C f_L_7 ⟨by decide, by decide, by decide, by decide⟩ (c_X_put l hfl w S T ov x n hok) hw (pb_Wd_x hw) hl.1 rfl rfl (Nat.le_of_ble_eq_true rfl) d_L_put_6) hS (by rw [hq]; rfl) (fun H locs hw hS => ?_)
    refine lv_i2l hx hb d_L_put_9 rfl ?_
    refine o_st ⟨hx, hb⟩ hN hw hS d_L_put_10 (fun H locs hw hS => ?_)
    refine lv_goto (tgt := 22) hx hb d_L_put_11 (by decide) ?_
    refine lv_iconst (v := 0) hx hb d_L_put_22 (by decide) ?_
    exact e_i ⟨hx, hb⟩ hr hlocks hw hS (rfl) (by decide) (by decide) d_L_put_23
  · refine pb_thr (pb_V (rest := [.int 0, .ref (w_o w)]) C f_L_7 ⟨by decide, by decide, by decide, by decide⟩ (c_X_put l hfl w S T ov x n hok) hw (pb_Wd_x hw) hl.1 rfl rfl (Nat.le_of_ble_eq_true rfl) d_L_put_6) hS (by rw [hq]; rfl) (fun xa H locs hw hS hex => ?_)
    refine pb_catch1 (x := ⟨0, 11, 14, 13⟩) (t := [⟨0, 11, 18, 15⟩]) hown hts hno (by decide) (by decide) pb_k32 pb_k43 hex ?_
    refine lv_astore (lv' := [(5, .ref xa), (0, .ref (w_x w)), (1, .long x), (3, .int n), (4, .ref (w_o w))]) hx hb d_L_put_14 hl (by decide) rfl (fun ls hl => ?_)
    refine lv_iconst (v := 1) hx hb d_L_put_16 (by decide) ?_
    exact e_i ⟨hx, hb⟩ hr hlocks hw hS (rfl) (by decide) (by decide) d_L_put_17
  · refine pb_thr (pb_V (rest := [.int 0, .ref (w_o w)]) C f_L_7 ⟨by decide, by decide, by decide, by decide⟩ (c_X_put l hfl w S T ov x n hok) hw (pb_Wd_x hw) hl.1 rfl rfl (Nat.le_of_ble_eq_true rfl) d_L_put_6) hS (by rw [hq]; rfl) (fun xa H locs hw hS hex => ?_)
    refine pb_catch2 (x1 := ⟨0, 11, 14, 13⟩) (x := ⟨0, 11, 18, 15⟩) (t := []) hown hts hno (by decide) (by decide) pb_k32 (pb_Wd_nc hw) (by decide) (by decide) pb_k33 pb_k110 hex ?_
    refine lv_astore (lv' := [(5, .ref xa), (0, .ref (w_x w)), (1, .long x), (3, .int n), (4, .ref (w_o w))]) hx hb d_L_put_18 hl (by decide) rfl (fun ls hl => ?_)
    refine lv_iconst (v := 2) hx hb d_L_put_20 (by decide) ?_
    exact e_i ⟨hx, hb⟩ hr hlocks hw hS (rfl) (by decide) (by decide) d_L_put_21
  · rw [hq] at hc
    have hc : j + 3 ≤ 2 := hc
    omega
abbrev rm_L_putRange : Room := { frames := 8, cells := 2, slots := 12, locals := 137 }
set_option maxHeartbeats 4000000 in
set_option maxRecDepth 100000 in
theorem c_L_putRange (l : Launch) (hfl : l.stackTraces = false) (w : Wc) (S : St) (T : Mt) (ov : Int64) (lo hi n : Int64) (hok : pb_ok S) : pb_C l w y_L_putRange rm_L_putRange [.ref (w_x w), .long lo, .long hi, .long n, .ref (w_o w)] S T ov (hI T ov (o_putRange lo hi n S)) := by
  refine pb_enterW (cc := method_4_code) (maxL := 9) (ret := some .int) (own := "PackedBitsLaw") (by decide) pb_k133 rfl (Nat.le_of_ble_eq_true rfl) ?_
  intro p e s m below meth c ls C hr hlocks hno hN hw hS hl
  have hx := C.1
  have hb := C.2.1
  have hown := C.2.2.2.1
  have hts := C.2.2.2.2
  have hl : lv_has ls 9 [(0, .ref (w_x w)), (1, .long lo), (3, .long hi), (5, .long n), (7, .ref (w_o w))] := hl
  have hc := o_putRange_c lo hi n S
  refine lv_aload hx hb d_L_putRange_0 (lv_at hl 4 rfl) ?_
  refine lv_iconst (v := 0) hx hb d_L_putRange_2 (by decide) ?_
  refine lv_aload_n hx hb d_L_putRange_3 rfl (lv_at hl 0 rfl) ?_
  refine lv_lload_n hx hb d_L_putRange_4 rfl (lv_at hl 1 rfl) ?_
  refine lv_lload_n hx hb d_L_putRange_5 rfl (lv_at hl 2 rfl) ?_
  refine lv_lload hx hb d_L_putRange_6 (lv_at hl 3 rfl) ?_
  rcases hq : o_putRange lo hi n S with ⟨_ | _ | _ | j, v, Z⟩
  · refine pb_retI (pb_V (rest := [.int 0, .ref (w_o w)]) C f_L_17 ⟨by decide, by decide, by decide, by decide⟩ (c_X_putRange l hfl w S T ov lo hi n hok) hw (pb_Wd_x hw) hl.1 rfl rfl (Nat.le_of_ble_eq_true rfl) d_L_putRange_8) hS (by rw [hq]; rfl) (fun H locs hw hS => ?_)
    refine lv_i2l hx hb d_L_putRange_11 rfl ?_
    refine o_st ⟨hx, hb⟩ hN hw hS d_L_putRange_12 (fun H locs hw hS => ?_)
    refine lv_goto (tgt := 24) hx hb d_L_putRange_13 (by decide) ?_
    refine lv_iconst (v := 0) hx hb d_L_putRange_24 (by decide) ?_
    exact e_i ⟨hx, hb⟩ hr hlocks hw hS (rfl) (by decide) (by decide) d_L_putRange_25
  · refine pb_thr (pb_V (rest := [.int 0, .ref (w_o w)]) C f_L_17 ⟨by decide, by decide, by decide, by decide⟩ (c_X_putRange l hfl w S T ov lo hi n hok) hw (pb_Wd_x hw) hl.1 rfl rfl (Nat.le_of_ble_eq_true rfl) d_L_putRange_8) hS (by rw [hq]; rfl) (fun xa H locs hw hS hex => ?_)
    refine pb_catch1 (x := ⟨0, 13, 16, 13⟩) (t := [⟨0, 13, 20, 15⟩]) hown hts hno (by decide) (by decide) pb_k32 pb_k43 hex ?_
    refine lv_astore (lv' := [(8, .ref xa), (0, .ref (w_x w)), (1, .long lo), (3, .long hi), (5, .long n), (7, .ref (w_o w))]) hx hb d_L_putRange_16 hl (by decide) rfl (fun ls hl => ?_)
    refine lv_iconst (v := 1) hx hb d_L_putRange_18 (by decide) ?_
    exact e_i ⟨hx, hb⟩ hr hlocks hw hS (rfl) (by decide) (by decide) d_L_putRange_19
  · refine pb_thr (pb_V (rest := [.int 0, .ref (w_o w)]) C f_L_17 ⟨by decide, by decide, by decide, by decide⟩ (c_X_putRange l hfl w S T ov lo hi n hok) hw (pb_Wd_x hw) hl.1 rfl rfl (Nat.le_of_ble_eq_true rfl) d_L_putRange_8) hS (by rw [hq]; rfl) (fun xa H locs hw hS hex => ?_)
    refine pb_catch2 (x1 := ⟨0, 13, 16, 13⟩) (x := ⟨0, 13, 20, 15⟩) (t := []) hown hts hno (by decide) (by decide) pb_k32 (pb_Wd_nc hw) (by decide) (by decide) pb_k33 pb_k110 hex ?_
    refine lv_astore (lv' := [(8, .ref xa), (0, .ref (w_x w)), (1, .long lo), (3, .long hi), (5, .long n), (7, .ref (w_o w))]) hx hb d_L_putRange_20 hl (by decide) rfl (fun ls hl => ?_)
    refine lv_iconst (v := 2) hx hb d_L_putRange_22 (by decide) ?_
    exact e_i ⟨hx, hb⟩ hr hlocks hw hS (rfl) (by decide) (by decide) d_L_putRange_23
  · rw [hq] at hc
    have hc : j + 3 ≤ 2 := hc
    omega
abbrev rm_L_putLength : Room := { frames := 8, cells := 2, slots := 12, locals := 132 }
set_option maxHeartbeats 4000000 in
set_option maxRecDepth 100000 in
theorem c_L_putLength (l : Launch) (hfl : l.stackTraces = false) (w : Wc) (S : St) (T : Mt) (ov : Int64) (n : Int32) (hok : pb_ok S) : pb_C l w y_L_putLength rm_L_putLength [.ref (w_x w), .int n, .ref (w_o w)] S T ov (hI T ov (o_putLength n S)) := by
  refine pb_enterW (cc := method_5_code) (maxL := 4) (ret := some .int) (own := "PackedBitsLaw") (by decide) pb_k143 rfl (Nat.le_of_ble_eq_true rfl) ?_
  intro p e s m below meth c ls C hr hlocks hno hN hw hS hl
  have hx := C.1
  have hb := C.2.1
  have hown := C.2.2.2.1
  have hts := C.2.2.2.2
  have hl : lv_has ls 4 [(0, .ref (w_x w)), (1, .int n), (2, .ref (w_o w))] := hl
  have hc := o_putLength_c n S
  refine lv_aload_n hx hb d_L_putLength_0 rfl (lv_at hl 2 rfl) ?_
  refine lv_iconst (v := 0) hx hb d_L_putLength_1 (by decide) ?_
  refine lv_aload_n hx hb d_L_putLength_2 rfl (lv_at hl 0 rfl) ?_
  refine lv_iload_n hx hb d_L_putLength_3 rfl (lv_at hl 1 rfl) ?_
  rcases hq : o_putLength n S with ⟨_ | _ | _ | j, v, Z⟩
  · refine pb_retI (pb_V (rest := [.int 0, .ref (w_o w)]) C f_L_21 ⟨by decide, by decide, by decide, by decide⟩ (c_X_putLength l hfl w S T ov n hok) hw (pb_Wd_x hw) hl.1 rfl rfl (Nat.le_of_ble_eq_true rfl) d_L_putLength_4) hS (by rw [hq]; rfl) (fun H locs hw hS => ?_)
    refine lv_i2l hx hb d_L_putLength_7 rfl ?_
    refine o_st ⟨hx, hb⟩ hN hw hS d_L_putLength_8 (fun H locs hw hS => ?_)
    refine lv_goto (tgt := 18) hx hb d_L_putLength_9 (by decide) ?_
    refine lv_iconst (v := 0) hx hb d_L_putLength_18 (by decide) ?_
    exact e_i ⟨hx, hb⟩ hr hlocks hw hS (rfl) (by decide) (by decide) d_L_putLength_19
  · refine pb_thr (pb_V (rest := [.int 0, .ref (w_o w)]) C f_L_21 ⟨by decide, by decide, by decide, by decide⟩ (c_X_putLength l hfl w S T ov n hok) hw (pb_Wd_x hw) hl.1 rfl rfl (Nat.le_of_ble_eq_true rfl) d_L_putLength_4) hS (by rw [hq]; rfl) (fun xa H locs hw hS hex => ?_)
    refine pb_catch1 (x := ⟨0, 9, 12, 13⟩) (t := [⟨0, 9, 15, 15⟩]) hown hts hno (by decide) (by decide) pb_k32 pb_k43 hex ?_
    refine lv_astore_n (lv' := [(3, .ref xa), (0, .ref (w_x w)), (1, .int n), (2, .ref (w_o w))]) hx hb d_L_putLength_12 rfl hl (by decide) rfl (fun ls hl => ?_)
    refine lv_iconst (v := 1) hx hb d_L_putLength_13 (by decide) ?_
    exact e_i ⟨hx, hb⟩ hr hlocks hw hS (rfl) (by decide) (by decide) d_L_putLength_14
  · refine pb_thr (pb_V (rest := [.int 0, .ref (w_o w)]) C f_L_21 ⟨by decide, by decide, by decide, by decide⟩ (c_X_putLength l hfl w S T ov n hok) hw (pb_Wd_x hw) hl.1 rfl rfl (Nat.le_of_ble_eq_true rfl) d_L_putLength_4) hS (by rw [hq]; rfl) (fun xa H locs hw hS hex => ?_)
    refine pb_catch2 (x1 := ⟨0, 9, 12, 13⟩) (x := ⟨0, 9, 15, 15⟩) (t := []) hown hts hno (by decide) (by decide) pb_k32 (pb_Wd_nc hw) (by decide) (by decide) pb_k33 pb_k110 hex ?_
    refine lv_astore_n (lv' := [(3, .ref xa), (0, .ref (w_x w)), (1, .int n), (2, .ref (w_o w))]) hx hb d_L_putLength_15 rfl hl (by decide) rfl (fun ls hl => ?_)
    refine lv_iconst (v := 2) hx hb d_L_putLength_16 (by decide) ?_
    exact e_i ⟨hx, hb⟩ hr hlocks hw hS (rfl) (by decide) (by decide) d_L_putLength_17
  · rw [hq] at hc
    have hc : j + 3 ≤ 2 := hc
    omega
abbrev rm_L_putNumber : Room := { frames := 8, cells := 3, slots := 18, locals := 134 }
set_option maxHeartbeats 4000000 in
set_option maxRecDepth 100000 in
theorem c_L_putNumber (l : Launch) (hfl : l.stackTraces = false) (w : Wc) (S : St) (T : Mt) (ov : Int64) (kind : Int32) (n : Int64) (hok : pb_ok S) : pb_C l w y_L_putNumber rm_L_putNumber [.ref (w_x w), .int kind, .long n, .ref (w_o w)] S T ov (hI T ov (o_putNumber kind n S)) := by
  refine pb_enterW (cc := method_6_code) (maxL := 6) (ret := some .int) (own := "PackedBitsLaw") (by decide) pb_k151 rfl (Nat.le_of_ble_eq_true rfl) ?_
  intro p e s m below meth c ls C hr hlocks hno hN hw hS hl
  have hx := C.1
  have hb := C.2.1
  have hown := C.2.2.2.1
  have hts := C.2.2.2.2
  have hl : lv_has ls 6 [(0, .ref (w_x w)), (1, .int kind), (2, .long n), (4, .ref (w_o w))] := hl
  have hc := o_putNumber_c kind n S
  refine lv_aload hx hb d_L_putNumber_0 (lv_at hl 3 rfl) ?_
  refine lv_iconst (v := 0) hx hb d_L_putNumber_2 (by decide) ?_
  refine lv_aload_n hx hb d_L_putNumber_3 rfl (lv_at hl 0 rfl) ?_
  refine lv_iload_n hx hb d_L_putNumber_4 rfl (lv_at hl 1 rfl) ?_
  refine lv_lload_n hx hb d_L_putNumber_5 rfl (lv_at hl 2 rfl) ?_
  rcases hq : o_putNumber kind n S with ⟨_ | _ | _ | j, v, Z⟩
  · refine pb_retI (pb_V (rest := [.int 0, .ref (w_o w)]) C f_L_25 ⟨by decide, by decide, by decide, by decide⟩ (c_X_putNumber l hfl w S T ov kind n hok) hw (pb_Wd_x hw) hl.1 rfl rfl (Nat.le_of_ble_eq_true rfl) d_L_putNumber_6) hS (by rw [hq]; rfl) (fun H locs hw hS => ?_)
    refine lv_i2l hx hb d_L_putNumber_9 rfl ?_
    refine o_st ⟨hx, hb⟩ hN hw hS d_L_putNumber_10 (fun H locs hw hS => ?_)
    refine lv_goto (tgt := 22) hx hb d_L_putNumber_11 (by decide) ?_
    refine lv_iconst (v := 0) hx hb d_L_putNumber_22 (by decide) ?_
    exact e_i ⟨hx, hb⟩ hr hlocks hw hS (rfl) (by decide) (by decide) d_L_putNumber_23
  · refine pb_thr (pb_V (rest := [.int 0, .ref (w_o w)]) C f_L_25 ⟨by decide, by decide, by decide, by decide⟩ (c_X_putNumber l hfl w S T ov kind n hok) hw (pb_Wd_x hw) hl.1 rfl rfl (Nat.le_of_ble_eq_true rfl) d_L_putNumber_6) hS (by rw [hq]; rfl) (fun xa H locs hw hS hex => ?_)
    refine pb_catch1 (x := ⟨0, 11, 14, 13⟩) (t := [⟨0, 11, 18, 15⟩]) hown hts hno (by decide) (by decide) pb_k32 pb_k43 hex ?_
    refine lv_astore (lv' := [(5, .ref xa), (0, .ref (w_x w)), (1, .int kind), (2, .long n), (4, .ref (w_o w))]) hx hb d_L_putNumber_14 hl (by decide) rfl (fun ls hl => ?_)
    refine lv_iconst (v := 1) hx hb d_L_putNumber_16 (by decide) ?_
    exact e_i ⟨hx, hb⟩ hr hlocks hw hS (rfl) (by decide) (by decide) d_L_putNumber_17
  · refine pb_thr (pb_V (rest := [.int 0, .ref (w_o w)]) C f_L_25 ⟨by decide, by decide, by decide, by decide⟩ (c_X_putNumber l hfl w S T ov kind n hok) hw (pb_Wd_x hw) hl.1 rfl rfl (Nat.le_of_ble_eq_true rfl) d_L_putNumber_6) hS (by rw [hq]; rfl) (fun xa H locs hw hS hex => ?_)
    refine pb_catch2 (x1 := ⟨0, 11, 14, 13⟩) (x := ⟨0, 11, 18, 15⟩) (t := []) hown hts hno (by decide) (by decide) pb_k32 (pb_Wd_nc hw) (by decide) (by decide) pb_k33 pb_k110 hex ?_
    refine lv_astore (lv' := [(5, .ref xa), (0, .ref (w_x w)), (1, .int kind), (2, .long n), (4, .ref (w_o w))]) hx hb d_L_putNumber_18 hl (by decide) rfl (fun ls hl => ?_)
    refine lv_iconst (v := 2) hx hb d_L_putNumber_20 (by decide) ?_
    exact e_i ⟨hx, hb⟩ hr hlocks hw hS (rfl) (by decide) (by decide) d_L_putNumber_21
  · rw [hq] at hc
    have hc : j + 3 ≤ 2 := hc
    omega
abbrev rm_L_fill : Room := { frames := 8, cells := 1, slots := 6, locals := 130 }
set_option maxHeartbeats 4000000 in
set_option maxRecDepth 100000 in
theorem c_L_fill (l : Launch) (hfl : l.stackTraces = false) (w : Wc) (S : St) (T : Mt) (ov : Int64) (hok : pb_ok S) : pb_C l w y_L_fill rm_L_fill [.ref (w_x w), .ref (w_o w)] S T ov (hI T ov (o_fill S)) := by
  refine pb_enterW (cc := method_7_code) (maxL := 3) (ret := some .int) (own := "PackedBitsLaw") (by decide) pb_k163 rfl (Nat.le_of_ble_eq_true rfl) ?_
  intro p e s m below meth c ls C hr hlocks hno hN hw hS hl
  have hx := C.1
  have hb := C.2.1
  have hown := C.2.2.2.1
  have hts := C.2.2.2.2
  have hl : lv_has ls 3 [(0, .ref (w_x w)), (1, .ref (w_o w))] := hl
  have hc := o_fill_c S
  refine lv_aload_n hx hb d_L_fill_0 rfl (lv_at hl 1 rfl) ?_
  refine lv_iconst (v := 0) hx hb d_L_fill_1 (by decide) ?_
  refine lv_aload_n hx hb d_L_fill_2 rfl (lv_at hl 0 rfl) ?_
  rcases hq : o_fill S with ⟨_ | _ | j, v, Z⟩
  · refine pb_retI (pb_V (rest := [.int 0, .ref (w_o w)]) C f_L_29 ⟨by decide, by decide, by decide, by decide⟩ (c_X_fill l hfl w S T ov hok) hw (pb_Wd_x hw) hl.1 rfl rfl (Nat.le_of_ble_eq_true rfl) d_L_fill_3) hS (by rw [hq]; rfl) (fun H locs hw hS => ?_)
    refine lv_i2l hx hb d_L_fill_6 rfl ?_
    refine o_st ⟨hx, hb⟩ hN hw hS d_L_fill_7 (fun H locs hw hS => ?_)
    refine lv_goto (tgt := 14) hx hb d_L_fill_8 (by decide) ?_
    refine lv_iconst (v := 0) hx hb d_L_fill_14 (by decide) ?_
    exact e_i ⟨hx, hb⟩ hr hlocks hw hS (rfl) (by decide) (by decide) d_L_fill_15
  · refine pb_thr (pb_V (rest := [.int 0, .ref (w_o w)]) C f_L_29 ⟨by decide, by decide, by decide, by decide⟩ (c_X_fill l hfl w S T ov hok) hw (pb_Wd_x hw) hl.1 rfl rfl (Nat.le_of_ble_eq_true rfl) d_L_fill_3) hS (by rw [hq]; rfl) (fun xa H locs hw hS hex => ?_)
    refine pb_catch1 (x := ⟨0, 8, 11, 15⟩) (t := []) hown hts hno (by decide) (by decide) pb_k33 pb_k110 hex ?_
    refine lv_astore_n (lv' := [(2, .ref xa), (0, .ref (w_x w)), (1, .ref (w_o w))]) hx hb d_L_fill_11 rfl hl (by decide) rfl (fun ls hl => ?_)
    refine lv_iconst (v := 1) hx hb d_L_fill_12 (by decide) ?_
    exact e_i ⟨hx, hb⟩ hr hlocks hw hS (rfl) (by decide) (by decide) d_L_fill_13
  · rw [hq] at hc
    have hc : j + 2 ≤ 1 := hc
    omega
abbrev rm_L_take : Room := { frames := 9, cells := 2, slots := 12, locals := 155 }
set_option maxHeartbeats 4000000 in
set_option maxRecDepth 100000 in
theorem c_L_take (l : Launch) (hfl : l.stackTraces = false) (w : Wc) (S : St) (T : Mt) (ov : Int64) (n : Int32) (hok : pb_ok S) : pb_C l w y_L_take rm_L_take [.ref (w_x w), .int n, .ref (w_o w)] S T ov (hL T ov (o_take n S)) := by
  refine pb_enterW (cc := method_8_code) (maxL := 4) (ret := some .int) (own := "PackedBitsLaw") (by decide) pb_k170 rfl (Nat.le_of_ble_eq_true rfl) ?_
  intro p e s m below meth c ls C hr hlocks hno hN hw hS hl
  have hx := C.1
  have hb := C.2.1
  have hown := C.2.2.2.1
  have hts := C.2.2.2.2
  have hl : lv_has ls 4 [(0, .ref (w_x w)), (1, .int n), (2, .ref (w_o w))] := hl
  have hc := o_take_c n S
  refine lv_aload_n hx hb d_L_take_0 rfl (lv_at hl 2 rfl) ?_
  refine lv_iconst (v := 0) hx hb d_L_take_1 (by decide) ?_
  refine lv_aload_n hx hb d_L_take_2 rfl (lv_at hl 0 rfl) ?_
  refine lv_iload_n hx hb d_L_take_3 rfl (lv_at hl 1 rfl) ?_
  rcases hq : o_take n S with ⟨_ | _ | _ | j, v, Z⟩
  · refine pb_retL (pb_V (rest := [.int 0, .ref (w_o w)]) C f_L_33 ⟨by decide, by decide, by decide, by decide⟩ (c_X_take l hfl w S T ov n hok) hw (pb_Wd_x hw) hl.1 rfl rfl (Nat.le_of_ble_eq_true rfl) d_L_take_4) hS (by rw [hq]; rfl) (fun H locs hw hS => ?_)
    refine o_st ⟨hx, hb⟩ hN hw hS d_L_take_7 (fun H locs hw hS => ?_)
    refine lv_goto (tgt := 17) hx hb d_L_take_8 (by decide) ?_
    refine lv_iconst (v := 0) hx hb d_L_take_17 (by decide) ?_
    exact e_i ⟨hx, hb⟩ hr hlocks hw hS (rfl) (by decide) (by decide) d_L_take_18
  · refine pb_thr (pb_V (rest := [.int 0, .ref (w_o w)]) C f_L_33 ⟨by decide, by decide, by decide, by decide⟩ (c_X_take l hfl w S T ov n hok) hw (pb_Wd_x hw) hl.1 rfl rfl (Nat.le_of_ble_eq_true rfl) d_L_take_4) hS (by rw [hq]; rfl) (fun xa H locs hw hS hex => ?_)
    refine pb_catch1 (x := ⟨0, 8, 11, 13⟩) (t := [⟨0, 8, 14, 37⟩]) hown hts hno (by decide) (by decide) pb_k32 pb_k43 hex ?_
    refine lv_astore_n (lv' := [(3, .ref xa), (0, .ref (w_x w)), (1, .int n), (2, .ref (w_o w))]) hx hb d_L_take_11 rfl hl (by decide) rfl (fun ls hl => ?_)
    refine lv_iconst (v := 1) hx hb d_L_take_12 (by decide) ?_
    exact e_i ⟨hx, hb⟩ hr hlocks hw hS (rfl) (by decide) (by decide) d_L_take_13
  · refine pb_thr (pb_V (rest := [.int 0, .ref (w_o w)]) C f_L_33 ⟨by decide, by decide, by decide, by decide⟩ (c_X_take l hfl w S T ov n hok) hw (pb_Wd_x hw) hl.1 rfl rfl (Nat.le_of_ble_eq_true rfl) d_L_take_4) hS (by rw [hq]; rfl) (fun xa H locs hw hS hex => ?_)
    refine pb_catch2 (x1 := ⟨0, 8, 11, 13⟩) (x := ⟨0, 8, 14, 37⟩) (t := []) hown hts hno (by decide) (by decide) pb_k32 (pb_Wd_nc2 hw) (by decide) (by decide) pb_k171 pb_k185 hex ?_
    refine lv_astore_n (lv' := [(3, .ref xa), (0, .ref (w_x w)), (1, .int n), (2, .ref (w_o w))]) hx hb d_L_take_14 rfl hl (by decide) rfl (fun ls hl => ?_)
    refine lv_iconst (v := 2) hx hb d_L_take_15 (by decide) ?_
    exact e_i ⟨hx, hb⟩ hr hlocks hw hS (rfl) (by decide) (by decide) d_L_take_16
  · rw [hq] at hc
    have hc : j + 3 ≤ 2 := hc
    omega
abbrev rm_L_takeRange : Room := { frames := 9, cells := 3, slots := 18, locals := 163 }
set_option maxHeartbeats 4000000 in
set_option maxRecDepth 100000 in
theorem c_L_takeRange (l : Launch) (hfl : l.stackTraces = false) (w : Wc) (S : St) (T : Mt) (ov : Int64) (lo hi : Int64) (hok : pb_ok S) : pb_C l w y_L_takeRange rm_L_takeRange [.ref (w_x w), .long lo, .long hi, .ref (w_o w)] S T ov (hL T ov (o_takeRange lo hi S)) := by
  refine pb_enterW (cc := method_9_code) (maxL := 7) (ret := some .int) (own := "PackedBitsLaw") (by decide) pb_k200 rfl (Nat.le_of_ble_eq_true rfl) ?_
  intro p e s m below meth c ls C hr hlocks hno hN hw hS hl
  have hx := C.1
  have hb := C.2.1
  have hown := C.2.2.2.1
  have hts := C.2.2.2.2
  have hl : lv_has ls 7 [(0, .ref (w_x w)), (1, .long lo), (3, .long hi), (5, .ref (w_o w))] := hl
  have hc := o_takeRange_c lo hi S
  refine lv_aload hx hb d_L_takeRange_0 (lv_at hl 3 rfl) ?_
  refine lv_iconst (v := 0) hx hb d_L_takeRange_2 (by decide) ?_
  refine lv_aload_n hx hb d_L_takeRange_3 rfl (lv_at hl 0 rfl) ?_
  refine lv_lload_n hx hb d_L_takeRange_4 rfl (lv_at hl 1 rfl) ?_
  refine lv_lload_n hx hb d_L_takeRange_5 rfl (lv_at hl 2 rfl) ?_
  rcases hq : o_takeRange lo hi S with ⟨_ | _ | _ | j, v, Z⟩
  · refine pb_retL (pb_V (rest := [.int 0, .ref (w_o w)]) C f_L_39 ⟨by decide, by decide, by decide, by decide⟩ (c_X_takeRange l hfl w S T ov lo hi hok) hw (pb_Wd_x hw) hl.1 rfl rfl (Nat.le_of_ble_eq_true rfl) d_L_takeRange_6) hS (by rw [hq]; rfl) (fun H locs hw hS => ?_)
    refine o_st ⟨hx, hb⟩ hN hw hS d_L_takeRange_9 (fun H locs hw hS => ?_)
    refine lv_goto (tgt := 21) hx hb d_L_takeRange_10 (by decide) ?_
    refine lv_iconst (v := 0) hx hb d_L_takeRange_21 (by decide) ?_
    exact e_i ⟨hx, hb⟩ hr hlocks hw hS (rfl) (by decide) (by decide) d_L_takeRange_22
  · refine pb_thr (pb_V (rest := [.int 0, .ref (w_o w)]) C f_L_39 ⟨by decide, by decide, by decide, by decide⟩ (c_X_takeRange l hfl w S T ov lo hi hok) hw (pb_Wd_x hw) hl.1 rfl rfl (Nat.le_of_ble_eq_true rfl) d_L_takeRange_6) hS (by rw [hq]; rfl) (fun xa H locs hw hS hex => ?_)
    refine pb_catch1 (x := ⟨0, 10, 13, 13⟩) (t := [⟨0, 10, 17, 37⟩]) hown hts hno (by decide) (by decide) pb_k32 pb_k43 hex ?_
    refine lv_astore (lv' := [(6, .ref xa), (0, .ref (w_x w)), (1, .long lo), (3, .long hi), (5, .ref (w_o w))]) hx hb d_L_takeRange_13 hl (by decide) rfl (fun ls hl => ?_)
    refine lv_iconst (v := 1) hx hb d_L_takeRange_15 (by decide) ?_
    exact e_i ⟨hx, hb⟩ hr hlocks hw hS (rfl) (by decide) (by decide) d_L_takeRange_16
  · refine pb_thr (pb_V (rest := [.int 0, .ref (w_o w)]) C f_L_39 ⟨by decide, by decide, by decide, by decide⟩ (c_X_takeRange l hfl w S T ov lo hi hok) hw (pb_Wd_x hw) hl.1 rfl rfl (Nat.le_of_ble_eq_true rfl) d_L_takeRange_6) hS (by rw [hq]; rfl) (fun xa H locs hw hS hex => ?_)
    refine pb_catch2 (x1 := ⟨0, 10, 13, 13⟩) (x := ⟨0, 10, 17, 37⟩) (t := []) hown hts hno (by decide) (by decide) pb_k32 (pb_Wd_nc2 hw) (by decide) (by decide) pb_k171 pb_k185 hex ?_
    refine lv_astore (lv' := [(6, .ref xa), (0, .ref (w_x w)), (1, .long lo), (3, .long hi), (5, .ref (w_o w))]) hx hb d_L_takeRange_17 hl (by decide) rfl (fun ls hl => ?_)
    refine lv_iconst (v := 2) hx hb d_L_takeRange_19 (by decide) ?_
    exact e_i ⟨hx, hb⟩ hr hlocks hw hS (rfl) (by decide) (by decide) d_L_takeRange_20
  · rw [hq] at hc
    have hc : j + 3 ≤ 2 := hc
    omega
abbrev rm_L_takeLength : Room := { frames := 10, cells := 8, slots := 48, locals := 177 }
set_option maxHeartbeats 4000000 in
set_option maxRecDepth 100000 in
theorem c_L_takeLength (l : Launch) (hfl : l.stackTraces = false) (w : Wc) (S : St) (T : Mt) (ov : Int64) (hok : pb_ok S) : pb_C l w y_L_takeLength rm_L_takeLength [.ref (w_x w), .ref (w_o w)] S T ov (hI T ov (o_takeLength S)) := by
  refine pb_enterW (cc := method_10_code) (maxL := 3) (ret := some .int) (own := "PackedBitsLaw") (by decide) pb_k208 rfl (Nat.le_of_ble_eq_true rfl) ?_
  intro p e s m below meth c ls C hr hlocks hno hN hw hS hl
  have hx := C.1
  have hb := C.2.1
  have hown := C.2.2.2.1
  have hts := C.2.2.2.2
  have hl : lv_has ls 3 [(0, .ref (w_x w)), (1, .ref (w_o w))] := hl
  have hc := o_takeLength_c S
  refine lv_aload_n hx hb d_L_takeLength_0 rfl (lv_at hl 1 rfl) ?_
  refine lv_iconst (v := 0) hx hb d_L_takeLength_1 (by decide) ?_
  refine lv_aload_n hx hb d_L_takeLength_2 rfl (lv_at hl 0 rfl) ?_
  rcases hq : o_takeLength S with ⟨_ | _ | j, v, Z⟩
  · refine pb_retI (pb_V (rest := [.int 0, .ref (w_o w)]) C f_L_43 ⟨by decide, by decide, by decide, by decide⟩ (c_X_takeLength l hfl w S T ov hok) hw (pb_Wd_x hw) hl.1 rfl rfl (Nat.le_of_ble_eq_true rfl) d_L_takeLength_3) hS (by rw [hq]; rfl) (fun H locs hw hS => ?_)
    refine lv_i2l hx hb d_L_takeLength_6 rfl ?_
    refine o_st ⟨hx, hb⟩ hN hw hS d_L_takeLength_7 (fun H locs hw hS => ?_)
    refine lv_goto (tgt := 14) hx hb d_L_takeLength_8 (by decide) ?_
    refine lv_iconst (v := 0) hx hb d_L_takeLength_14 (by decide) ?_
    exact e_i ⟨hx, hb⟩ hr hlocks hw hS (rfl) (by decide) (by decide) d_L_takeLength_15
  · refine pb_thr (pb_V (rest := [.int 0, .ref (w_o w)]) C f_L_43 ⟨by decide, by decide, by decide, by decide⟩ (c_X_takeLength l hfl w S T ov hok) hw (pb_Wd_x hw) hl.1 rfl rfl (Nat.le_of_ble_eq_true rfl) d_L_takeLength_3) hS (by rw [hq]; rfl) (fun xa H locs hw hS hex => ?_)
    refine pb_catch1 (x := ⟨0, 8, 11, 37⟩) (t := []) hown hts hno (by decide) (by decide) pb_k171 pb_k185 hex ?_
    refine lv_astore_n (lv' := [(2, .ref xa), (0, .ref (w_x w)), (1, .ref (w_o w))]) hx hb d_L_takeLength_11 rfl hl (by decide) rfl (fun ls hl => ?_)
    refine lv_iconst (v := 1) hx hb d_L_takeLength_12 (by decide) ?_
    exact e_i ⟨hx, hb⟩ hr hlocks hw hS (rfl) (by decide) (by decide) d_L_takeLength_13
  · rw [hq] at hc
    have hc : j + 2 ≤ 1 := hc
    omega
abbrev rm_L_takeNumber : Room := { frames := 11, cells := 14, slots := 84, locals := 202 }
set_option maxHeartbeats 4000000 in
set_option maxRecDepth 100000 in
theorem c_L_takeNumber (l : Launch) (hfl : l.stackTraces = false) (w : Wc) (S : St) (T : Mt) (ov : Int64) (kind : Int32) (hok : pb_ok S) : pb_C l w y_L_takeNumber rm_L_takeNumber [.ref (w_x w), .int kind, .ref (w_o w)] S T ov (hL T ov (o_takeNumber kind S)) := by
  refine pb_enterW (cc := method_11_code) (maxL := 4) (ret := some .int) (own := "PackedBitsLaw") (by decide) pb_k219 rfl (Nat.le_of_ble_eq_true rfl) ?_
  intro p e s m below meth c ls C hr hlocks hno hN hw hS hl
  have hx := C.1
  have hb := C.2.1
  have hown := C.2.2.2.1
  have hts := C.2.2.2.2
  have hl : lv_has ls 4 [(0, .ref (w_x w)), (1, .int kind), (2, .ref (w_o w))] := hl
  have hc := o_takeNumber_c kind S
  refine lv_aload_n hx hb d_L_takeNumber_0 rfl (lv_at hl 2 rfl) ?_
  refine lv_iconst (v := 0) hx hb d_L_takeNumber_1 (by decide) ?_
  refine lv_aload_n hx hb d_L_takeNumber_2 rfl (lv_at hl 0 rfl) ?_
  refine lv_iload_n hx hb d_L_takeNumber_3 rfl (lv_at hl 1 rfl) ?_
  rcases hq : o_takeNumber kind S with ⟨_ | _ | _ | j, v, Z⟩
  · refine pb_retL (pb_V (rest := [.int 0, .ref (w_o w)]) C f_L_46 ⟨by decide, by decide, by decide, by decide⟩ (c_X_takeNumber l hfl w S T ov kind hok) hw (pb_Wd_x hw) hl.1 rfl rfl (Nat.le_of_ble_eq_true rfl) d_L_takeNumber_4) hS (by rw [hq]; rfl) (fun H locs hw hS => ?_)
    refine o_st ⟨hx, hb⟩ hN hw hS d_L_takeNumber_7 (fun H locs hw hS => ?_)
    refine lv_goto (tgt := 17) hx hb d_L_takeNumber_8 (by decide) ?_
    refine lv_iconst (v := 0) hx hb d_L_takeNumber_17 (by decide) ?_
    exact e_i ⟨hx, hb⟩ hr hlocks hw hS (rfl) (by decide) (by decide) d_L_takeNumber_18
  · refine pb_thr (pb_V (rest := [.int 0, .ref (w_o w)]) C f_L_46 ⟨by decide, by decide, by decide, by decide⟩ (c_X_takeNumber l hfl w S T ov kind hok) hw (pb_Wd_x hw) hl.1 rfl rfl (Nat.le_of_ble_eq_true rfl) d_L_takeNumber_4) hS (by rw [hq]; rfl) (fun xa H locs hw hS hex => ?_)
    refine pb_catch1 (x := ⟨0, 8, 11, 13⟩) (t := [⟨0, 8, 14, 37⟩]) hown hts hno (by decide) (by decide) pb_k32 pb_k43 hex ?_
    refine lv_astore_n (lv' := [(3, .ref xa), (0, .ref (w_x w)), (1, .int kind), (2, .ref (w_o w))]) hx hb d_L_takeNumber_11 rfl hl (by decide) rfl (fun ls hl => ?_)
    refine lv_iconst (v := 1) hx hb d_L_takeNumber_12 (by decide) ?_
    exact e_i ⟨hx, hb⟩ hr hlocks hw hS (rfl) (by decide) (by decide) d_L_takeNumber_13
  · refine pb_thr (pb_V (rest := [.int 0, .ref (w_o w)]) C f_L_46 ⟨by decide, by decide, by decide, by decide⟩ (c_X_takeNumber l hfl w S T ov kind hok) hw (pb_Wd_x hw) hl.1 rfl rfl (Nat.le_of_ble_eq_true rfl) d_L_takeNumber_4) hS (by rw [hq]; rfl) (fun xa H locs hw hS hex => ?_)
    refine pb_catch2 (x1 := ⟨0, 8, 11, 13⟩) (x := ⟨0, 8, 14, 37⟩) (t := []) hown hts hno (by decide) (by decide) pb_k32 (pb_Wd_nc2 hw) (by decide) (by decide) pb_k171 pb_k185 hex ?_
    refine lv_astore_n (lv' := [(3, .ref xa), (0, .ref (w_x w)), (1, .int kind), (2, .ref (w_o w))]) hx hb d_L_takeNumber_14 rfl hl (by decide) rfl (fun ls hl => ?_)
    refine lv_iconst (v := 2) hx hb d_L_takeNumber_15 (by decide) ?_
    exact e_i ⟨hx, hb⟩ hr hlocks hw hS (rfl) (by decide) (by decide) d_L_takeNumber_16
  · rw [hq] at hc
    have hc : j + 3 ≤ 2 := hc
    omega
abbrev rm_L_go : Room := { frames := 8, cells := 1, slots := 6, locals := 132 }
set_option maxHeartbeats 4000000 in
set_option maxRecDepth 100000 in
theorem c_L_go (l : Launch) (hfl : l.stackTraces = false) (w : Wc) (S : St) (T : Mt) (ov : Int64) (n : Int32) (hok : pb_ok S) : pb_C l w y_L_go rm_L_go [.ref (w_x w), .int n, .ref (w_o w)] S T ov (hI T ov (o_go n S)) := by
  refine pb_enterW (cc := method_12_code) (maxL := 4) (ret := some .int) (own := "PackedBitsLaw") (by decide) pb_k231 rfl (Nat.le_of_ble_eq_true rfl) ?_
  intro p e s m below meth c ls C hr hlocks hno hN hw hS hl
  have hx := C.1
  have hb := C.2.1
  have hown := C.2.2.2.1
  have hts := C.2.2.2.2
  have hl : lv_has ls 4 [(0, .ref (w_x w)), (1, .int n), (2, .ref (w_o w))] := hl
  have hc := o_go_c n S
  refine lv_aload_n hx hb d_L_go_0 rfl (lv_at hl 2 rfl) ?_
  refine lv_iconst (v := 0) hx hb d_L_go_1 (by decide) ?_
  refine lv_aload_n hx hb d_L_go_2 rfl (lv_at hl 0 rfl) ?_
  refine lv_iload_n hx hb d_L_go_3 rfl (lv_at hl 1 rfl) ?_
  rcases hq : o_go n S with ⟨_ | _ | j, v, Z⟩
  · refine pb_retI (pb_V (rest := [.int 0, .ref (w_o w)]) C f_L_49 ⟨by decide, by decide, by decide, by decide⟩ (c_X_go l hfl w S T ov n hok) hw (pb_Wd_x hw) hl.1 rfl rfl (Nat.le_of_ble_eq_true rfl) d_L_go_4) hS (by rw [hq]; rfl) (fun H locs hw hS => ?_)
    refine lv_i2l hx hb d_L_go_7 rfl ?_
    refine o_st ⟨hx, hb⟩ hN hw hS d_L_go_8 (fun H locs hw hS => ?_)
    refine lv_goto (tgt := 15) hx hb d_L_go_9 (by decide) ?_
    refine lv_iconst (v := 0) hx hb d_L_go_15 (by decide) ?_
    exact e_i ⟨hx, hb⟩ hr hlocks hw hS (rfl) (by decide) (by decide) d_L_go_16
  · refine pb_thr (pb_V (rest := [.int 0, .ref (w_o w)]) C f_L_49 ⟨by decide, by decide, by decide, by decide⟩ (c_X_go l hfl w S T ov n hok) hw (pb_Wd_x hw) hl.1 rfl rfl (Nat.le_of_ble_eq_true rfl) d_L_go_4) hS (by rw [hq]; rfl) (fun xa H locs hw hS hex => ?_)
    refine pb_catch1 (x := ⟨0, 9, 12, 13⟩) (t := []) hown hts hno (by decide) (by decide) pb_k32 pb_k43 hex ?_
    refine lv_astore_n (lv' := [(3, .ref xa), (0, .ref (w_x w)), (1, .int n), (2, .ref (w_o w))]) hx hb d_L_go_12 rfl hl (by decide) rfl (fun ls hl => ?_)
    refine lv_iconst (v := 1) hx hb d_L_go_13 (by decide) ?_
    exact e_i ⟨hx, hb⟩ hr hlocks hw hS (rfl) (by decide) (by decide) d_L_go_14
  · rw [hq] at hc
    have hc : j + 2 ≤ 1 := hc
    omega
abbrev rm_L_turn : Room := { frames := 8, cells := 1, slots := 6, locals := 131 }
set_option maxHeartbeats 4000000 in
set_option maxRecDepth 100000 in
theorem c_L_turn (l : Launch) (hfl : l.stackTraces = false) (w : Wc) (S : St) (T : Mt) (ov : Int64) (n : Int32) (hok : pb_ok S) : pb_C l w y_L_turn rm_L_turn [.ref (w_x w), .int n, .ref (w_o w)] S T ov (hZ T ov (o_turn n S)) := by
  refine pb_enterW (cc := method_13_code) (maxL := 4) (ret := some .int) (own := "PackedBitsLaw") (by decide) pb_k238 rfl (Nat.le_of_ble_eq_true rfl) ?_
  intro p e s m below meth c ls C hr hlocks hno hN hw hS hl
  have hx := C.1
  have hb := C.2.1
  have hown := C.2.2.2.1
  have hts := C.2.2.2.2
  have hl : lv_has ls 4 [(0, .ref (w_x w)), (1, .int n), (2, .ref (w_o w))] := hl
  have hc := o_turn_c n S
  refine lv_aload_n hx hb d_L_turn_0 rfl (lv_at hl 2 rfl) ?_
  refine lv_iconst (v := 0) hx hb d_L_turn_1 (by decide) ?_
  refine lv_aload_n hx hb d_L_turn_2 rfl (lv_at hl 0 rfl) ?_
  refine lv_iload_n hx hb d_L_turn_3 rfl (lv_at hl 1 rfl) ?_
  rcases hq : o_turn n S with ⟨_ | _ | j, v, Z⟩
  · refine pb_retI (pb_V (rest := [.int 0, .ref (w_o w)]) C f_L_52 ⟨by decide, by decide, by decide, by decide⟩ (c_X_turn l hfl w S T ov n hok) hw (pb_Wd_x hw) hl.1 rfl rfl (Nat.le_of_ble_eq_true rfl) d_L_turn_4) hS (by rw [hq]; rfl) (fun H locs hw hS => ?_)
    refine lv_if_eq (tgt := 14) hx hb d_L_turn_7 (by decide) (fun h1 => ?_) (fun h1 => ?_)
    · have hv : v = false := by
        cases v
        · rfl
        · exact absurd (show bI true = 0 from h1) (by decide)
      subst hv
      refine lv_lconst (v := 0) hx hb d_L_turn_14 (by decide) ?_
      refine o_st ⟨hx, hb⟩ hN hw hS d_L_turn_15 (fun H locs hw hS => ?_)
      refine lv_goto (tgt := 22) hx hb d_L_turn_16 (by decide) ?_
      refine lv_iconst (v := 0) hx hb d_L_turn_22 (by decide) ?_
      exact e_i ⟨hx, hb⟩ hr hlocks hw hS (rfl) (by decide) (by decide) d_L_turn_23
    · have hv : v = true := by
        cases v
        · exact absurd rfl h1
        · rfl
      subst hv
      refine lv_lconst (v := 1) hx hb d_L_turn_10 (by decide) ?_
      refine lv_goto (tgt := 15) hx hb d_L_turn_11 (by decide) ?_
      refine o_st ⟨hx, hb⟩ hN hw hS d_L_turn_15 (fun H locs hw hS => ?_)
      refine lv_goto (tgt := 22) hx hb d_L_turn_16 (by decide) ?_
      refine lv_iconst (v := 0) hx hb d_L_turn_22 (by decide) ?_
      exact e_i ⟨hx, hb⟩ hr hlocks hw hS (rfl) (by decide) (by decide) d_L_turn_23
  · refine pb_thr (pb_V (rest := [.int 0, .ref (w_o w)]) C f_L_52 ⟨by decide, by decide, by decide, by decide⟩ (c_X_turn l hfl w S T ov n hok) hw (pb_Wd_x hw) hl.1 rfl rfl (Nat.le_of_ble_eq_true rfl) d_L_turn_4) hS (by rw [hq]; rfl) (fun xa H locs hw hS hex => ?_)
    refine pb_catch1 (x := ⟨0, 16, 19, 13⟩) (t := []) hown hts hno (by decide) (by decide) pb_k32 pb_k43 hex ?_
    refine lv_astore_n (lv' := [(3, .ref xa), (0, .ref (w_x w)), (1, .int n), (2, .ref (w_o w))]) hx hb d_L_turn_19 rfl hl (by decide) rfl (fun ls hl => ?_)
    refine lv_iconst (v := 1) hx hb d_L_turn_20 (by decide) ?_
    exact e_i ⟨hx, hb⟩ hr hlocks hw hS (rfl) (by decide) (by decide) d_L_turn_21
  · rw [hq] at hc
    have hc : j + 2 ≤ 1 := hc
    omega
abbrev rm_L_cut : Room := { frames := 8, cells := 1, slots := 6, locals := 132 }
set_option maxHeartbeats 4000000 in
set_option maxRecDepth 100000 in
theorem c_L_cut (l : Launch) (hfl : l.stackTraces = false) (w : Wc) (S : St) (T : Mt) (ov : Int64) (n : Int32) (hok : pb_ok S) : pb_C l w y_L_cut rm_L_cut [.ref (w_x w), .int n, .ref (w_o w)] S T ov (hI T ov (o_cut n S)) := by
  refine pb_enterW (cc := method_14_code) (maxL := 4) (ret := some .int) (own := "PackedBitsLaw") (by decide) pb_k245 rfl (Nat.le_of_ble_eq_true rfl) ?_
  intro p e s m below meth c ls C hr hlocks hno hN hw hS hl
  have hx := C.1
  have hb := C.2.1
  have hown := C.2.2.2.1
  have hts := C.2.2.2.2
  have hl : lv_has ls 4 [(0, .ref (w_x w)), (1, .int n), (2, .ref (w_o w))] := hl
  have hc := o_cut_c n S
  refine lv_aload_n hx hb d_L_cut_0 rfl (lv_at hl 2 rfl) ?_
  refine lv_iconst (v := 0) hx hb d_L_cut_1 (by decide) ?_
  refine lv_aload_n hx hb d_L_cut_2 rfl (lv_at hl 0 rfl) ?_
  refine lv_iload_n hx hb d_L_cut_3 rfl (lv_at hl 1 rfl) ?_
  rcases hq : o_cut n S with ⟨_ | _ | j, v, Z⟩
  · refine pb_retI (pb_V (rest := [.int 0, .ref (w_o w)]) C f_L_56 ⟨by decide, by decide, by decide, by decide⟩ (c_X_cut l hfl w S T ov n hok) hw (pb_Wd_x hw) hl.1 rfl rfl (Nat.le_of_ble_eq_true rfl) d_L_cut_4) hS (by rw [hq]; rfl) (fun H locs hw hS => ?_)
    refine lv_i2l hx hb d_L_cut_7 rfl ?_
    refine o_st ⟨hx, hb⟩ hN hw hS d_L_cut_8 (fun H locs hw hS => ?_)
    refine lv_goto (tgt := 15) hx hb d_L_cut_9 (by decide) ?_
    refine lv_iconst (v := 0) hx hb d_L_cut_15 (by decide) ?_
    exact e_i ⟨hx, hb⟩ hr hlocks hw hS (rfl) (by decide) (by decide) d_L_cut_16
  · refine pb_thr (pb_V (rest := [.int 0, .ref (w_o w)]) C f_L_56 ⟨by decide, by decide, by decide, by decide⟩ (c_X_cut l hfl w S T ov n hok) hw (pb_Wd_x hw) hl.1 rfl rfl (Nat.le_of_ble_eq_true rfl) d_L_cut_4) hS (by rw [hq]; rfl) (fun xa H locs hw hS hex => ?_)
    refine pb_catch1 (x := ⟨0, 9, 12, 13⟩) (t := []) hown hts hno (by decide) (by decide) pb_k32 pb_k43 hex ?_
    refine lv_astore_n (lv' := [(3, .ref xa), (0, .ref (w_x w)), (1, .int n), (2, .ref (w_o w))]) hx hb d_L_cut_12 rfl hl (by decide) rfl (fun ls hl => ?_)
    refine lv_iconst (v := 1) hx hb d_L_cut_13 (by decide) ?_
    exact e_i ⟨hx, hb⟩ hr hlocks hw hS (rfl) (by decide) (by decide) d_L_cut_14
  · rw [hq] at hc
    have hc : j + 2 ≤ 1 := hc
    omega
abbrev rm_L_count : Room := { frames := 8, cells := 1, slots := 6, locals := 131 }
set_option maxHeartbeats 4000000 in
set_option maxRecDepth 100000 in
theorem c_L_count (l : Launch) (hfl : l.stackTraces = false) (w : Wc) (S : St) (T : Mt) (ov : Int64) (n : Int32) (hok : pb_ok S) : pb_C l w y_L_count rm_L_count [.ref (w_x w), .int n, .ref (w_o w)] S T ov (hI T ov (o_count n S)) := by
  refine pb_enterW (cc := method_15_code) (maxL := 4) (ret := some .int) (own := "PackedBitsLaw") (by decide) pb_k252 rfl (Nat.le_of_ble_eq_true rfl) ?_
  intro p e s m below meth c ls C hr hlocks hno hN hw hS hl
  have hx := C.1
  have hb := C.2.1
  have hown := C.2.2.2.1
  have hts := C.2.2.2.2
  have hl : lv_has ls 4 [(0, .ref (w_x w)), (1, .int n), (2, .ref (w_o w))] := hl
  have hc := o_count_c n S
  refine lv_aload_n hx hb d_L_count_0 rfl (lv_at hl 2 rfl) ?_
  refine lv_iconst (v := 0) hx hb d_L_count_1 (by decide) ?_
  refine lv_aload_n hx hb d_L_count_2 rfl (lv_at hl 0 rfl) ?_
  refine lv_iload_n hx hb d_L_count_3 rfl (lv_at hl 1 rfl) ?_
  rcases hq : o_count n S with ⟨_ | _ | j, v, Z⟩
  · refine pb_retI (pb_V (rest := [.int 0, .ref (w_o w)]) C f_L_59 ⟨by decide, by decide, by decide, by decide⟩ (c_X_count l hfl w S T ov n ) hw (pb_Wd_x hw) hl.1 rfl rfl (Nat.le_of_ble_eq_true rfl) d_L_count_4) hS (by rw [hq]; rfl) (fun H locs hw hS => ?_)
    refine lv_i2l hx hb d_L_count_7 rfl ?_
    refine o_st ⟨hx, hb⟩ hN hw hS d_L_count_8 (fun H locs hw hS => ?_)
    refine lv_goto (tgt := 15) hx hb d_L_count_9 (by decide) ?_
    refine lv_iconst (v := 0) hx hb d_L_count_15 (by decide) ?_
    exact e_i ⟨hx, hb⟩ hr hlocks hw hS (rfl) (by decide) (by decide) d_L_count_16
  · refine pb_thr (pb_V (rest := [.int 0, .ref (w_o w)]) C f_L_59 ⟨by decide, by decide, by decide, by decide⟩ (c_X_count l hfl w S T ov n ) hw (pb_Wd_x hw) hl.1 rfl rfl (Nat.le_of_ble_eq_true rfl) d_L_count_4) hS (by rw [hq]; rfl) (fun xa H locs hw hS hex => ?_)
    refine pb_catch1 (x := ⟨0, 9, 12, 13⟩) (t := []) hown hts hno (by decide) (by decide) pb_k32 pb_k43 hex ?_
    refine lv_astore_n (lv' := [(3, .ref xa), (0, .ref (w_x w)), (1, .int n), (2, .ref (w_o w))]) hx hb d_L_count_12 rfl hl (by decide) rfl (fun ls hl => ?_)
    refine lv_iconst (v := 1) hx hb d_L_count_13 (by decide) ?_
    exact e_i ⟨hx, hb⟩ hr hlocks hw hS (rfl) (by decide) (by decide) d_L_count_14
  · rw [hq] at hc
    have hc : j + 2 ≤ 1 := hc
    omega
end
section
/-! part 20: the plain law: the model's takes answer as the commands do -/
theorem g_ok {f : Int32} {S0 Z : St} {k : Nat} (hZ : Z.2 = S0.2) (h : Z.1 + k ≤ Z.2.1) : m_get k (f, S0, Z.1, true) = (rdv Z.2.2 Z.1 k, (f, S0, Z.1 + k, true)) := by
  rw [hZ] at h ⊢
  exact m_get_ok (T := (f, S0, Z.1, true)) ⟨rfl, h⟩
theorem g_no {f : Int32} {S0 Z : St} {k : Nat} (hZ : Z.2 = S0.2) (h : ¬ Z.1 + k ≤ Z.2.1) : m_get k (f, S0, Z.1, true) = (0, (f, S0, Z.1, false)) := by
  rw [hZ] at h
  exact m_get_no (T := (f, S0, Z.1, true)) (fun z => h z.2)
theorem g_bad {f : Int32} {S0 : St} {k r : Nat} : m_get k (f, S0, r, false) = (0, (f, S0, r, false)) := m_get_no (T := (f, S0, r, false)) (fun z => absurd (show false = true from z.1) (by decide))
theorem len_bad {f : Int32} {S0 : St} {r : Nat} : (m_len (f, S0, r, false)).2 = (f, S0, r, false) := by
  unfold m_len m_len1
  rw [g_bad, if_pos rfl, g_bad]
theorem i_127 (v : Int32) : ¬ 127 < v ↔ v < 128 := by
  rw [Int32.lt_iff_toInt_lt, Int32.lt_iff_toInt_lt]
  have e1 : (127 : Int32).toInt = 127 := by decide
  have e2 : (128 : Int32).toInt = 128 := by decide
  omega
theorem i_14 (v : Int32) : ¬ (0 < v ∧ v < 5) ↔ (v < 1 ∨ 4 < v) := by
  rw [Int32.lt_iff_toInt_lt, Int32.lt_iff_toInt_lt, Int32.lt_iff_toInt_lt, Int32.lt_iff_toInt_lt]
  have e0 : (0 : Int32).toInt = 0 := by decide
  have e1 : (1 : Int32).toInt = 1 := by decide
  have e2 : (4 : Int32).toInt = 4 := by decide
  have e3 : (5 : Int32).toInt = 5 := by decide
  omega
theorem i_18b (v : Int32) : ¬ (0 < v ∧ v < 9) ↔ (v < 1 ∨ 8 < v) := by
  rw [Int32.lt_iff_toInt_lt, Int32.lt_iff_toInt_lt, Int32.lt_iff_toInt_lt, Int32.lt_iff_toInt_lt]
  have e0 : (0 : Int32).toInt = 0 := by decide
  have e1 : (1 : Int32).toInt = 1 := by decide
  have e2 : (8 : Int32).toInt = 8 := by decide
  have e3 : (9 : Int32).toInt = 9 := by decide
  omega
/-- what the model's side must be, by the class's: an answer and the place, or not good -/
def tieL (f : Int32) (S0 : St) (p : Int32 × Mt) (q : Option Int32 × St) : Prop := (∀ v Y, q = (some v, Y) → p = (v, (f, S0, Y.1, true))) ∧ (∀ Y, q = (none, Y) → ∃ r, p.2 = (f, S0, r, false))
theorem tieL_s {f : Int32} {S0 Y : St} {v : Int32} : tieL f S0 (v, (f, S0, Y.1, true)) (some v, Y) := ⟨fun v' Y' h => by cases h; rfl, fun Y' h => by cases h⟩
theorem tieL_n {f : Int32} {S0 Y : St} {p : Int32 × Mt} {r : Nat} (h : p.2 = (f, S0, r, false)) : tieL f S0 p (none, Y) := ⟨fun v' Y' h => (by cases h), fun Y' _ => ⟨r, h⟩⟩
theorem tie_len1 {f : Int32} {S0 Z : St} (hZ : Z.2 = S0.2) : tieL f S0 (m_len1 (f, S0, Z.1, true)) (x_len1 Z) := by
  by_cases h : Z.1 + 7 ≤ Z.2.1
  · rw [x_len1_ok h]
    unfold m_len1
    rw [g_ok hZ h]
    exact tieL_s
  · rw [x_len1_no h]
    unfold m_len1
    rw [g_no hZ h]
    exact tieL_n rfl
theorem tie_len3 {f : Int32} {S0 Z : St} (hZ : Z.2 = S0.2) : tieL f S0 (m_len3 (f, S0, Z.1, true)) (x_len3 Z) := by
  by_cases h : Z.1 + 14 ≤ Z.2.1
  · by_cases h2 : 127 < (rdv Z.2.2 Z.1 14).toInt32
    · rw [x_len3_ok h h2]
      unfold m_len3
      rw [g_ok hZ h, if_neg (fun z => (i_127 _).mpr z h2)]
      exact tieL_s
    · rw [x_len3_bad h h2]
      unfold m_len3
      rw [g_ok hZ h, if_pos ((i_127 _).mp h2)]
      exact tieL_n rfl
  · rw [x_len3_no h]
    unfold m_len3
    rw [g_no hZ h]
    refine tieL_n (r := Z.1) ?_
    dsimp only
    split <;> rfl
theorem tie_len4 {f : Int32} {S0 Z : St} (hZ : Z.2 = S0.2) : tieL f S0 (m_len4 (f, S0, Z.1, true)) (x_len4 Z) := by
  by_cases h : Z.1 + 6 ≤ Z.2.1
  · by_cases h2 : 0 < (rdv Z.2.2 Z.1 6).toInt32 ∧ (rdv Z.2.2 Z.1 6).toInt32 < 5
    · rw [x_len4_ok h h2]
      unfold m_len4
      rw [g_ok hZ h, if_neg (fun z => (i_14 _).mpr z h2), Int32.mul_comm]
      exact tieL_s
    · rw [x_len4_bad h h2]
      unfold m_len4
      rw [g_ok hZ h, if_pos ((i_14 _).mp h2)]
      exact tieL_n rfl
  · rw [x_len4_no h]
    unfold m_len4
    rw [g_no hZ h]
    refine tieL_n (r := Z.1) ?_
    dsimp only
    split <;> rfl
theorem tie_len2 {f : Int32} {S0 Z : St} (hZ : Z.2 = S0.2) : tieL f S0 (m_len2 (f, S0, Z.1, true)) (x_len2 Z) := by
  by_cases h : Z.1 + 1 ≤ Z.2.1
  · by_cases h2 : rdv Z.2.2 Z.1 1 = 0
    · rw [x_len2_3 h h2]
      unfold m_len2
      rw [g_ok hZ h, if_pos h2]
      exact tie_len3 (Z := (Z.1 + 1, Z.2)) hZ
    · rw [x_len2_4 h h2]
      unfold m_len2
      rw [g_ok hZ h, if_neg h2]
      exact tie_len4 (Z := (Z.1 + 1, Z.2)) hZ
  · rw [x_len2_no h]
    unfold m_len2
    rw [g_no hZ h, if_pos rfl]
    unfold m_len3
    rw [g_bad]
    refine tieL_n (r := Z.1) ?_
    dsimp only
    split <;> rfl
theorem tie_len {f : Int32} {S0 Z : St} (hZ : Z.2 = S0.2) : tieL f S0 (m_len (f, S0, Z.1, true)) (x_len Z) := by
  by_cases h : Z.1 + 1 ≤ Z.2.1
  · by_cases h2 : rdv Z.2.2 Z.1 1 = 0
    · rw [x_len_1 h h2]
      unfold m_len
      rw [g_ok hZ h, if_pos h2]
      exact tie_len1 (Z := (Z.1 + 1, Z.2)) hZ
    · rw [x_len_2 h h2]
      unfold m_len
      rw [g_ok hZ h, if_neg h2]
      exact tie_len2 (Z := (Z.1 + 1, Z.2)) hZ
  · rw [x_len_no h]
    unfold m_len
    rw [g_no hZ h, if_pos rfl]
    unfold m_len1
    rw [g_bad]
    exact tieL_n rfl
-- a whole command: answer, failed, place and size and bits
def tieI (p : Int32 × Mt) (q : Nat × Int32 × St) : Prop := p.1 = q.2.1 ∧ p.2.1 = nI q.1 ∧ p.2.2.1 = q.2.2
def tieJ (p : Int64 × Mt) (q : Nat × Int64 × St) : Prop := p.1 = q.2.1 ∧ p.2.1 = nI q.1 ∧ p.2.2.1 = q.2.2
theorem tie_take (n : Int32) (T : Mt) : tieJ (m_take n T) (o_take n T.2.1) := by
  unfold m_take o_take
  split
  · exact ⟨rfl, rfl, rfl⟩
  · generalize n.toNatClampNeg = k
    by_cases h : T.2.1.1 + k ≤ T.2.1.2.1
    · rw [show m_get k (m_beg T) = _ from g_ok (Z := T.2.1) rfl h, o_rd_ok h, m_done_ok rfl]
      exact ⟨rfl, rfl, rfl⟩
    · rw [show m_get k (m_beg T) = _ from g_no (Z := T.2.1) rfl h, o_rd_no h, m_done_no rfl]
      exact ⟨rfl, rfl, rfl⟩
theorem l_min (x : Int64) : (x + (-9223372036854775808)).toInt = if 0 ≤ x.toInt then x.toInt - 9223372036854775808 else x.toInt + 9223372036854775808 := by
  have h1 := x.le_toInt
  have h2 := x.toInt_lt
  rw [Int64.toInt_add, show (-9223372036854775808 : Int64).toInt = -9223372036854775808 by decide]
  unfold Int.bmod
  dsimp only
  split <;> split <;> omega
theorem l_ugt (m v : Int64) : (m + (-9223372036854775808) < v + (-9223372036854775808)) ↔ ((v < 0 ∧ (0 ≤ m ∨ m < v)) ∨ (0 ≤ v ∧ 0 ≤ m ∧ m < v)) := by
  rw [Int64.lt_iff_toInt_lt, Int64.lt_iff_toInt_lt, Int64.lt_iff_toInt_lt, Int64.le_iff_toInt_le, Int64.le_iff_toInt_le, l_min, l_min]
  have e0 : (0 : Int64).toInt = 0 := by decide
  rw [e0]
  have h1 := m.le_toInt
  have h2 := m.toInt_lt
  have h3 := v.le_toInt
  have h4 := v.toInt_lt
  split <;> split <;> omega
theorem tie_takeRange (lo hi : Int64) (T : Mt) : tieJ (m_takeRange lo hi T) (o_takeRange lo hi T.2.1) := by
  by_cases h0 : hi < lo
  · unfold m_takeRange o_takeRange
    rw [if_pos h0, if_pos h0]
    exact ⟨rfl, rfl, rfl⟩
  · by_cases h : T.2.1.1 + wid (hi - lo) ≤ T.2.1.2.1
    · by_cases h2 : hi - lo + (-9223372036854775808) < rdv T.2.1.2.2 T.2.1.1 (wid (hi - lo)) + (-9223372036854775808)
      · rw [o_tr_big h0 h h2]
        unfold m_takeRange m_tr
        rw [if_neg h0, show m_get (wid (hi - lo)) (m_beg T) = _ from g_ok (Z := T.2.1) rfl h, if_pos ((l_ugt _ _).mp h2), m_done_no rfl]
        exact ⟨rfl, rfl, rfl⟩
      · rw [o_tr_ok h0 h h2]
        unfold m_takeRange m_tr
        rw [if_neg h0, show m_get (wid (hi - lo)) (m_beg T) = _ from g_ok (Z := T.2.1) rfl h, if_neg (fun z => h2 ((l_ugt _ _).mpr z)), m_done_ok rfl]
        exact ⟨rfl, rfl, rfl⟩
    · rw [o_tr_no h0 h]
      unfold m_takeRange m_tr
      rw [if_neg h0, show m_get (wid (hi - lo)) (m_beg T) = _ from g_no (Z := T.2.1) rfl h]
      split
      · rw [m_done_no rfl]
        exact ⟨rfl, rfl, rfl⟩
      · rw [m_done_no rfl]
        exact ⟨rfl, rfl, rfl⟩
theorem tie_takeLength (T : Mt) (hs : T.2.1.1 ≤ T.2.1.2.1) : tieI (m_takeLength T) (o_takeLength T.2.1) := by
  have ht := tie_len (f := 0) (S0 := T.2.1) (Z := T.2.1) rfl
  have hf := x_len_fw hs
  unfold m_takeLength
  rcases hq : x_len T.2.1 with ⟨_ | v, Y⟩
  · obtain ⟨r, hr⟩ := ht.2 Y hq
    rw [o_tl_no hq, show (m_len (m_beg T)).2 = _ from hr, m_done_no rfl]
    exact ⟨rfl, rfl, rfl⟩
  · have hr := ht.1 v Y hq
    rw [hq] at hf
    have h9 : Y.2 = T.2.1.2 := hf.2.2
    rw [o_tl_ok hq, show m_len (m_beg T) = _ from hr, m_done_ok rfl]
    refine ⟨Int32.toInt32_toInt64 v, rfl, ?_⟩
    show (Y.1, T.2.1.2) = Y
    rw [← h9]
theorem l_63 (v : Int64) : 63 < v ↔ ¬ v < 64 := by
  rw [Int64.lt_iff_toInt_lt, Int64.lt_iff_toInt_lt]
  have e1 : (63 : Int64).toInt = 63 := by decide
  have e2 : (64 : Int64).toInt = 64 := by decide
  omega
theorem n3_iff {kind : Int32} {k : Nat} {F : Int64} (hk : ¬ 2 < kind) : (o_by kind F = k ∧ (kind < 2 ∨ F < 0 ∨ 63 < F)) ↔ ¬ (¬ k = m_by kind F ∨ (kind = 2 ∧ 0 ≤ F ∧ F < 64)) := by
  rw [m_by_o, l_63]
  have hk2 : kind < 2 ∨ kind = 2 := by
    rw [Int32.lt_iff_toInt_lt] at hk ⊢
    rw [← Int32.toInt_inj]
    omega
  have hk3 : ¬ (kind < 2 ∧ kind = 2) := fun z => by
    rw [z.2] at z
    exact absurd z.1 (by decide)
  have hF : F < 0 ↔ ¬ 0 ≤ F := Int64.not_le.symm
  constructor
  · intro h hc
    rcases hc with hc | hc
    · exact hc h.1.symm
    · rcases h.2 with h2 | h2 | h2
      · exact hk3 ⟨h2, hc.1⟩
      · exact hF.mp h2 hc.2.1
      · exact h2 hc.2.2
  · intro h
    refine ⟨?_, ?_⟩
    · apply Decidable.byContradiction
      intro hc
      exact h (Or.inl (fun z => hc z.symm))
    · rcases hk2 with h2 | h2
      · exact Or.inl h2
      · refine Or.inr ?_
        by_cases h3 : F < 0
        · exact Or.inl h3
        · exact Or.inr (fun h4 => h (Or.inr ⟨h2, Int64.not_lt.mp h3, h4⟩))
/-- number(): the same for the model -/
def tieN (S0 : St) (p : Int64 × Mt) (q : Option Int64 × St) : Prop := (∀ v Y, q = (some v, Y) → p = (v, (0, (Y.1, S0.2), Y.1, true))) ∧ (∀ Y, q = (none, Y) → ∃ r g, p = (0, (2, S0, r, g)))
theorem tieN_s {S0 Y : St} {v : Int64} : tieN S0 (v, (0, (Y.1, S0.2), Y.1, true)) (some v, Y) := ⟨fun v' Y' h => by cases h; rfl, fun Y' h => by cases h⟩
theorem tieN_n {S0 Y : St} {p : Int64 × Mt} {r : Nat} {g : Bool} (h : p = (0, (2, S0, r, g))) : tieN S0 p (none, Y) := ⟨fun v' Y' h => (by cases h), fun Y' _ => ⟨r, g, h⟩⟩
theorem tie_num3 {kind : Int32} {k : Nat} {S0 Z : St} (hk : ¬ 2 < kind) (hZ : Z.2 = S0.2) : tieN S0 (m_num3 kind k (0, S0, Z.1, true)) (x_num3 kind k Z) := by
  by_cases h : Z.1 + 8 * k ≤ Z.2.1
  · by_cases h2 : o_by kind (o_fix kind k (rdv Z.2.2 Z.1 (8 * k))) = k ∧ (kind < 2 ∨ o_fix kind k (rdv Z.2.2 Z.1 (8 * k)) < 0 ∨ 63 < o_fix kind k (rdv Z.2.2 Z.1 (8 * k)))
    · rw [x_num3_ok h h2]
      unfold m_num3 m_n3
      rw [g_ok hZ h, if_neg ((n3_iff hk).mp h2), m_done_ok rfl]
      exact tieN_s
    · rw [x_num3_bad h h2]
      unfold m_num3 m_n3
      rw [g_ok hZ h, if_pos (Decidable.byContradiction (fun z => h2 ((n3_iff hk).mpr z))), m_done_no rfl]
      exact tieN_n rfl
  · rw [x_num3_no h]
    unfold m_num3 m_n3
    rw [g_no hZ h]
    refine tieN_n (r := Z.1) (g := false) ?_
    split
    · rw [m_done_no rfl]; rfl
    · rw [m_done_no rfl]
theorem tie_num2 {kind : Int32} {S0 Z : St} (hk : ¬ 2 < kind) (hZ : Z.2 = S0.2) (hs : Z.1 ≤ Z.2.1) : tieN S0 (m_num2 kind (0, S0, Z.1, true)) (x_num2 kind Z) := by
  have ht := tie_len (f := 0) (S0 := S0) (Z := Z) hZ
  have hf := x_len_fw hs
  rcases hq : x_len Z with ⟨_ | v, Y⟩
  · obtain ⟨r, hr⟩ := ht.2 Y hq
    rw [x_num2_no hq]
    unfold m_num2 m_n2
    rw [hr]
    refine tieN_n (r := r) (g := false) ?_
    split
    · rw [if_neg (by show ¬ false = true; decide)]; rfl
    · rw [if_neg (by show ¬ false = true; decide)]
  · have hr := ht.1 v Y hq
    rw [hq] at hf
    have h9 : Y.2 = S0.2 := hf.2.2.trans hZ
    by_cases h2 : 0 < v ∧ v < 9
    · rw [x_num2_ok hq h2]
      unfold m_num2 m_n2
      rw [hr, if_neg (fun z => (i_18b v).mpr z h2), if_pos rfl]
      exact tie_num3 hk h9
    · rw [x_num2_bad hq h2]
      unfold m_num2 m_n2
      rw [hr, if_pos ((i_18b v).mp h2)]
      refine tieN_n (r := Y.1) (g := false) ?_
      rw [if_neg (by show ¬ false = true; decide)]
      rfl
theorem tie_num1 {S0 Z : St} (hZ : Z.2 = S0.2) : tieN S0 (m_num1 (0, S0, Z.1, true)) (x_num1 Z) := by
  by_cases h : Z.1 + 6 ≤ Z.2.1
  · rw [x_num1_ok h]
    unfold m_num1
    rw [g_ok hZ h, m_done_ok rfl]
    exact tieN_s
  · rw [x_num1_no h]
    unfold m_num1
    rw [g_no hZ h, m_done_no rfl]
    exact tieN_n rfl
theorem tie_takeNumber (kind : Int32) (T : Mt) (hs : T.2.1.1 ≤ T.2.1.2.1) : tieJ (m_takeNumber kind T) (o_takeNumber kind T.2.1) := by
  by_cases h0 : kind < 0 ∨ 2 < kind
  · unfold m_takeNumber o_takeNumber
    rw [if_pos h0, if_pos h0]
    exact ⟨rfl, rfl, rfl⟩
  · have h1 : ¬ kind < 0 := fun z => h0 (Or.inl z)
    have h2 : ¬ 2 < kind := fun z => h0 (Or.inr z)
    have key : tieN T.2.1 (m_takeNumber kind T) (x_num kind T.2.1) := by
      unfold m_takeNumber
      rw [if_neg h0]
      by_cases hk : kind = 2
      · rw [if_pos hk]
        by_cases h : T.2.1.1 + 1 ≤ T.2.1.2.1
        · rw [show m_get 1 (m_beg T) = _ from g_ok (Z := T.2.1) rfl h]
          by_cases h3 : rdv T.2.1.2.2 T.2.1.1 1 = 0
          · rw [x_num_1 hk h h3, if_pos h3]
            exact tie_num1 (S0 := T.2.1) (Z := (T.2.1.1 + 1, T.2.1.2)) rfl
          · rw [x_num_2 hk h h3, if_neg h3]
            exact tie_num2 (S0 := T.2.1) (Z := (T.2.1.1 + 1, T.2.1.2)) h2 rfl h
        · rw [show m_get 1 (m_beg T) = _ from g_no (Z := T.2.1) rfl h, x_num_no hk h, if_pos rfl]
          unfold m_num1
          rw [g_bad, m_done_no rfl]
          exact tieN_n rfl
      · rw [if_neg hk, x_num_p hk]
        exact tie_num2 (S0 := T.2.1) (Z := T.2.1) h2 rfl hs
    have hf := x_num_fw (kind := kind) hs
    rcases hq : x_num kind T.2.1 with ⟨_ | v, Y⟩
    · obtain ⟨r, g, hr⟩ := key.2 Y hq
      rw [o_tn_no h1 h2 hq, hr]
      exact ⟨rfl, rfl, rfl⟩
    · have hr := key.1 v Y hq
      rw [hq] at hf
      have h9 : Y.2 = T.2.1.2 := hf.2.2
      rw [o_tn_ok h1 h2 hq, hr]
      refine ⟨rfl, rfl, ?_⟩
      show (Y.1, T.2.1.2) = Y
      rw [← h9]
-- every command keeps the state in order
theorem pw_ok {x : Int64} {k : Nat} {S : St} (h : pb_ok S) (h2 : ¬ 65536 < S.2.1 + k) : pb_ok (pw x k S) := ⟨by show S.1 ≤ S.2.1 + k; have := h.1; omega, by show S.2.1 + k ≤ 65536; omega⟩
theorem o_w_k {x : Int64} {k : Nat} {S : St} (h : pb_ok S) : pb_ok (o_w x k S).2.2 := by
  by_cases h2 : 65536 < S.2.1 + k
  · rw [o_w_no h2]; exact h
  · rw [o_w_ok h2]; exact pw_ok h h2
theorem o_put_ok {x : Int64} {n : Int32} {S : St} (h : pb_ok S) : pb_ok (o_put x n S).2.2 := by
  unfold o_put
  split
  · exact h
  · exact o_w_k h
theorem o_putRange_ok {lo hi n : Int64} {S : St} (h : pb_ok S) : pb_ok (o_putRange lo hi n S).2.2 := by
  unfold o_putRange
  split
  · exact h
  · exact o_w_k h
theorem o_putLength_kk {n : Int32} {S : St} (h : pb_ok S) : pb_ok (o_putLength n S).2.2 := by
  unfold o_putLength
  split
  · exact h
  · show pb_ok (o_lenw n S).2.2
    unfold o_lenw
    split
    · exact o_w_k h
    · split
      · exact o_w_k h
      · exact o_w_k h
theorem o_putNumber_ok {kind : Int32} {n : Int64} {S : St} (h : pb_ok S) : pb_ok (o_putNumber kind n S).2.2 := by
  unfold o_putNumber
  split
  · exact h
  · split
    · exact o_w_k h
    · by_cases h2 : 65536 < S.2.1 + (8 + 8 * o_by kind n + o_1 kind)
      · rw [o_big_no h2]; exact h
      · rw [o_big_ok h2]
        have h3 := h.1
        by_cases hk : kind = 2
        · rw [if_pos hk]
          rw [show o_1 kind = 1 from if_pos hk] at h2
          exact ⟨by show S.1 ≤ S.2.1 + 1 + 8 + 8 * o_by kind n; omega, by show S.2.1 + 1 + 8 + 8 * o_by kind n ≤ 65536; omega⟩
        · rw [if_neg hk]
          exact ⟨by show S.1 ≤ S.2.1 + 8 + 8 * o_by kind n; omega, by show S.2.1 + 8 + 8 * o_by kind n ≤ 65536; omega⟩
theorem o_fill_ok {S : St} (h : pb_ok S) : pb_ok (o_fill S).2.2 := by
  have h1 := o_more_le h.2
  exact pw_ok h (by omega)
theorem o_rd_k {k : Nat} {S : St} (h : pb_ok S) : pb_ok (o_rd k S).2.2 := by
  by_cases h2 : S.1 + k ≤ S.2.1
  · rw [o_rd_ok h2]; exact ⟨h2, h.2⟩
  · rw [o_rd_no h2]; exact h
theorem o_take_ok {n : Int32} {S : St} (h : pb_ok S) : pb_ok (o_take n S).2.2 := by
  unfold o_take
  split
  · exact h
  · exact o_rd_k h
theorem o_takeRange_ok {lo hi : Int64} {S : St} (h : pb_ok S) : pb_ok (o_takeRange lo hi S).2.2 := by
  unfold o_takeRange
  split
  · exact h
  · split
    · split
      · exact h
      · exact o_rd_k h
    · exact h
theorem x_fw_ok {S Z : St} (h : pb_ok S) (hf : x_fw S Z) : pb_ok Z := ⟨hf.2.1, by rw [hf.2.2]; exact h.2⟩
theorem o_takeLength_ok {S : St} (h : pb_ok S) : pb_ok (o_takeLength S).2.2 := by
  have hf := x_len_fw h.1
  rcases hq : x_len S with ⟨_ | v, Y⟩
  · rw [o_tl_no hq]; exact h
  · rw [o_tl_ok hq]; rw [hq] at hf; exact x_fw_ok h hf
theorem o_takeNumber_ok {kind : Int32} {S : St} (h : pb_ok S) : pb_ok (o_takeNumber kind S).2.2 := by
  by_cases h0 : kind < 0 ∨ 2 < kind
  · unfold o_takeNumber
    rw [if_pos h0]
    exact h
  · have h1 : ¬ kind < 0 := fun z => h0 (Or.inl z)
    have h2 : ¬ 2 < kind := fun z => h0 (Or.inr z)
    have hf := x_num_fw (kind := kind) h.1
    rcases hq : x_num kind S with ⟨_ | v, Y⟩
    · rw [o_tn_no h1 h2 hq]; exact h
    · rw [o_tn_ok h1 h2 hq]; rw [hq] at hf; exact x_fw_ok h hf
theorem o_go_ok {n : Int32} {S : St} (h : pb_ok S) : pb_ok (o_go n S).2.2 := by
  have h3 := h.2
  unfold o_go
  split
  · exact h
  · rename_i h0
    obtain ⟨k, hk, rfl⟩ := nI_of (x := n) (fun z => h0 (Or.inl z))
    rw [nI_clamp hk]
    exact ⟨Nat.le_of_not_lt (fun z => h0 (Or.inr ((nI_ltI (by omega) hk).mpr z))), h.2⟩
theorem o_turn_ok {n : Int32} {S : St} (h : pb_ok S) : pb_ok (o_turn n S).2.2 := by
  unfold o_turn
  split
  · exact h
  · exact h
theorem o_cut_ok {n : Int32} {S : St} (h : pb_ok S) : pb_ok (o_cut n S).2.2 := by
  have h3 := h.2
  unfold o_cut
  split
  · exact h
  · rename_i h0
    obtain ⟨k, hk, rfl⟩ := nI_of (x := n) (fun z => h0 (Or.inl z))
    rw [nI_clamp hk]
    have h4 : k ≤ S.2.1 := Nat.le_of_not_lt (fun z => h0 (Or.inr ((nI_ltI (by omega) hk).mpr z)))
    exact ⟨Nat.min_le_right _ _, by show k ≤ 65536; omega⟩
theorem o_count_ok {n : Int32} {S : St} (h : pb_ok S) : pb_ok (o_count n S).2.2 := by
  unfold o_count
  repeat' split
  all_goals exact h
end
section
/-! part 21: what the law's instructions decode to (printed by gen/g21.py) -/
theorem d_L_law_0 : decode code 0 = .ok (.new 8, 3) := by decide +kernel
theorem d_L_law_3 : decode code 3 = .ok (.dup, 1) := by decide +kernel
theorem d_L_law_4 : decode code 4 = .ok (.invokespecial 62, 3) := by decide +kernel
theorem d_L_law_7 : decode code 7 = .ok (.astore_n 1, 1) := by decide +kernel
theorem d_L_law_8 : decode code 8 = .ok (.new 63, 3) := by decide +kernel
theorem d_L_law_11 : decode code 11 = .ok (.dup, 1) := by decide +kernel
theorem d_L_law_12 : decode code 12 = .ok (.invokespecial 65, 3) := by decide +kernel
theorem d_L_law_15 : decode code 15 = .ok (.astore_n 2, 1) := by decide +kernel
theorem d_L_law_16 : decode code 16 = .ok (.iconst (1), 1) := by decide +kernel
theorem d_L_law_17 : decode code 17 = .ok (.newarray .long, 2) := by decide +kernel
theorem d_L_law_19 : decode code 19 = .ok (.astore_n 3, 1) := by decide +kernel
theorem d_L_law_20 : decode code 20 = .ok (.iconst (0), 1) := by decide +kernel
theorem d_L_law_21 : decode code 21 = .ok (.istore 4, 2) := by decide +kernel
theorem d_L_law_23 : decode code 23 = .ok (.iload 4, 2) := by decide +kernel
theorem d_L_law_25 : decode code 25 = .ok (.aload_n 0, 1) := by decide +kernel
theorem d_L_law_26 : decode code 26 = .ok (.arraylength, 1) := by decide +kernel
theorem d_L_law_27 : decode code 27 = .ok (.bipush (7), 2) := by decide +kernel
theorem d_L_law_29 : decode code 29 = .ok (.isub, 1) := by decide +kernel
theorem d_L_law_30 : decode code 30 = .ok (.if_icmp .gt (1078), 3) := by decide +kernel
theorem d_L_law_33 : decode code 33 = .ok (.aload_n 0, 1) := by decide +kernel
theorem d_L_law_34 : decode code 34 = .ok (.iload 4, 2) := by decide +kernel
theorem d_L_law_36 : decode code 36 = .ok (.iaload, 1) := by decide +kernel
theorem d_L_law_37 : decode code 37 = .ok (.bipush (15), 2) := by decide +kernel
theorem d_L_law_39 : decode code 39 = .ok (.iand, 1) := by decide +kernel
theorem d_L_law_40 : decode code 40 = .ok (.tableswitch (1062) 0 12 #[68, 168, 346, 402, 502, 546, 601, 732, 776, 831, 887, 950, 1006], 68) := by decide +kernel
theorem d_L_law_108 : decode code 108 = .ok (.aload_n 1, 1) := by decide +kernel
theorem d_L_law_109 : decode code 109 = .ok (.aload_n 0, 1) := by decide +kernel
theorem d_L_law_110 : decode code 110 = .ok (.iload 4, 2) := by decide +kernel
theorem d_L_law_112 : decode code 112 = .ok (.iconst (1), 1) := by decide +kernel
theorem d_L_law_113 : decode code 113 = .ok (.iadd, 1) := by decide +kernel
theorem d_L_law_114 : decode code 114 = .ok (.iaload, 1) := by decide +kernel
theorem d_L_law_115 : decode code 115 = .ok (.i2l, 1) := by decide +kernel
theorem d_L_law_116 : decode code 116 = .ok (.bipush (32), 2) := by decide +kernel
theorem d_L_law_118 : decode code 118 = .ok (.lshl, 1) := by decide +kernel
theorem d_L_law_119 : decode code 119 = .ok (.aload_n 0, 1) := by decide +kernel
theorem d_L_law_120 : decode code 120 = .ok (.iload 4, 2) := by decide +kernel
theorem d_L_law_122 : decode code 122 = .ok (.iconst (2), 1) := by decide +kernel
theorem d_L_law_123 : decode code 123 = .ok (.iadd, 1) := by decide +kernel
theorem d_L_law_124 : decode code 124 = .ok (.iaload, 1) := by decide +kernel
theorem d_L_law_125 : decode code 125 = .ok (.i2l, 1) := by decide +kernel
theorem d_L_law_126 : decode code 126 = .ok (.ldc2_w 66, 3) := by decide +kernel
theorem d_L_law_129 : decode code 129 = .ok (.land, 1) := by decide +kernel
theorem d_L_law_130 : decode code 130 = .ok (.lor, 1) := by decide +kernel
theorem d_L_law_131 : decode code 131 = .ok (.aload_n 0, 1) := by decide +kernel
theorem d_L_law_132 : decode code 132 = .ok (.iload 4, 2) := by decide +kernel
theorem d_L_law_134 : decode code 134 = .ok (.iconst (3), 1) := by decide +kernel
theorem d_L_law_135 : decode code 135 = .ok (.iadd, 1) := by decide +kernel
theorem d_L_law_136 : decode code 136 = .ok (.iaload, 1) := by decide +kernel
theorem d_L_law_137 : decode code 137 = .ok (.aload_n 3, 1) := by decide +kernel
theorem d_L_law_138 : decode code 138 = .ok (.invokestatic 68, 3) := by decide +kernel
theorem d_L_law_141 : decode code 141 = .ok (.istore 5, 2) := by decide +kernel
theorem d_L_law_143 : decode code 143 = .ok (.aload_n 2, 1) := by decide +kernel
theorem d_L_law_144 : decode code 144 = .ok (.aload_n 0, 1) := by decide +kernel
theorem d_L_law_145 : decode code 145 = .ok (.iload 4, 2) := by decide +kernel
theorem d_L_law_147 : decode code 147 = .ok (.iconst (1), 1) := by decide +kernel
theorem d_L_law_148 : decode code 148 = .ok (.iadd, 1) := by decide +kernel
theorem d_L_law_149 : decode code 149 = .ok (.iaload, 1) := by decide +kernel
theorem d_L_law_150 : decode code 150 = .ok (.i2l, 1) := by decide +kernel
theorem d_L_law_151 : decode code 151 = .ok (.bipush (32), 2) := by decide +kernel
theorem d_L_law_153 : decode code 153 = .ok (.lshl, 1) := by decide +kernel
theorem d_L_law_154 : decode code 154 = .ok (.aload_n 0, 1) := by decide +kernel
theorem d_L_law_155 : decode code 155 = .ok (.iload 4, 2) := by decide +kernel
theorem d_L_law_157 : decode code 157 = .ok (.iconst (2), 1) := by decide +kernel
theorem d_L_law_158 : decode code 158 = .ok (.iadd, 1) := by decide +kernel
theorem d_L_law_159 : decode code 159 = .ok (.iaload, 1) := by decide +kernel
theorem d_L_law_160 : decode code 160 = .ok (.i2l, 1) := by decide +kernel
theorem d_L_law_161 : decode code 161 = .ok (.ldc2_w 66, 3) := by decide +kernel
theorem d_L_law_164 : decode code 164 = .ok (.land, 1) := by decide +kernel
theorem d_L_law_165 : decode code 165 = .ok (.lor, 1) := by decide +kernel
theorem d_L_law_166 : decode code 166 = .ok (.aload_n 0, 1) := by decide +kernel
theorem d_L_law_167 : decode code 167 = .ok (.iload 4, 2) := by decide +kernel
theorem d_L_law_169 : decode code 169 = .ok (.iconst (3), 1) := by decide +kernel
theorem d_L_law_170 : decode code 170 = .ok (.iadd, 1) := by decide +kernel
theorem d_L_law_171 : decode code 171 = .ok (.iaload, 1) := by decide +kernel
theorem d_L_law_172 : decode code 172 = .ok (.invokevirtual 73, 3) := by decide +kernel
theorem d_L_law_175 : decode code 175 = .ok (.istore 6, 2) := by decide +kernel
theorem d_L_law_177 : decode code 177 = .ok (.aload_n 2, 1) := by decide +kernel
theorem d_L_law_178 : decode code 178 = .ok (.invokevirtual 74, 3) := by decide +kernel
theorem d_L_law_181 : decode code 181 = .ok (.iload 5, 2) := by decide +kernel
theorem d_L_law_183 : decode code 183 = .ok (.if_icmp .eq (5), 3) := by decide +kernel
theorem d_L_law_186 : decode code 186 = .ok (.iconst (0), 1) := by decide +kernel
theorem d_L_law_187 : decode code 187 = .ok (.ireturn, 1) := by decide +kernel
theorem d_L_law_188 : decode code 188 = .ok (.iload 5, 2) := by decide +kernel
theorem d_L_law_190 : decode code 190 = .ok (.ifCond .ne (15), 3) := by decide +kernel
theorem d_L_law_193 : decode code 193 = .ok (.aload_n 3, 1) := by decide +kernel
theorem d_L_law_194 : decode code 194 = .ok (.iconst (0), 1) := by decide +kernel
theorem d_L_law_195 : decode code 195 = .ok (.laload, 1) := by decide +kernel
theorem d_L_law_196 : decode code 196 = .ok (.iload 6, 2) := by decide +kernel
theorem d_L_law_198 : decode code 198 = .ok (.i2l, 1) := by decide +kernel
theorem d_L_law_199 : decode code 199 = .ok (.lcmp, 1) := by decide +kernel
theorem d_L_law_200 : decode code 200 = .ok (.ifCond .eq (5), 3) := by decide +kernel
theorem d_L_law_203 : decode code 203 = .ok (.iconst (0), 1) := by decide +kernel
theorem d_L_law_204 : decode code 204 = .ok (.ireturn, 1) := by decide +kernel
theorem d_L_law_205 : decode code 205 = .ok (.goto (897), 3) := by decide +kernel
theorem d_L_law_208 : decode code 208 = .ok (.aload_n 1, 1) := by decide +kernel
theorem d_L_law_209 : decode code 209 = .ok (.aload_n 0, 1) := by decide +kernel
theorem d_L_law_210 : decode code 210 = .ok (.iload 4, 2) := by decide +kernel
theorem d_L_law_212 : decode code 212 = .ok (.iconst (1), 1) := by decide +kernel
theorem d_L_law_213 : decode code 213 = .ok (.iadd, 1) := by decide +kernel
theorem d_L_law_214 : decode code 214 = .ok (.iaload, 1) := by decide +kernel
theorem d_L_law_215 : decode code 215 = .ok (.i2l, 1) := by decide +kernel
theorem d_L_law_216 : decode code 216 = .ok (.bipush (32), 2) := by decide +kernel
theorem d_L_law_218 : decode code 218 = .ok (.lshl, 1) := by decide +kernel
theorem d_L_law_219 : decode code 219 = .ok (.aload_n 0, 1) := by decide +kernel
theorem d_L_law_220 : decode code 220 = .ok (.iload 4, 2) := by decide +kernel
theorem d_L_law_222 : decode code 222 = .ok (.iconst (2), 1) := by decide +kernel
theorem d_L_law_223 : decode code 223 = .ok (.iadd, 1) := by decide +kernel
theorem d_L_law_224 : decode code 224 = .ok (.iaload, 1) := by decide +kernel
theorem d_L_law_225 : decode code 225 = .ok (.i2l, 1) := by decide +kernel
theorem d_L_law_226 : decode code 226 = .ok (.ldc2_w 66, 3) := by decide +kernel
theorem d_L_law_229 : decode code 229 = .ok (.land, 1) := by decide +kernel
theorem d_L_law_230 : decode code 230 = .ok (.lor, 1) := by decide +kernel
theorem d_L_law_231 : decode code 231 = .ok (.aload_n 0, 1) := by decide +kernel
theorem d_L_law_232 : decode code 232 = .ok (.iload 4, 2) := by decide +kernel
theorem d_L_law_234 : decode code 234 = .ok (.iconst (3), 1) := by decide +kernel
theorem d_L_law_235 : decode code 235 = .ok (.iadd, 1) := by decide +kernel
theorem d_L_law_236 : decode code 236 = .ok (.iaload, 1) := by decide +kernel
theorem d_L_law_237 : decode code 237 = .ok (.i2l, 1) := by decide +kernel
theorem d_L_law_238 : decode code 238 = .ok (.bipush (32), 2) := by decide +kernel
theorem d_L_law_240 : decode code 240 = .ok (.lshl, 1) := by decide +kernel
end
section
/-! part 21: what the law's instructions decode to (printed by gen/g21.py) -/
theorem d_L_law_241 : decode code 241 = .ok (.aload_n 0, 1) := by decide +kernel
theorem d_L_law_242 : decode code 242 = .ok (.iload 4, 2) := by decide +kernel
theorem d_L_law_244 : decode code 244 = .ok (.iconst (4), 1) := by decide +kernel
theorem d_L_law_245 : decode code 245 = .ok (.iadd, 1) := by decide +kernel
theorem d_L_law_246 : decode code 246 = .ok (.iaload, 1) := by decide +kernel
theorem d_L_law_247 : decode code 247 = .ok (.i2l, 1) := by decide +kernel
theorem d_L_law_248 : decode code 248 = .ok (.ldc2_w 66, 3) := by decide +kernel
theorem d_L_law_251 : decode code 251 = .ok (.land, 1) := by decide +kernel
theorem d_L_law_252 : decode code 252 = .ok (.lor, 1) := by decide +kernel
theorem d_L_law_253 : decode code 253 = .ok (.aload_n 0, 1) := by decide +kernel
theorem d_L_law_254 : decode code 254 = .ok (.iload 4, 2) := by decide +kernel
theorem d_L_law_256 : decode code 256 = .ok (.iconst (5), 1) := by decide +kernel
theorem d_L_law_257 : decode code 257 = .ok (.iadd, 1) := by decide +kernel
theorem d_L_law_258 : decode code 258 = .ok (.iaload, 1) := by decide +kernel
theorem d_L_law_259 : decode code 259 = .ok (.i2l, 1) := by decide +kernel
theorem d_L_law_260 : decode code 260 = .ok (.bipush (32), 2) := by decide +kernel
theorem d_L_law_262 : decode code 262 = .ok (.lshl, 1) := by decide +kernel
theorem d_L_law_263 : decode code 263 = .ok (.aload_n 0, 1) := by decide +kernel
theorem d_L_law_264 : decode code 264 = .ok (.iload 4, 2) := by decide +kernel
theorem d_L_law_266 : decode code 266 = .ok (.bipush (6), 2) := by decide +kernel
theorem d_L_law_268 : decode code 268 = .ok (.iadd, 1) := by decide +kernel
theorem d_L_law_269 : decode code 269 = .ok (.iaload, 1) := by decide +kernel
theorem d_L_law_270 : decode code 270 = .ok (.i2l, 1) := by decide +kernel
theorem d_L_law_271 : decode code 271 = .ok (.ldc2_w 66, 3) := by decide +kernel
theorem d_L_law_274 : decode code 274 = .ok (.land, 1) := by decide +kernel
theorem d_L_law_275 : decode code 275 = .ok (.lor, 1) := by decide +kernel
theorem d_L_law_276 : decode code 276 = .ok (.aload_n 3, 1) := by decide +kernel
theorem d_L_law_277 : decode code 277 = .ok (.invokestatic 77, 3) := by decide +kernel
theorem d_L_law_280 : decode code 280 = .ok (.istore 5, 2) := by decide +kernel
theorem d_L_law_282 : decode code 282 = .ok (.aload_n 2, 1) := by decide +kernel
theorem d_L_law_283 : decode code 283 = .ok (.aload_n 0, 1) := by decide +kernel
theorem d_L_law_284 : decode code 284 = .ok (.iload 4, 2) := by decide +kernel
theorem d_L_law_286 : decode code 286 = .ok (.iconst (1), 1) := by decide +kernel
theorem d_L_law_287 : decode code 287 = .ok (.iadd, 1) := by decide +kernel
theorem d_L_law_288 : decode code 288 = .ok (.iaload, 1) := by decide +kernel
theorem d_L_law_289 : decode code 289 = .ok (.i2l, 1) := by decide +kernel
theorem d_L_law_290 : decode code 290 = .ok (.bipush (32), 2) := by decide +kernel
theorem d_L_law_292 : decode code 292 = .ok (.lshl, 1) := by decide +kernel
theorem d_L_law_293 : decode code 293 = .ok (.aload_n 0, 1) := by decide +kernel
theorem d_L_law_294 : decode code 294 = .ok (.iload 4, 2) := by decide +kernel
theorem d_L_law_296 : decode code 296 = .ok (.iconst (2), 1) := by decide +kernel
theorem d_L_law_297 : decode code 297 = .ok (.iadd, 1) := by decide +kernel
theorem d_L_law_298 : decode code 298 = .ok (.iaload, 1) := by decide +kernel
theorem d_L_law_299 : decode code 299 = .ok (.i2l, 1) := by decide +kernel
theorem d_L_law_300 : decode code 300 = .ok (.ldc2_w 66, 3) := by decide +kernel
theorem d_L_law_303 : decode code 303 = .ok (.land, 1) := by decide +kernel
theorem d_L_law_304 : decode code 304 = .ok (.lor, 1) := by decide +kernel
theorem d_L_law_305 : decode code 305 = .ok (.aload_n 0, 1) := by decide +kernel
theorem d_L_law_306 : decode code 306 = .ok (.iload 4, 2) := by decide +kernel
theorem d_L_law_308 : decode code 308 = .ok (.iconst (3), 1) := by decide +kernel
theorem d_L_law_309 : decode code 309 = .ok (.iadd, 1) := by decide +kernel
theorem d_L_law_310 : decode code 310 = .ok (.iaload, 1) := by decide +kernel
theorem d_L_law_311 : decode code 311 = .ok (.i2l, 1) := by decide +kernel
theorem d_L_law_312 : decode code 312 = .ok (.bipush (32), 2) := by decide +kernel
theorem d_L_law_314 : decode code 314 = .ok (.lshl, 1) := by decide +kernel
theorem d_L_law_315 : decode code 315 = .ok (.aload_n 0, 1) := by decide +kernel
theorem d_L_law_316 : decode code 316 = .ok (.iload 4, 2) := by decide +kernel
theorem d_L_law_318 : decode code 318 = .ok (.iconst (4), 1) := by decide +kernel
theorem d_L_law_319 : decode code 319 = .ok (.iadd, 1) := by decide +kernel
theorem d_L_law_320 : decode code 320 = .ok (.iaload, 1) := by decide +kernel
theorem d_L_law_321 : decode code 321 = .ok (.i2l, 1) := by decide +kernel
theorem d_L_law_322 : decode code 322 = .ok (.ldc2_w 66, 3) := by decide +kernel
theorem d_L_law_325 : decode code 325 = .ok (.land, 1) := by decide +kernel
theorem d_L_law_326 : decode code 326 = .ok (.lor, 1) := by decide +kernel
theorem d_L_law_327 : decode code 327 = .ok (.aload_n 0, 1) := by decide +kernel
theorem d_L_law_328 : decode code 328 = .ok (.iload 4, 2) := by decide +kernel
theorem d_L_law_330 : decode code 330 = .ok (.iconst (5), 1) := by decide +kernel
theorem d_L_law_331 : decode code 331 = .ok (.iadd, 1) := by decide +kernel
theorem d_L_law_332 : decode code 332 = .ok (.iaload, 1) := by decide +kernel
theorem d_L_law_333 : decode code 333 = .ok (.i2l, 1) := by decide +kernel
theorem d_L_law_334 : decode code 334 = .ok (.bipush (32), 2) := by decide +kernel
theorem d_L_law_336 : decode code 336 = .ok (.lshl, 1) := by decide +kernel
theorem d_L_law_337 : decode code 337 = .ok (.aload_n 0, 1) := by decide +kernel
theorem d_L_law_338 : decode code 338 = .ok (.iload 4, 2) := by decide +kernel
theorem d_L_law_340 : decode code 340 = .ok (.bipush (6), 2) := by decide +kernel
theorem d_L_law_342 : decode code 342 = .ok (.iadd, 1) := by decide +kernel
theorem d_L_law_343 : decode code 343 = .ok (.iaload, 1) := by decide +kernel
theorem d_L_law_344 : decode code 344 = .ok (.i2l, 1) := by decide +kernel
theorem d_L_law_345 : decode code 345 = .ok (.ldc2_w 66, 3) := by decide +kernel
theorem d_L_law_348 : decode code 348 = .ok (.land, 1) := by decide +kernel
theorem d_L_law_349 : decode code 349 = .ok (.lor, 1) := by decide +kernel
theorem d_L_law_350 : decode code 350 = .ok (.invokevirtual 80, 3) := by decide +kernel
theorem d_L_law_353 : decode code 353 = .ok (.istore 6, 2) := by decide +kernel
theorem d_L_law_355 : decode code 355 = .ok (.aload_n 2, 1) := by decide +kernel
theorem d_L_law_356 : decode code 356 = .ok (.invokevirtual 74, 3) := by decide +kernel
theorem d_L_law_359 : decode code 359 = .ok (.iload 5, 2) := by decide +kernel
theorem d_L_law_361 : decode code 361 = .ok (.if_icmp .eq (5), 3) := by decide +kernel
theorem d_L_law_364 : decode code 364 = .ok (.iconst (0), 1) := by decide +kernel
theorem d_L_law_365 : decode code 365 = .ok (.ireturn, 1) := by decide +kernel
theorem d_L_law_366 : decode code 366 = .ok (.iload 5, 2) := by decide +kernel
theorem d_L_law_368 : decode code 368 = .ok (.ifCond .ne (15), 3) := by decide +kernel
theorem d_L_law_371 : decode code 371 = .ok (.aload_n 3, 1) := by decide +kernel
theorem d_L_law_372 : decode code 372 = .ok (.iconst (0), 1) := by decide +kernel
theorem d_L_law_373 : decode code 373 = .ok (.laload, 1) := by decide +kernel
theorem d_L_law_374 : decode code 374 = .ok (.iload 6, 2) := by decide +kernel
theorem d_L_law_376 : decode code 376 = .ok (.i2l, 1) := by decide +kernel
theorem d_L_law_377 : decode code 377 = .ok (.lcmp, 1) := by decide +kernel
theorem d_L_law_378 : decode code 378 = .ok (.ifCond .eq (5), 3) := by decide +kernel
theorem d_L_law_381 : decode code 381 = .ok (.iconst (0), 1) := by decide +kernel
theorem d_L_law_382 : decode code 382 = .ok (.ireturn, 1) := by decide +kernel
theorem d_L_law_383 : decode code 383 = .ok (.goto (719), 3) := by decide +kernel
theorem d_L_law_386 : decode code 386 = .ok (.aload_n 1, 1) := by decide +kernel
theorem d_L_law_387 : decode code 387 = .ok (.aload_n 0, 1) := by decide +kernel
theorem d_L_law_388 : decode code 388 = .ok (.iload 4, 2) := by decide +kernel
theorem d_L_law_390 : decode code 390 = .ok (.iconst (1), 1) := by decide +kernel
theorem d_L_law_391 : decode code 391 = .ok (.iadd, 1) := by decide +kernel
theorem d_L_law_392 : decode code 392 = .ok (.iaload, 1) := by decide +kernel
theorem d_L_law_393 : decode code 393 = .ok (.aload_n 3, 1) := by decide +kernel
theorem d_L_law_394 : decode code 394 = .ok (.invokestatic 81, 3) := by decide +kernel
theorem d_L_law_397 : decode code 397 = .ok (.istore 5, 2) := by decide +kernel
theorem d_L_law_399 : decode code 399 = .ok (.aload_n 2, 1) := by decide +kernel
theorem d_L_law_400 : decode code 400 = .ok (.aload_n 0, 1) := by decide +kernel
theorem d_L_law_401 : decode code 401 = .ok (.iload 4, 2) := by decide +kernel
theorem d_L_law_403 : decode code 403 = .ok (.iconst (1), 1) := by decide +kernel
theorem d_L_law_404 : decode code 404 = .ok (.iadd, 1) := by decide +kernel
theorem d_L_law_405 : decode code 405 = .ok (.iaload, 1) := by decide +kernel
theorem d_L_law_406 : decode code 406 = .ok (.invokevirtual 84, 3) := by decide +kernel
theorem d_L_law_409 : decode code 409 = .ok (.istore 6, 2) := by decide +kernel
theorem d_L_law_411 : decode code 411 = .ok (.aload_n 2, 1) := by decide +kernel
theorem d_L_law_412 : decode code 412 = .ok (.invokevirtual 74, 3) := by decide +kernel
end
section
/-! part 21: what the law's instructions decode to (printed by gen/g21.py) -/
theorem d_L_law_415 : decode code 415 = .ok (.iload 5, 2) := by decide +kernel
theorem d_L_law_417 : decode code 417 = .ok (.if_icmp .eq (5), 3) := by decide +kernel
theorem d_L_law_420 : decode code 420 = .ok (.iconst (0), 1) := by decide +kernel
theorem d_L_law_421 : decode code 421 = .ok (.ireturn, 1) := by decide +kernel
theorem d_L_law_422 : decode code 422 = .ok (.iload 5, 2) := by decide +kernel
theorem d_L_law_424 : decode code 424 = .ok (.ifCond .ne (15), 3) := by decide +kernel
theorem d_L_law_427 : decode code 427 = .ok (.aload_n 3, 1) := by decide +kernel
theorem d_L_law_428 : decode code 428 = .ok (.iconst (0), 1) := by decide +kernel
theorem d_L_law_429 : decode code 429 = .ok (.laload, 1) := by decide +kernel
theorem d_L_law_430 : decode code 430 = .ok (.iload 6, 2) := by decide +kernel
theorem d_L_law_432 : decode code 432 = .ok (.i2l, 1) := by decide +kernel
theorem d_L_law_433 : decode code 433 = .ok (.lcmp, 1) := by decide +kernel
theorem d_L_law_434 : decode code 434 = .ok (.ifCond .eq (5), 3) := by decide +kernel
theorem d_L_law_437 : decode code 437 = .ok (.iconst (0), 1) := by decide +kernel
theorem d_L_law_438 : decode code 438 = .ok (.ireturn, 1) := by decide +kernel
theorem d_L_law_439 : decode code 439 = .ok (.goto (663), 3) := by decide +kernel
theorem d_L_law_442 : decode code 442 = .ok (.aload_n 1, 1) := by decide +kernel
theorem d_L_law_443 : decode code 443 = .ok (.aload_n 0, 1) := by decide +kernel
theorem d_L_law_444 : decode code 444 = .ok (.iload 4, 2) := by decide +kernel
theorem d_L_law_446 : decode code 446 = .ok (.iconst (1), 1) := by decide +kernel
theorem d_L_law_447 : decode code 447 = .ok (.iadd, 1) := by decide +kernel
theorem d_L_law_448 : decode code 448 = .ok (.iaload, 1) := by decide +kernel
theorem d_L_law_449 : decode code 449 = .ok (.aload_n 0, 1) := by decide +kernel
theorem d_L_law_450 : decode code 450 = .ok (.iload 4, 2) := by decide +kernel
theorem d_L_law_452 : decode code 452 = .ok (.iconst (2), 1) := by decide +kernel
theorem d_L_law_453 : decode code 453 = .ok (.iadd, 1) := by decide +kernel
theorem d_L_law_454 : decode code 454 = .ok (.iaload, 1) := by decide +kernel
theorem d_L_law_455 : decode code 455 = .ok (.i2l, 1) := by decide +kernel
theorem d_L_law_456 : decode code 456 = .ok (.bipush (32), 2) := by decide +kernel
theorem d_L_law_458 : decode code 458 = .ok (.lshl, 1) := by decide +kernel
theorem d_L_law_459 : decode code 459 = .ok (.aload_n 0, 1) := by decide +kernel
theorem d_L_law_460 : decode code 460 = .ok (.iload 4, 2) := by decide +kernel
theorem d_L_law_462 : decode code 462 = .ok (.iconst (3), 1) := by decide +kernel
theorem d_L_law_463 : decode code 463 = .ok (.iadd, 1) := by decide +kernel
theorem d_L_law_464 : decode code 464 = .ok (.iaload, 1) := by decide +kernel
theorem d_L_law_465 : decode code 465 = .ok (.i2l, 1) := by decide +kernel
theorem d_L_law_466 : decode code 466 = .ok (.ldc2_w 66, 3) := by decide +kernel
theorem d_L_law_469 : decode code 469 = .ok (.land, 1) := by decide +kernel
theorem d_L_law_470 : decode code 470 = .ok (.lor, 1) := by decide +kernel
theorem d_L_law_471 : decode code 471 = .ok (.aload_n 3, 1) := by decide +kernel
theorem d_L_law_472 : decode code 472 = .ok (.invokestatic 85, 3) := by decide +kernel
theorem d_L_law_475 : decode code 475 = .ok (.istore 5, 2) := by decide +kernel
theorem d_L_law_477 : decode code 477 = .ok (.aload_n 2, 1) := by decide +kernel
theorem d_L_law_478 : decode code 478 = .ok (.aload_n 0, 1) := by decide +kernel
theorem d_L_law_479 : decode code 479 = .ok (.iload 4, 2) := by decide +kernel
theorem d_L_law_481 : decode code 481 = .ok (.iconst (1), 1) := by decide +kernel
theorem d_L_law_482 : decode code 482 = .ok (.iadd, 1) := by decide +kernel
theorem d_L_law_483 : decode code 483 = .ok (.iaload, 1) := by decide +kernel
theorem d_L_law_484 : decode code 484 = .ok (.aload_n 0, 1) := by decide +kernel
theorem d_L_law_485 : decode code 485 = .ok (.iload 4, 2) := by decide +kernel
theorem d_L_law_487 : decode code 487 = .ok (.iconst (2), 1) := by decide +kernel
theorem d_L_law_488 : decode code 488 = .ok (.iadd, 1) := by decide +kernel
theorem d_L_law_489 : decode code 489 = .ok (.iaload, 1) := by decide +kernel
theorem d_L_law_490 : decode code 490 = .ok (.i2l, 1) := by decide +kernel
theorem d_L_law_491 : decode code 491 = .ok (.bipush (32), 2) := by decide +kernel
theorem d_L_law_493 : decode code 493 = .ok (.lshl, 1) := by decide +kernel
theorem d_L_law_494 : decode code 494 = .ok (.aload_n 0, 1) := by decide +kernel
theorem d_L_law_495 : decode code 495 = .ok (.iload 4, 2) := by decide +kernel
theorem d_L_law_497 : decode code 497 = .ok (.iconst (3), 1) := by decide +kernel
theorem d_L_law_498 : decode code 498 = .ok (.iadd, 1) := by decide +kernel
theorem d_L_law_499 : decode code 499 = .ok (.iaload, 1) := by decide +kernel
theorem d_L_law_500 : decode code 500 = .ok (.i2l, 1) := by decide +kernel
theorem d_L_law_501 : decode code 501 = .ok (.ldc2_w 66, 3) := by decide +kernel
theorem d_L_law_504 : decode code 504 = .ok (.land, 1) := by decide +kernel
theorem d_L_law_505 : decode code 505 = .ok (.lor, 1) := by decide +kernel
theorem d_L_law_506 : decode code 506 = .ok (.invokevirtual 88, 3) := by decide +kernel
theorem d_L_law_509 : decode code 509 = .ok (.istore 6, 2) := by decide +kernel
theorem d_L_law_511 : decode code 511 = .ok (.aload_n 2, 1) := by decide +kernel
theorem d_L_law_512 : decode code 512 = .ok (.invokevirtual 74, 3) := by decide +kernel
theorem d_L_law_515 : decode code 515 = .ok (.iload 5, 2) := by decide +kernel
theorem d_L_law_517 : decode code 517 = .ok (.if_icmp .eq (5), 3) := by decide +kernel
theorem d_L_law_520 : decode code 520 = .ok (.iconst (0), 1) := by decide +kernel
theorem d_L_law_521 : decode code 521 = .ok (.ireturn, 1) := by decide +kernel
theorem d_L_law_522 : decode code 522 = .ok (.iload 5, 2) := by decide +kernel
theorem d_L_law_524 : decode code 524 = .ok (.ifCond .ne (15), 3) := by decide +kernel
theorem d_L_law_527 : decode code 527 = .ok (.aload_n 3, 1) := by decide +kernel
theorem d_L_law_528 : decode code 528 = .ok (.iconst (0), 1) := by decide +kernel
theorem d_L_law_529 : decode code 529 = .ok (.laload, 1) := by decide +kernel
theorem d_L_law_530 : decode code 530 = .ok (.iload 6, 2) := by decide +kernel
theorem d_L_law_532 : decode code 532 = .ok (.i2l, 1) := by decide +kernel
theorem d_L_law_533 : decode code 533 = .ok (.lcmp, 1) := by decide +kernel
theorem d_L_law_534 : decode code 534 = .ok (.ifCond .eq (5), 3) := by decide +kernel
theorem d_L_law_537 : decode code 537 = .ok (.iconst (0), 1) := by decide +kernel
theorem d_L_law_538 : decode code 538 = .ok (.ireturn, 1) := by decide +kernel
theorem d_L_law_539 : decode code 539 = .ok (.goto (563), 3) := by decide +kernel
theorem d_L_law_542 : decode code 542 = .ok (.aload_n 1, 1) := by decide +kernel
theorem d_L_law_543 : decode code 543 = .ok (.aload_n 3, 1) := by decide +kernel
theorem d_L_law_544 : decode code 544 = .ok (.invokestatic 89, 3) := by decide +kernel
theorem d_L_law_547 : decode code 547 = .ok (.istore 5, 2) := by decide +kernel
theorem d_L_law_549 : decode code 549 = .ok (.aload_n 2, 1) := by decide +kernel
theorem d_L_law_550 : decode code 550 = .ok (.invokevirtual 92, 3) := by decide +kernel
theorem d_L_law_553 : decode code 553 = .ok (.istore 6, 2) := by decide +kernel
theorem d_L_law_555 : decode code 555 = .ok (.aload_n 2, 1) := by decide +kernel
theorem d_L_law_556 : decode code 556 = .ok (.invokevirtual 74, 3) := by decide +kernel
theorem d_L_law_559 : decode code 559 = .ok (.iload 5, 2) := by decide +kernel
theorem d_L_law_561 : decode code 561 = .ok (.if_icmp .eq (5), 3) := by decide +kernel
theorem d_L_law_564 : decode code 564 = .ok (.iconst (0), 1) := by decide +kernel
theorem d_L_law_565 : decode code 565 = .ok (.ireturn, 1) := by decide +kernel
theorem d_L_law_566 : decode code 566 = .ok (.iload 5, 2) := by decide +kernel
theorem d_L_law_568 : decode code 568 = .ok (.ifCond .ne (15), 3) := by decide +kernel
theorem d_L_law_571 : decode code 571 = .ok (.aload_n 3, 1) := by decide +kernel
theorem d_L_law_572 : decode code 572 = .ok (.iconst (0), 1) := by decide +kernel
theorem d_L_law_573 : decode code 573 = .ok (.laload, 1) := by decide +kernel
theorem d_L_law_574 : decode code 574 = .ok (.iload 6, 2) := by decide +kernel
theorem d_L_law_576 : decode code 576 = .ok (.i2l, 1) := by decide +kernel
theorem d_L_law_577 : decode code 577 = .ok (.lcmp, 1) := by decide +kernel
theorem d_L_law_578 : decode code 578 = .ok (.ifCond .eq (5), 3) := by decide +kernel
theorem d_L_law_581 : decode code 581 = .ok (.iconst (0), 1) := by decide +kernel
theorem d_L_law_582 : decode code 582 = .ok (.ireturn, 1) := by decide +kernel
theorem d_L_law_583 : decode code 583 = .ok (.goto (519), 3) := by decide +kernel
theorem d_L_law_586 : decode code 586 = .ok (.aload_n 1, 1) := by decide +kernel
theorem d_L_law_587 : decode code 587 = .ok (.aload_n 0, 1) := by decide +kernel
theorem d_L_law_588 : decode code 588 = .ok (.iload 4, 2) := by decide +kernel
theorem d_L_law_590 : decode code 590 = .ok (.iconst (1), 1) := by decide +kernel
theorem d_L_law_591 : decode code 591 = .ok (.iadd, 1) := by decide +kernel
theorem d_L_law_592 : decode code 592 = .ok (.iaload, 1) := by decide +kernel
theorem d_L_law_593 : decode code 593 = .ok (.aload_n 3, 1) := by decide +kernel
theorem d_L_law_594 : decode code 594 = .ok (.invokestatic 93, 3) := by decide +kernel
theorem d_L_law_597 : decode code 597 = .ok (.istore 5, 2) := by decide +kernel
theorem d_L_law_599 : decode code 599 = .ok (.aload_n 2, 1) := by decide +kernel
end
section
/-! part 21: what the law's instructions decode to (printed by gen/g21.py) -/
theorem d_L_law_600 : decode code 600 = .ok (.aload_n 0, 1) := by decide +kernel
theorem d_L_law_601 : decode code 601 = .ok (.iload 4, 2) := by decide +kernel
theorem d_L_law_603 : decode code 603 = .ok (.iconst (1), 1) := by decide +kernel
theorem d_L_law_604 : decode code 604 = .ok (.iadd, 1) := by decide +kernel
theorem d_L_law_605 : decode code 605 = .ok (.iaload, 1) := by decide +kernel
theorem d_L_law_606 : decode code 606 = .ok (.invokevirtual 95, 3) := by decide +kernel
theorem d_L_law_609 : decode code 609 = .ok (.lstore 6, 2) := by decide +kernel
theorem d_L_law_611 : decode code 611 = .ok (.aload_n 2, 1) := by decide +kernel
theorem d_L_law_612 : decode code 612 = .ok (.invokevirtual 74, 3) := by decide +kernel
theorem d_L_law_615 : decode code 615 = .ok (.iload 5, 2) := by decide +kernel
theorem d_L_law_617 : decode code 617 = .ok (.if_icmp .eq (5), 3) := by decide +kernel
theorem d_L_law_620 : decode code 620 = .ok (.iconst (0), 1) := by decide +kernel
theorem d_L_law_621 : decode code 621 = .ok (.ireturn, 1) := by decide +kernel
theorem d_L_law_622 : decode code 622 = .ok (.iload 5, 2) := by decide +kernel
theorem d_L_law_624 : decode code 624 = .ok (.ifCond .ne (14), 3) := by decide +kernel
theorem d_L_law_627 : decode code 627 = .ok (.aload_n 3, 1) := by decide +kernel
theorem d_L_law_628 : decode code 628 = .ok (.iconst (0), 1) := by decide +kernel
theorem d_L_law_629 : decode code 629 = .ok (.laload, 1) := by decide +kernel
theorem d_L_law_630 : decode code 630 = .ok (.lload 6, 2) := by decide +kernel
theorem d_L_law_632 : decode code 632 = .ok (.lcmp, 1) := by decide +kernel
theorem d_L_law_633 : decode code 633 = .ok (.ifCond .eq (5), 3) := by decide +kernel
theorem d_L_law_636 : decode code 636 = .ok (.iconst (0), 1) := by decide +kernel
theorem d_L_law_637 : decode code 637 = .ok (.ireturn, 1) := by decide +kernel
theorem d_L_law_638 : decode code 638 = .ok (.goto (464), 3) := by decide +kernel
theorem d_L_law_641 : decode code 641 = .ok (.aload_n 1, 1) := by decide +kernel
theorem d_L_law_642 : decode code 642 = .ok (.aload_n 0, 1) := by decide +kernel
theorem d_L_law_643 : decode code 643 = .ok (.iload 4, 2) := by decide +kernel
theorem d_L_law_645 : decode code 645 = .ok (.iconst (1), 1) := by decide +kernel
theorem d_L_law_646 : decode code 646 = .ok (.iadd, 1) := by decide +kernel
theorem d_L_law_647 : decode code 647 = .ok (.iaload, 1) := by decide +kernel
theorem d_L_law_648 : decode code 648 = .ok (.i2l, 1) := by decide +kernel
theorem d_L_law_649 : decode code 649 = .ok (.bipush (32), 2) := by decide +kernel
theorem d_L_law_651 : decode code 651 = .ok (.lshl, 1) := by decide +kernel
theorem d_L_law_652 : decode code 652 = .ok (.aload_n 0, 1) := by decide +kernel
theorem d_L_law_653 : decode code 653 = .ok (.iload 4, 2) := by decide +kernel
theorem d_L_law_655 : decode code 655 = .ok (.iconst (2), 1) := by decide +kernel
theorem d_L_law_656 : decode code 656 = .ok (.iadd, 1) := by decide +kernel
theorem d_L_law_657 : decode code 657 = .ok (.iaload, 1) := by decide +kernel
theorem d_L_law_658 : decode code 658 = .ok (.i2l, 1) := by decide +kernel
theorem d_L_law_659 : decode code 659 = .ok (.ldc2_w 66, 3) := by decide +kernel
theorem d_L_law_662 : decode code 662 = .ok (.land, 1) := by decide +kernel
theorem d_L_law_663 : decode code 663 = .ok (.lor, 1) := by decide +kernel
theorem d_L_law_664 : decode code 664 = .ok (.aload_n 0, 1) := by decide +kernel
theorem d_L_law_665 : decode code 665 = .ok (.iload 4, 2) := by decide +kernel
theorem d_L_law_667 : decode code 667 = .ok (.iconst (3), 1) := by decide +kernel
theorem d_L_law_668 : decode code 668 = .ok (.iadd, 1) := by decide +kernel
theorem d_L_law_669 : decode code 669 = .ok (.iaload, 1) := by decide +kernel
theorem d_L_law_670 : decode code 670 = .ok (.i2l, 1) := by decide +kernel
theorem d_L_law_671 : decode code 671 = .ok (.bipush (32), 2) := by decide +kernel
theorem d_L_law_673 : decode code 673 = .ok (.lshl, 1) := by decide +kernel
theorem d_L_law_674 : decode code 674 = .ok (.aload_n 0, 1) := by decide +kernel
theorem d_L_law_675 : decode code 675 = .ok (.iload 4, 2) := by decide +kernel
theorem d_L_law_677 : decode code 677 = .ok (.iconst (4), 1) := by decide +kernel
theorem d_L_law_678 : decode code 678 = .ok (.iadd, 1) := by decide +kernel
theorem d_L_law_679 : decode code 679 = .ok (.iaload, 1) := by decide +kernel
theorem d_L_law_680 : decode code 680 = .ok (.i2l, 1) := by decide +kernel
theorem d_L_law_681 : decode code 681 = .ok (.ldc2_w 66, 3) := by decide +kernel
theorem d_L_law_684 : decode code 684 = .ok (.land, 1) := by decide +kernel
theorem d_L_law_685 : decode code 685 = .ok (.lor, 1) := by decide +kernel
theorem d_L_law_686 : decode code 686 = .ok (.aload_n 3, 1) := by decide +kernel
theorem d_L_law_687 : decode code 687 = .ok (.invokestatic 96, 3) := by decide +kernel
theorem d_L_law_690 : decode code 690 = .ok (.istore 5, 2) := by decide +kernel
theorem d_L_law_692 : decode code 692 = .ok (.aload_n 2, 1) := by decide +kernel
theorem d_L_law_693 : decode code 693 = .ok (.aload_n 0, 1) := by decide +kernel
theorem d_L_law_694 : decode code 694 = .ok (.iload 4, 2) := by decide +kernel
theorem d_L_law_696 : decode code 696 = .ok (.iconst (1), 1) := by decide +kernel
theorem d_L_law_697 : decode code 697 = .ok (.iadd, 1) := by decide +kernel
theorem d_L_law_698 : decode code 698 = .ok (.iaload, 1) := by decide +kernel
theorem d_L_law_699 : decode code 699 = .ok (.i2l, 1) := by decide +kernel
theorem d_L_law_700 : decode code 700 = .ok (.bipush (32), 2) := by decide +kernel
theorem d_L_law_702 : decode code 702 = .ok (.lshl, 1) := by decide +kernel
theorem d_L_law_703 : decode code 703 = .ok (.aload_n 0, 1) := by decide +kernel
theorem d_L_law_704 : decode code 704 = .ok (.iload 4, 2) := by decide +kernel
theorem d_L_law_706 : decode code 706 = .ok (.iconst (2), 1) := by decide +kernel
theorem d_L_law_707 : decode code 707 = .ok (.iadd, 1) := by decide +kernel
theorem d_L_law_708 : decode code 708 = .ok (.iaload, 1) := by decide +kernel
theorem d_L_law_709 : decode code 709 = .ok (.i2l, 1) := by decide +kernel
theorem d_L_law_710 : decode code 710 = .ok (.ldc2_w 66, 3) := by decide +kernel
theorem d_L_law_713 : decode code 713 = .ok (.land, 1) := by decide +kernel
theorem d_L_law_714 : decode code 714 = .ok (.lor, 1) := by decide +kernel
theorem d_L_law_715 : decode code 715 = .ok (.aload_n 0, 1) := by decide +kernel
theorem d_L_law_716 : decode code 716 = .ok (.iload 4, 2) := by decide +kernel
theorem d_L_law_718 : decode code 718 = .ok (.iconst (3), 1) := by decide +kernel
theorem d_L_law_719 : decode code 719 = .ok (.iadd, 1) := by decide +kernel
theorem d_L_law_720 : decode code 720 = .ok (.iaload, 1) := by decide +kernel
theorem d_L_law_721 : decode code 721 = .ok (.i2l, 1) := by decide +kernel
theorem d_L_law_722 : decode code 722 = .ok (.bipush (32), 2) := by decide +kernel
theorem d_L_law_724 : decode code 724 = .ok (.lshl, 1) := by decide +kernel
theorem d_L_law_725 : decode code 725 = .ok (.aload_n 0, 1) := by decide +kernel
theorem d_L_law_726 : decode code 726 = .ok (.iload 4, 2) := by decide +kernel
theorem d_L_law_728 : decode code 728 = .ok (.iconst (4), 1) := by decide +kernel
theorem d_L_law_729 : decode code 729 = .ok (.iadd, 1) := by decide +kernel
theorem d_L_law_730 : decode code 730 = .ok (.iaload, 1) := by decide +kernel
theorem d_L_law_731 : decode code 731 = .ok (.i2l, 1) := by decide +kernel
theorem d_L_law_732 : decode code 732 = .ok (.ldc2_w 66, 3) := by decide +kernel
theorem d_L_law_735 : decode code 735 = .ok (.land, 1) := by decide +kernel
theorem d_L_law_736 : decode code 736 = .ok (.lor, 1) := by decide +kernel
theorem d_L_law_737 : decode code 737 = .ok (.invokevirtual 99, 3) := by decide +kernel
theorem d_L_law_740 : decode code 740 = .ok (.lstore 6, 2) := by decide +kernel
theorem d_L_law_742 : decode code 742 = .ok (.aload_n 2, 1) := by decide +kernel
theorem d_L_law_743 : decode code 743 = .ok (.invokevirtual 74, 3) := by decide +kernel
theorem d_L_law_746 : decode code 746 = .ok (.iload 5, 2) := by decide +kernel
theorem d_L_law_748 : decode code 748 = .ok (.if_icmp .eq (5), 3) := by decide +kernel
theorem d_L_law_751 : decode code 751 = .ok (.iconst (0), 1) := by decide +kernel
theorem d_L_law_752 : decode code 752 = .ok (.ireturn, 1) := by decide +kernel
theorem d_L_law_753 : decode code 753 = .ok (.iload 5, 2) := by decide +kernel
theorem d_L_law_755 : decode code 755 = .ok (.ifCond .ne (14), 3) := by decide +kernel
theorem d_L_law_758 : decode code 758 = .ok (.aload_n 3, 1) := by decide +kernel
theorem d_L_law_759 : decode code 759 = .ok (.iconst (0), 1) := by decide +kernel
theorem d_L_law_760 : decode code 760 = .ok (.laload, 1) := by decide +kernel
theorem d_L_law_761 : decode code 761 = .ok (.lload 6, 2) := by decide +kernel
theorem d_L_law_763 : decode code 763 = .ok (.lcmp, 1) := by decide +kernel
theorem d_L_law_764 : decode code 764 = .ok (.ifCond .eq (5), 3) := by decide +kernel
theorem d_L_law_767 : decode code 767 = .ok (.iconst (0), 1) := by decide +kernel
theorem d_L_law_768 : decode code 768 = .ok (.ireturn, 1) := by decide +kernel
theorem d_L_law_769 : decode code 769 = .ok (.goto (333), 3) := by decide +kernel
theorem d_L_law_772 : decode code 772 = .ok (.aload_n 1, 1) := by decide +kernel
theorem d_L_law_773 : decode code 773 = .ok (.aload_n 3, 1) := by decide +kernel
theorem d_L_law_774 : decode code 774 = .ok (.invokestatic 100, 3) := by decide +kernel
theorem d_L_law_777 : decode code 777 = .ok (.istore 5, 2) := by decide +kernel
end
section
/-! part 21: what the law's instructions decode to (printed by gen/g21.py) -/
theorem d_L_law_779 : decode code 779 = .ok (.aload_n 2, 1) := by decide +kernel
theorem d_L_law_780 : decode code 780 = .ok (.invokevirtual 102, 3) := by decide +kernel
theorem d_L_law_783 : decode code 783 = .ok (.istore 6, 2) := by decide +kernel
theorem d_L_law_785 : decode code 785 = .ok (.aload_n 2, 1) := by decide +kernel
theorem d_L_law_786 : decode code 786 = .ok (.invokevirtual 74, 3) := by decide +kernel
theorem d_L_law_789 : decode code 789 = .ok (.iload 5, 2) := by decide +kernel
theorem d_L_law_791 : decode code 791 = .ok (.if_icmp .eq (5), 3) := by decide +kernel
theorem d_L_law_794 : decode code 794 = .ok (.iconst (0), 1) := by decide +kernel
theorem d_L_law_795 : decode code 795 = .ok (.ireturn, 1) := by decide +kernel
theorem d_L_law_796 : decode code 796 = .ok (.iload 5, 2) := by decide +kernel
theorem d_L_law_798 : decode code 798 = .ok (.ifCond .ne (15), 3) := by decide +kernel
theorem d_L_law_801 : decode code 801 = .ok (.aload_n 3, 1) := by decide +kernel
theorem d_L_law_802 : decode code 802 = .ok (.iconst (0), 1) := by decide +kernel
theorem d_L_law_803 : decode code 803 = .ok (.laload, 1) := by decide +kernel
theorem d_L_law_804 : decode code 804 = .ok (.iload 6, 2) := by decide +kernel
theorem d_L_law_806 : decode code 806 = .ok (.i2l, 1) := by decide +kernel
theorem d_L_law_807 : decode code 807 = .ok (.lcmp, 1) := by decide +kernel
theorem d_L_law_808 : decode code 808 = .ok (.ifCond .eq (5), 3) := by decide +kernel
theorem d_L_law_811 : decode code 811 = .ok (.iconst (0), 1) := by decide +kernel
theorem d_L_law_812 : decode code 812 = .ok (.ireturn, 1) := by decide +kernel
theorem d_L_law_813 : decode code 813 = .ok (.goto (289), 3) := by decide +kernel
theorem d_L_law_816 : decode code 816 = .ok (.aload_n 1, 1) := by decide +kernel
theorem d_L_law_817 : decode code 817 = .ok (.aload_n 0, 1) := by decide +kernel
theorem d_L_law_818 : decode code 818 = .ok (.iload 4, 2) := by decide +kernel
theorem d_L_law_820 : decode code 820 = .ok (.iconst (1), 1) := by decide +kernel
theorem d_L_law_821 : decode code 821 = .ok (.iadd, 1) := by decide +kernel
theorem d_L_law_822 : decode code 822 = .ok (.iaload, 1) := by decide +kernel
theorem d_L_law_823 : decode code 823 = .ok (.aload_n 3, 1) := by decide +kernel
theorem d_L_law_824 : decode code 824 = .ok (.invokestatic 103, 3) := by decide +kernel
theorem d_L_law_827 : decode code 827 = .ok (.istore 5, 2) := by decide +kernel
theorem d_L_law_829 : decode code 829 = .ok (.aload_n 2, 1) := by decide +kernel
theorem d_L_law_830 : decode code 830 = .ok (.aload_n 0, 1) := by decide +kernel
theorem d_L_law_831 : decode code 831 = .ok (.iload 4, 2) := by decide +kernel
theorem d_L_law_833 : decode code 833 = .ok (.iconst (1), 1) := by decide +kernel
theorem d_L_law_834 : decode code 834 = .ok (.iadd, 1) := by decide +kernel
theorem d_L_law_835 : decode code 835 = .ok (.iaload, 1) := by decide +kernel
theorem d_L_law_836 : decode code 836 = .ok (.invokevirtual 105, 3) := by decide +kernel
theorem d_L_law_839 : decode code 839 = .ok (.lstore 6, 2) := by decide +kernel
theorem d_L_law_841 : decode code 841 = .ok (.aload_n 2, 1) := by decide +kernel
theorem d_L_law_842 : decode code 842 = .ok (.invokevirtual 74, 3) := by decide +kernel
theorem d_L_law_845 : decode code 845 = .ok (.iload 5, 2) := by decide +kernel
theorem d_L_law_847 : decode code 847 = .ok (.if_icmp .eq (5), 3) := by decide +kernel
theorem d_L_law_850 : decode code 850 = .ok (.iconst (0), 1) := by decide +kernel
theorem d_L_law_851 : decode code 851 = .ok (.ireturn, 1) := by decide +kernel
theorem d_L_law_852 : decode code 852 = .ok (.iload 5, 2) := by decide +kernel
theorem d_L_law_854 : decode code 854 = .ok (.ifCond .ne (14), 3) := by decide +kernel
theorem d_L_law_857 : decode code 857 = .ok (.aload_n 3, 1) := by decide +kernel
theorem d_L_law_858 : decode code 858 = .ok (.iconst (0), 1) := by decide +kernel
theorem d_L_law_859 : decode code 859 = .ok (.laload, 1) := by decide +kernel
theorem d_L_law_860 : decode code 860 = .ok (.lload 6, 2) := by decide +kernel
theorem d_L_law_862 : decode code 862 = .ok (.lcmp, 1) := by decide +kernel
theorem d_L_law_863 : decode code 863 = .ok (.ifCond .eq (5), 3) := by decide +kernel
theorem d_L_law_866 : decode code 866 = .ok (.iconst (0), 1) := by decide +kernel
theorem d_L_law_867 : decode code 867 = .ok (.ireturn, 1) := by decide +kernel
theorem d_L_law_868 : decode code 868 = .ok (.goto (234), 3) := by decide +kernel
theorem d_L_law_871 : decode code 871 = .ok (.aload_n 1, 1) := by decide +kernel
theorem d_L_law_872 : decode code 872 = .ok (.aload_n 0, 1) := by decide +kernel
theorem d_L_law_873 : decode code 873 = .ok (.iload 4, 2) := by decide +kernel
theorem d_L_law_875 : decode code 875 = .ok (.iconst (1), 1) := by decide +kernel
theorem d_L_law_876 : decode code 876 = .ok (.iadd, 1) := by decide +kernel
theorem d_L_law_877 : decode code 877 = .ok (.iaload, 1) := by decide +kernel
theorem d_L_law_878 : decode code 878 = .ok (.aload_n 3, 1) := by decide +kernel
theorem d_L_law_879 : decode code 879 = .ok (.invokestatic 106, 3) := by decide +kernel
theorem d_L_law_882 : decode code 882 = .ok (.istore 5, 2) := by decide +kernel
theorem d_L_law_884 : decode code 884 = .ok (.aload_n 2, 1) := by decide +kernel
theorem d_L_law_885 : decode code 885 = .ok (.aload_n 0, 1) := by decide +kernel
theorem d_L_law_886 : decode code 886 = .ok (.iload 4, 2) := by decide +kernel
theorem d_L_law_888 : decode code 888 = .ok (.iconst (1), 1) := by decide +kernel
theorem d_L_law_889 : decode code 889 = .ok (.iadd, 1) := by decide +kernel
theorem d_L_law_890 : decode code 890 = .ok (.iaload, 1) := by decide +kernel
theorem d_L_law_891 : decode code 891 = .ok (.invokevirtual 108, 3) := by decide +kernel
theorem d_L_law_894 : decode code 894 = .ok (.istore 6, 2) := by decide +kernel
theorem d_L_law_896 : decode code 896 = .ok (.aload_n 2, 1) := by decide +kernel
theorem d_L_law_897 : decode code 897 = .ok (.invokevirtual 74, 3) := by decide +kernel
theorem d_L_law_900 : decode code 900 = .ok (.iload 5, 2) := by decide +kernel
theorem d_L_law_902 : decode code 902 = .ok (.if_icmp .eq (5), 3) := by decide +kernel
theorem d_L_law_905 : decode code 905 = .ok (.iconst (0), 1) := by decide +kernel
theorem d_L_law_906 : decode code 906 = .ok (.ireturn, 1) := by decide +kernel
theorem d_L_law_907 : decode code 907 = .ok (.iload 5, 2) := by decide +kernel
theorem d_L_law_909 : decode code 909 = .ok (.ifCond .ne (15), 3) := by decide +kernel
theorem d_L_law_912 : decode code 912 = .ok (.aload_n 3, 1) := by decide +kernel
theorem d_L_law_913 : decode code 913 = .ok (.iconst (0), 1) := by decide +kernel
theorem d_L_law_914 : decode code 914 = .ok (.laload, 1) := by decide +kernel
theorem d_L_law_915 : decode code 915 = .ok (.iload 6, 2) := by decide +kernel
theorem d_L_law_917 : decode code 917 = .ok (.i2l, 1) := by decide +kernel
theorem d_L_law_918 : decode code 918 = .ok (.lcmp, 1) := by decide +kernel
theorem d_L_law_919 : decode code 919 = .ok (.ifCond .eq (5), 3) := by decide +kernel
theorem d_L_law_922 : decode code 922 = .ok (.iconst (0), 1) := by decide +kernel
theorem d_L_law_923 : decode code 923 = .ok (.ireturn, 1) := by decide +kernel
theorem d_L_law_924 : decode code 924 = .ok (.goto (178), 3) := by decide +kernel
theorem d_L_law_927 : decode code 927 = .ok (.aload_n 1, 1) := by decide +kernel
theorem d_L_law_928 : decode code 928 = .ok (.aload_n 0, 1) := by decide +kernel
theorem d_L_law_929 : decode code 929 = .ok (.iload 4, 2) := by decide +kernel
theorem d_L_law_931 : decode code 931 = .ok (.iconst (1), 1) := by decide +kernel
theorem d_L_law_932 : decode code 932 = .ok (.iadd, 1) := by decide +kernel
theorem d_L_law_933 : decode code 933 = .ok (.iaload, 1) := by decide +kernel
theorem d_L_law_934 : decode code 934 = .ok (.aload_n 3, 1) := by decide +kernel
theorem d_L_law_935 : decode code 935 = .ok (.invokestatic 109, 3) := by decide +kernel
theorem d_L_law_938 : decode code 938 = .ok (.istore 5, 2) := by decide +kernel
theorem d_L_law_940 : decode code 940 = .ok (.aload_n 2, 1) := by decide +kernel
theorem d_L_law_941 : decode code 941 = .ok (.aload_n 0, 1) := by decide +kernel
theorem d_L_law_942 : decode code 942 = .ok (.iload 4, 2) := by decide +kernel
theorem d_L_law_944 : decode code 944 = .ok (.iconst (1), 1) := by decide +kernel
theorem d_L_law_945 : decode code 945 = .ok (.iadd, 1) := by decide +kernel
theorem d_L_law_946 : decode code 946 = .ok (.iaload, 1) := by decide +kernel
theorem d_L_law_947 : decode code 947 = .ok (.invokevirtual 111, 3) := by decide +kernel
theorem d_L_law_950 : decode code 950 = .ok (.istore 6, 2) := by decide +kernel
theorem d_L_law_952 : decode code 952 = .ok (.aload_n 2, 1) := by decide +kernel
theorem d_L_law_953 : decode code 953 = .ok (.invokevirtual 74, 3) := by decide +kernel
theorem d_L_law_956 : decode code 956 = .ok (.iload 5, 2) := by decide +kernel
theorem d_L_law_958 : decode code 958 = .ok (.if_icmp .eq (5), 3) := by decide +kernel
theorem d_L_law_961 : decode code 961 = .ok (.iconst (0), 1) := by decide +kernel
theorem d_L_law_962 : decode code 962 = .ok (.ireturn, 1) := by decide +kernel
theorem d_L_law_963 : decode code 963 = .ok (.iload 5, 2) := by decide +kernel
theorem d_L_law_965 : decode code 965 = .ok (.ifCond .ne (22), 3) := by decide +kernel
theorem d_L_law_968 : decode code 968 = .ok (.aload_n 3, 1) := by decide +kernel
theorem d_L_law_969 : decode code 969 = .ok (.iconst (0), 1) := by decide +kernel
theorem d_L_law_970 : decode code 970 = .ok (.laload, 1) := by decide +kernel
theorem d_L_law_971 : decode code 971 = .ok (.iload 6, 2) := by decide +kernel
theorem d_L_law_973 : decode code 973 = .ok (.ifCond .eq (7), 3) := by decide +kernel
end
section
/-! part 21: what the law's instructions decode to (printed by gen/g21.py) -/
theorem d_L_law_976 : decode code 976 = .ok (.lconst 1, 1) := by decide +kernel
theorem d_L_law_977 : decode code 977 = .ok (.goto (4), 3) := by decide +kernel
theorem d_L_law_980 : decode code 980 = .ok (.lconst 0, 1) := by decide +kernel
theorem d_L_law_981 : decode code 981 = .ok (.lcmp, 1) := by decide +kernel
theorem d_L_law_982 : decode code 982 = .ok (.ifCond .eq (5), 3) := by decide +kernel
theorem d_L_law_985 : decode code 985 = .ok (.iconst (0), 1) := by decide +kernel
theorem d_L_law_986 : decode code 986 = .ok (.ireturn, 1) := by decide +kernel
theorem d_L_law_987 : decode code 987 = .ok (.goto (115), 3) := by decide +kernel
theorem d_L_law_990 : decode code 990 = .ok (.aload_n 1, 1) := by decide +kernel
theorem d_L_law_991 : decode code 991 = .ok (.aload_n 0, 1) := by decide +kernel
theorem d_L_law_992 : decode code 992 = .ok (.iload 4, 2) := by decide +kernel
theorem d_L_law_994 : decode code 994 = .ok (.iconst (1), 1) := by decide +kernel
theorem d_L_law_995 : decode code 995 = .ok (.iadd, 1) := by decide +kernel
theorem d_L_law_996 : decode code 996 = .ok (.iaload, 1) := by decide +kernel
theorem d_L_law_997 : decode code 997 = .ok (.aload_n 3, 1) := by decide +kernel
theorem d_L_law_998 : decode code 998 = .ok (.invokestatic 112, 3) := by decide +kernel
theorem d_L_law_1001 : decode code 1001 = .ok (.istore 5, 2) := by decide +kernel
theorem d_L_law_1003 : decode code 1003 = .ok (.aload_n 2, 1) := by decide +kernel
theorem d_L_law_1004 : decode code 1004 = .ok (.aload_n 0, 1) := by decide +kernel
theorem d_L_law_1005 : decode code 1005 = .ok (.iload 4, 2) := by decide +kernel
theorem d_L_law_1007 : decode code 1007 = .ok (.iconst (1), 1) := by decide +kernel
theorem d_L_law_1008 : decode code 1008 = .ok (.iadd, 1) := by decide +kernel
theorem d_L_law_1009 : decode code 1009 = .ok (.iaload, 1) := by decide +kernel
theorem d_L_law_1010 : decode code 1010 = .ok (.invokevirtual 114, 3) := by decide +kernel
theorem d_L_law_1013 : decode code 1013 = .ok (.istore 6, 2) := by decide +kernel
theorem d_L_law_1015 : decode code 1015 = .ok (.aload_n 2, 1) := by decide +kernel
theorem d_L_law_1016 : decode code 1016 = .ok (.invokevirtual 74, 3) := by decide +kernel
theorem d_L_law_1019 : decode code 1019 = .ok (.iload 5, 2) := by decide +kernel
theorem d_L_law_1021 : decode code 1021 = .ok (.if_icmp .eq (5), 3) := by decide +kernel
theorem d_L_law_1024 : decode code 1024 = .ok (.iconst (0), 1) := by decide +kernel
theorem d_L_law_1025 : decode code 1025 = .ok (.ireturn, 1) := by decide +kernel
theorem d_L_law_1026 : decode code 1026 = .ok (.iload 5, 2) := by decide +kernel
theorem d_L_law_1028 : decode code 1028 = .ok (.ifCond .ne (15), 3) := by decide +kernel
theorem d_L_law_1031 : decode code 1031 = .ok (.aload_n 3, 1) := by decide +kernel
theorem d_L_law_1032 : decode code 1032 = .ok (.iconst (0), 1) := by decide +kernel
theorem d_L_law_1033 : decode code 1033 = .ok (.laload, 1) := by decide +kernel
theorem d_L_law_1034 : decode code 1034 = .ok (.iload 6, 2) := by decide +kernel
theorem d_L_law_1036 : decode code 1036 = .ok (.i2l, 1) := by decide +kernel
theorem d_L_law_1037 : decode code 1037 = .ok (.lcmp, 1) := by decide +kernel
theorem d_L_law_1038 : decode code 1038 = .ok (.ifCond .eq (5), 3) := by decide +kernel
theorem d_L_law_1041 : decode code 1041 = .ok (.iconst (0), 1) := by decide +kernel
theorem d_L_law_1042 : decode code 1042 = .ok (.ireturn, 1) := by decide +kernel
theorem d_L_law_1043 : decode code 1043 = .ok (.goto (59), 3) := by decide +kernel
theorem d_L_law_1046 : decode code 1046 = .ok (.aload_n 1, 1) := by decide +kernel
theorem d_L_law_1047 : decode code 1047 = .ok (.aload_n 0, 1) := by decide +kernel
theorem d_L_law_1048 : decode code 1048 = .ok (.iload 4, 2) := by decide +kernel
theorem d_L_law_1050 : decode code 1050 = .ok (.iconst (1), 1) := by decide +kernel
theorem d_L_law_1051 : decode code 1051 = .ok (.iadd, 1) := by decide +kernel
theorem d_L_law_1052 : decode code 1052 = .ok (.iaload, 1) := by decide +kernel
theorem d_L_law_1053 : decode code 1053 = .ok (.aload_n 3, 1) := by decide +kernel
theorem d_L_law_1054 : decode code 1054 = .ok (.invokestatic 115, 3) := by decide +kernel
theorem d_L_law_1057 : decode code 1057 = .ok (.istore 5, 2) := by decide +kernel
theorem d_L_law_1059 : decode code 1059 = .ok (.aload_n 2, 1) := by decide +kernel
theorem d_L_law_1060 : decode code 1060 = .ok (.aload_n 0, 1) := by decide +kernel
theorem d_L_law_1061 : decode code 1061 = .ok (.iload 4, 2) := by decide +kernel
theorem d_L_law_1063 : decode code 1063 = .ok (.iconst (1), 1) := by decide +kernel
theorem d_L_law_1064 : decode code 1064 = .ok (.iadd, 1) := by decide +kernel
theorem d_L_law_1065 : decode code 1065 = .ok (.iaload, 1) := by decide +kernel
theorem d_L_law_1066 : decode code 1066 = .ok (.invokevirtual 117, 3) := by decide +kernel
theorem d_L_law_1069 : decode code 1069 = .ok (.istore 6, 2) := by decide +kernel
theorem d_L_law_1071 : decode code 1071 = .ok (.aload_n 2, 1) := by decide +kernel
theorem d_L_law_1072 : decode code 1072 = .ok (.invokevirtual 74, 3) := by decide +kernel
theorem d_L_law_1075 : decode code 1075 = .ok (.iload 5, 2) := by decide +kernel
theorem d_L_law_1077 : decode code 1077 = .ok (.if_icmp .eq (5), 3) := by decide +kernel
theorem d_L_law_1080 : decode code 1080 = .ok (.iconst (0), 1) := by decide +kernel
theorem d_L_law_1081 : decode code 1081 = .ok (.ireturn, 1) := by decide +kernel
theorem d_L_law_1082 : decode code 1082 = .ok (.iload 5, 2) := by decide +kernel
theorem d_L_law_1084 : decode code 1084 = .ok (.ifCond .ne (15), 3) := by decide +kernel
theorem d_L_law_1087 : decode code 1087 = .ok (.aload_n 3, 1) := by decide +kernel
theorem d_L_law_1088 : decode code 1088 = .ok (.iconst (0), 1) := by decide +kernel
theorem d_L_law_1089 : decode code 1089 = .ok (.laload, 1) := by decide +kernel
theorem d_L_law_1090 : decode code 1090 = .ok (.iload 6, 2) := by decide +kernel
theorem d_L_law_1092 : decode code 1092 = .ok (.i2l, 1) := by decide +kernel
theorem d_L_law_1093 : decode code 1093 = .ok (.lcmp, 1) := by decide +kernel
theorem d_L_law_1094 : decode code 1094 = .ok (.ifCond .eq (5), 3) := by decide +kernel
theorem d_L_law_1097 : decode code 1097 = .ok (.iconst (0), 1) := by decide +kernel
theorem d_L_law_1098 : decode code 1098 = .ok (.ireturn, 1) := by decide +kernel
theorem d_L_law_1099 : decode code 1099 = .ok (.goto (3), 3) := by decide +kernel
theorem d_L_law_1102 : decode code 1102 = .ok (.iinc 4 (7), 3) := by decide +kernel
theorem d_L_law_1105 : decode code 1105 = .ok (.goto (-1082), 3) := by decide +kernel
theorem d_L_law_1108 : decode code 1108 = .ok (.iconst (1), 1) := by decide +kernel
theorem d_L_law_1109 : decode code 1109 = .ok (.ireturn, 1) := by decide +kernel
end
section
/-! part 22: the two constructors (rows after kit/laws/EXAMPLE.whole.lean.txt, c_AbsNode_init) -/
abbrev rm_X_init : Room := { frames := 1, cells := 1, slots := 8192, locals := 12 }
def w_X_init : List Cond := .code y_X_init prog_1_method_1_code 1 none :: pb_ws
set_option maxHeartbeats 4000000 in
set_option maxRecDepth 100000 in
theorem c_X_init (l : Launch) (D : va_G) (h0 sz : Nat) : Met l y_X_init w_X_init rm_X_init (va_Pc [.ref h0] (fun U => U.heap.size = sz ∧ va_P D pb_cl [(h0, .inr (0, [.null, .int 0, .int 0]))] U.heap ∧ va_K D pb_cl [] U ∧ va_D (fun _ => True) [(h0, .inr (0, [.null, .int 0, .int 0]))]))
    (va_Qv (fun _ : Nat × ClassId => True) (fun u t => va_P D pb_cl [(h0, .inr (0, [.ref u.1, .int 0, .int 0])), (u.1, .inl (u.2, 8192, .inl (fun _ => 0)))] t.heap ∧ va_K D pb_cl [(u.2, .byte)] t ∧ va_D (va_A [(h0, .inr (0, [.null, .int 0, .int 0]))] sz) [(h0, .inr (0, [.ref u.1, .int 0, .int 0])), (u.1, .inl (u.2, 8192, .inl (fun _ => 0)))]) (va_A [(h0, .inr (0, [.null, .int 0, .int 0]))] sz)) 1 8192 (va_A [(h0, .inr (0, [.null, .int 0, .int 0]))] sz) := by
  refine Met.ofW (cc := prog_1_method_1_code) (maxL := 1) (ret := none) (by decide) rfl ?_
  intro p e s m args below meth c s₁ B hml hv
  obtain ⟨rfl, hsz, hP, hK, hD0⟩ := hv
  have hx := B.exec
  have hb := B.bytes
  have hr := B.returns
  have hts := atoms_spec (ws := w_X_init) B.pre
  have hown : s.vm.findClass "PackedBits" = some m.cls := findClass_of_methodNamed B.named
  have hlocks := B.notSynchronized
  have hin : meth.name = "<init>" := (name_of_methodNamed B.named B.method).1
  subst hsz
  have hD := hD0.self (sz := s.heap.size)
  generalize hAe : va_A [(h0, .inr (0, [.null, .int 0, .int 0]))] s.heap.size = A at hD ⊢
  have hA : ∀ q : Nat, s.heap.size ≤ q → A q := fun q h => by rw [← hAe]; exact Or.inr h
  have hS : va_S A s.heap s.heap [] := va_S.rf
  have hl := lv_entry ([.ref h0]) (n := 1) (Nat.le_of_ble_eq_true rfl)
  rw [lg_entry_eq]
  generalize (lg_sl ([.ref h0]) ++ List.replicate (1 - (lg_sl ([.ref h0])).length) Slot.unset).toArray = ls at hl ⊢
  have hl : lv_has ls 1 [(0, .ref h0)] := hl
  refine lv_aload_n hx hb d_X_init_0 rfl (lv_at hl 0 rfl) ?_
  refine W.objInit hx hb hown (hts _ (List.mem_cons_of_mem _ pb_k15)) (hts _ (List.mem_cons_of_mem _ pb_k16)) (hts _ (List.mem_cons_of_mem _ pb_k17)) rfl (by rw [hml]; exact hl.1) rfl d_X_init_1 (Nat.le_of_ble_eq_true rfl) (Nat.le_of_ble_eq_true rfl) ?_
  refine W.eq (g2 := F0 m 4 ls []) rfl ?_
  refine lv_aload_n hx hb d_X_init_4 rfl (lv_at hl 0 rfl) ?_
  refine lv_sipush (v := 8192) hx hb d_X_init_5 (by decide) ?_
  refine va_newa (atype := .byte) (ty := .byte) (N' := 8192) (a0 := (8192, .inl (fun _ => 0))) hx hb (hts _ (List.mem_cons_of_mem _ pb_k28)) rfl hK hP hD hS hA (fun cA => rfl) (by decide) (by decide) (by decide) (by decide) (by decide) d_X_init_8 (fun q cA H hK hP hD hS => ?_)
  have hP : va_P D pb_cl [(h0, .inr (0, [.null, .int 0, .int 0])), (q, .inl (cA, 8192, .inl (fun _ => 0)))] H := hP
  have hD : va_D A [(h0, .inr (0, [.null, .int 0, .int 0])), (q, .inl (cA, 8192, .inl (fun _ => 0)))] := hD
  refine va_putF (D := D) (ci := 0) (v := .ref q) (ty := .array .byte) (C := R_X) (T := F_X) (N := 3) hx hb hts (fun w h => List.mem_cons_of_mem _ (u_X w h)) t_X t_X_ok n_X hown hK hP hD hS 0 rfl rfl 0 (by decide) (hts _ (List.mem_cons_of_mem _ pb_k18)) (fun _ h9 => h9) rfl hin rfl (by decide +kernel) rfl rfl (Nat.le_of_ble_eq_true rfl) d_X_init_10 (fun H locs hP hD hS => ?_)
  have hP : va_P D pb_cl [(h0, .inr (0, [.ref q, .int 0, .int 0])), (q, .inl (cA, 8192, .inl (fun _ => 0)))] H := hP
  have hD : va_D A [(h0, .inr (0, [.ref q, .int 0, .int 0])), (q, .inl (cA, 8192, .inl (fun _ => 0)))] := hD
  have hK9 : va_K D pb_cl [(cA, .byte)] s := hK
  exact W.vret hx hb hr (fun t ht hW => ⟨⟨(q, cA), rfl, trivial, by rw [ht]; exact hP, va_K.moved hW.alike hK9, hD⟩, hS.F ht⟩) hS.2.2 d_X_init_13
abbrev rm_M_init : Room := { frames := 1, cells := 1, slots := 65536, locals := 12 }
def w_M_init : List Cond := .code y_M_init prog_3_method_1_code 1 none :: pb_ws
set_option maxHeartbeats 4000000 in
set_option maxRecDepth 100000 in
theorem c_M_init (l : Launch) (D : va_G) (h0 sz : Nat) : Met l y_M_init w_M_init rm_M_init (va_Pc [.ref h0] (fun U => U.heap.size = sz ∧ va_P D pb_cl [(h0, .inr (1, [.int 0, .null, .int 0, .int 0, .int 0, .int 0]))] U.heap ∧ va_K D pb_cl [] U ∧ va_D (fun _ => True) [(h0, .inr (1, [.int 0, .null, .int 0, .int 0, .int 0, .int 0]))]))
    (va_Qv (fun _ : Nat × ClassId => True) (fun u t => va_P D pb_cl [(h0, .inr (1, [.int 0, .ref u.1, .int 0, .int 0, .int 0, .int 0])), (u.1, .inl (u.2, 65536, .inl (fun _ => 0)))] t.heap ∧ va_K D pb_cl [(u.2, .boolean)] t ∧ va_D (va_A [(h0, .inr (1, [.int 0, .null, .int 0, .int 0, .int 0, .int 0]))] sz) [(h0, .inr (1, [.int 0, .ref u.1, .int 0, .int 0, .int 0, .int 0])), (u.1, .inl (u.2, 65536, .inl (fun _ => 0)))]) (va_A [(h0, .inr (1, [.int 0, .null, .int 0, .int 0, .int 0, .int 0]))] sz)) 1 65536 (va_A [(h0, .inr (1, [.int 0, .null, .int 0, .int 0, .int 0, .int 0]))] sz) := by
  refine Met.ofW (cc := prog_3_method_1_code) (maxL := 1) (ret := none) (by decide) rfl ?_
  intro p e s m args below meth c s₁ B hml hv
  obtain ⟨rfl, hsz, hP, hK, hD0⟩ := hv
  have hx := B.exec
  have hb := B.bytes
  have hr := B.returns
  have hts := atoms_spec (ws := w_M_init) B.pre
  have hown : s.vm.findClass "PackedBitsModel" = some m.cls := findClass_of_methodNamed B.named
  have hlocks := B.notSynchronized
  have hin : meth.name = "<init>" := (name_of_methodNamed B.named B.method).1
  subst hsz
  have hD := hD0.self (sz := s.heap.size)
  generalize hAe : va_A [(h0, .inr (1, [.int 0, .null, .int 0, .int 0, .int 0, .int 0]))] s.heap.size = A at hD ⊢
  have hA : ∀ q : Nat, s.heap.size ≤ q → A q := fun q h => by rw [← hAe]; exact Or.inr h
  have hS : va_S A s.heap s.heap [] := va_S.rf
  have hl := lv_entry ([.ref h0]) (n := 1) (Nat.le_of_ble_eq_true rfl)
  rw [lg_entry_eq]
  generalize (lg_sl ([.ref h0]) ++ List.replicate (1 - (lg_sl ([.ref h0])).length) Slot.unset).toArray = ls at hl ⊢
  have hl : lv_has ls 1 [(0, .ref h0)] := hl
  refine lv_aload_n hx hb d_M_init_0 rfl (lv_at hl 0 rfl) ?_
  refine W.objInit hx hb hown (hts _ (List.mem_cons_of_mem _ pb_k262)) (hts _ (List.mem_cons_of_mem _ pb_k16)) (hts _ (List.mem_cons_of_mem _ pb_k17)) rfl (by rw [hml]; exact hl.1) rfl d_M_init_1 (Nat.le_of_ble_eq_true rfl) (Nat.le_of_ble_eq_true rfl) ?_
  refine W.eq (g2 := F0 m 4 ls []) rfl ?_
  refine lv_aload_n hx hb d_M_init_4 rfl (lv_at hl 0 rfl) ?_
  refine lv_ldc hx hb hown (hts _ (List.mem_cons_of_mem _ pb_k263)) d_M_init_5 ?_
  refine va_newa (atype := .boolean) (ty := .boolean) (N' := 65536) (a0 := (65536, .inl (fun _ => 0))) hx hb (hts _ (List.mem_cons_of_mem _ pb_k283)) rfl hK hP hD hS hA (fun cA => rfl) (by decide) (by decide) (by decide) (by decide) (by decide) d_M_init_7 (fun q cA H hK hP hD hS => ?_)
  have hP : va_P D pb_cl [(h0, .inr (1, [.int 0, .null, .int 0, .int 0, .int 0, .int 0])), (q, .inl (cA, 65536, .inl (fun _ => 0)))] H := hP
  have hD : va_D A [(h0, .inr (1, [.int 0, .null, .int 0, .int 0, .int 0, .int 0])), (q, .inl (cA, 65536, .inl (fun _ => 0)))] := hD
  refine va_putF (D := D) (ci := 1) (v := .ref q) (ty := .array .boolean) (C := R_M) (T := F_M) (N := 6) hx hb hts (fun w h => List.mem_cons_of_mem _ (u_M w h)) t_M t_M_ok n_M hown hK hP hD hS 0 rfl rfl 1 (by decide) (hts _ (List.mem_cons_of_mem _ pb_k265)) (fun _ h9 => h9) rfl hin rfl (by decide +kernel) rfl rfl (Nat.le_of_ble_eq_true rfl) d_M_init_9 (fun H locs hP hD hS => ?_)
  have hP : va_P D pb_cl [(h0, .inr (1, [.int 0, .ref q, .int 0, .int 0, .int 0, .int 0])), (q, .inl (cA, 65536, .inl (fun _ => 0)))] H := hP
  have hD : va_D A [(h0, .inr (1, [.int 0, .ref q, .int 0, .int 0, .int 0, .int 0])), (q, .inl (cA, 65536, .inl (fun _ => 0)))] := hD
  have hK9 : va_K D pb_cl [(cA, .boolean)] s := hK
  exact W.vret hx hb hr (fun t ht hW => ⟨⟨(q, cA), rfl, trivial, by rw [ht]; exact hP, va_K.moved hW.alike hK9, hD⟩, hS.F ht⟩) hS.2.2 d_M_init_12
end
section
/-! part 23: the head of kit/laws/SKELETON.whole.lean.txt (a starting text) -/
/-! THE CLAIM OUT OF ONE WALK OF THE LAW'S BODY. Your part is whole_start (and what it stands on); all else here is the same for every law, but numbers. -/
def R_law : String := "PackedBitsLaw"
def lw_P (b : Addr) (xs : List Int32) (args : Array Value) (s : State) : Prop := args = #[.ref b] ∧ s.IntsAt b xs ∧ xs.length ≤ 3584 ∧ (Jvm.Cond.and given_1 narrow_1).before args s = true
def lw_Q (_ : Array Value) (s : State) (o : Outcome) (t : State) : Prop := o = .returned (some (.int 1)) ∧ Framed s o t [] 601024 7293034
def lw_Z (below : List Frame) (a : Array Value) (s : State) : State → Prop := fun t => ∃ o, t.status = .running ∧ Ended t below o ∧ lw_Q a s o t
/-- the law's own end, with 1 on the stack, nothing written that was there before, its room as the claim has it -/
theorem lw_ret {p : Program} {l : Launch} {e : Env} {s : State} {m : MethodId} {below : List Frame} {meth : Method} {c : Code} {b : Nat} (hx : p.tables.exec = Jvm.exec) (hb : c.code = code) (hr : meth.sig.returnType = ret) (hlocks : meth.locks = false) {pc : Nat} {H : Heap} {ls : Array Slot} (hdg : decode code pc = .ok (.ireturn, 1)) : W p l e room_1 s m #[Value.ref b] below meth c H [] 601024 7293034 (lw_Z below #[Value.ref b] s) (F0 m pc ls [.int 1]) := by
  intro T hT X
  obtain ⟨fs, hret, hrun, hended, hW, hframe⟩ := X.leave (v := some (.int 1)) (hlocks := hlocks) (fun h => by rw [hr] at h; cases h)
  have hmeth' : T.vm.method? m = some meth := X.method'
  refine ⟨T.setFrames fs, ?_, .returned (some (.int 1)), hrun, hended, rfl, ⟨_, rfl⟩, hW, hframe⟩
  jvm_step X.here [X.here.top, hx, hb, hdg, hmeth', hr, ret, narrow_b1]
  (try refine ⟨rfl, ?_⟩); (try refine ⟨rfl, ?_⟩)
  first | (intro acts; rw [hret _ acts rfl rfl rfl]) | rw [hret _ _ rfl rfl rfl]
  exact Steps.refl _
/-- what holds at the law's entry: the machine, the code, the tables' words (any of lw_tbl by 'hts w (by decide +kernel)'), the script of L ints xs at the cell b, what the Statement gives of the start (any of its parts by flat_of_before) -/
def lw_At (p : Program) (s : State) (m : MethodId) (meth : Method) (c : Code) (b L : Nat) (xs : Nat → Int32) : Prop :=
  p.tables.exec = Jvm.exec ∧ c.code = code ∧ meth.sig.returnType = ret ∧ c.maxLocals = 8 ∧ s.vm.findClass R_law = some m.cls ∧ (∀ w ∈ lw_tbl, w.before #[Value.ref b] s = true) ∧ va_X b L xs s s.heap ∧ b < s.heap.size ∧ meth.locks = false ∧ (Jvm.Cond.and given_1 narrow_1).before #[Value.ref b] s = true
end
section
/-! part 24 (printed by gen/g24.py): the thirteen commands in the law -/
/-- the law's judgement -/
abbrev pb_LW (p : Program) (l : Launch) (e : Env) (s : State) (m : MethodId) (b : Nat) (below : List Frame) (meth : Method) (c : Code) (H : Heap) (locs : List Loc) (cells slots pc : Nat) (ls : Array Slot) (st : List Value) : Prop :=
  W p l e room_1 s m #[Value.ref b] below meth c H locs cells slots (lw_Z below #[Value.ref b] s) (F0 m pc ls st)
/-- what stands behind a command, in the turn number i -/
def pb_LK (p : Program) (l : Launch) (e : Env) (s : State) (m : MethodId) (b : Nat) (below : List Frame) (meth : Method) (c : Code) (w : Wc) (i : Nat) : Prop :=
  ∀ (T : Mt) (ov : Int64) (H : Heap) (locs : List Loc) (ls : Array Slot), pb_ok T.2.1 → pb_Wd w T.2.1 T ov s H → va_S (w_A w) s.heap H locs → lv_has ls 8 [(4, .int (nI (7 * i))), (3, .ref (w_o w)), (2, .ref (w_m w)), (1, .ref (w_x w)), (0, .ref b)] → pb_LW p l e s m b below meth c H locs (5 + 20 * (i + 1)) (80000 + 200 * (i + 1)) 1102 ls []
set_option maxHeartbeats 4000000 in
set_option maxRecDepth 100000 in
theorem pb_case_put {p : Program} {l : Launch} {e : Env} {s : State} {m : MethodId} {below : List Frame} {meth : Method} {c : Code} {b L i : Nat} {xs : Nat → Int32} {w : Wc} (hfl : l.stackTraces = false) (C : pb_CF p m c code 8 s #[Value.ref b] "PackedBitsLaw") (hX : va_X b L xs s s.heap) (hbl : b < s.heap.size) (hNw : w_N w = s.heap.size) (hL : L ≤ 3584) (hi : 7 * i + 7 ≤ L) (K : pb_LK p l e s m b below meth c w i)
    {T : Mt} {ov : Int64} {H : Heap} {locs : List Loc} {ls : Array Slot} (hok : pb_ok T.2.1) (hw : pb_Wd w T.2.1 T ov s H) (hS : va_S (w_A w) s.heap H locs) (hl : lv_has ls 8 [(4, .int (nI (7 * i))), (3, .ref (w_o w)), (2, .ref (w_m w)), (1, .ref (w_x w)), (0, .ref b)]) : pb_LW p l e s m b below meth c H locs (5 + 20 * i) (80000 + 200 * i) 108 ls [] := by
  have hx := C.1
  have hb := C.2.1
  have hown := C.2.2.2.1
  have hts := C.2.2.2.2
  have hbA : ¬ w_A w b := fun z => Nat.lt_irrefl _ (Nat.lt_of_lt_of_le hbl (by rw [← hNw]; exact z))
  refine lv_aload_n hx hb d_L_law_108 rfl (lv_at hl 3 rfl) ?_
  refine lv_aload_n hx hb d_L_law_109 rfl (lv_at hl 4 rfl) ?_
  refine lv_iload hx hb d_L_law_110 (lv_at hl 0 rfl) ?_
  refine lv_iconst (v := 1) hx hb d_L_law_112 (by decide) ?_
  refine lv_iadd hx hb d_L_law_113 ?_
  refine lv_eqi (y := nI (7 * i + 1)) (nI_add _ 1) ?_
  refine va_sld hx hb hX hbl hbA hS (i := nI (7 * i + 1)) (vp_in_nI (by omega) (by omega)) d_L_law_114 ?_
  refine lv_eqi (y := xs (7 * i + 1)) (congrArg xs (nI_clamp (by omega))) ?_
  refine lv_i2l hx hb d_L_law_115 rfl ?_
  refine lv_bipush (v := 32) hx hb d_L_law_116 (by decide) ?_
  refine lv_lshl hx hb d_L_law_118 rfl ?_
  refine lv_aload_n hx hb d_L_law_119 rfl (lv_at hl 4 rfl) ?_
  refine lv_iload hx hb d_L_law_120 (lv_at hl 0 rfl) ?_
  refine lv_iconst (v := 2) hx hb d_L_law_122 (by decide) ?_
  refine lv_iadd hx hb d_L_law_123 ?_
  refine lv_eqi (y := nI (7 * i + 2)) (nI_add _ 2) ?_
  refine va_sld hx hb hX hbl hbA hS (i := nI (7 * i + 2)) (vp_in_nI (by omega) (by omega)) d_L_law_124 ?_
  refine lv_eqi (y := xs (7 * i + 2)) (congrArg xs (nI_clamp (by omega))) ?_
  refine lv_i2l hx hb d_L_law_125 rfl ?_
  refine lv_ldc2 hx hb hown (hts _ pb_k387) d_L_law_126 ?_
  refine lv_land hx hb d_L_law_129 ?_
  refine lv_lor hx hb d_L_law_130 ?_
  refine lv_topl (fun x1 ex1 => ?_)
  refine lv_aload_n hx hb d_L_law_131 rfl (lv_at hl 4 rfl) ?_
  refine lv_iload hx hb d_L_law_132 (lv_at hl 0 rfl) ?_
  refine lv_iconst (v := 3) hx hb d_L_law_134 (by decide) ?_
  refine lv_iadd hx hb d_L_law_135 ?_
  refine lv_eqi (y := nI (7 * i + 3)) (nI_add _ 3) ?_
  refine va_sld hx hb hX hbl hbA hS (i := nI (7 * i + 3)) (vp_in_nI (by omega) (by omega)) d_L_law_136 ?_
  refine lv_eqi (y := xs (7 * i + 3)) (congrArg xs (nI_clamp (by omega))) ?_
  refine lv_aload_n hx hb d_L_law_137 rfl (lv_at hl 1 rfl) ?_
  have hc := o_put_c x1 (xs (7 * i + 3)) T.2.1
  refine pb_retI (pb_S (rest := []) C f_L_68 ⟨by decide, by decide, by show 5 + 20 * i + 2 ≤ 601024; omega, by show 80000 + 200 * i + 12 ≤ 7293034; omega⟩ (c_L_put l hfl w T.2.1 T ov x1 (xs (7 * i + 3)) hok) hw hl.1 rfl rfl (Nat.le_of_ble_eq_true rfl) d_L_law_138) hS (rfl) (fun H locs hw hS => ?_)
  refine lv_istore (lv' := [(5, .int (nI (o_put x1 (xs (7 * i + 3)) T.2.1).1)), (4, .int (nI (7 * i))), (3, .ref (w_o w)), (2, .ref (w_m w)), (1, .ref (w_x w)), (0, .ref b)]) hx hb d_L_law_141 hl (by decide) rfl (fun ls hl => ?_)
  refine lv_aload_n hx hb d_L_law_143 rfl (lv_at hl 3 rfl) ?_
  refine lv_aload_n hx hb d_L_law_144 rfl (lv_at hl 5 rfl) ?_
  refine lv_iload hx hb d_L_law_145 (lv_at hl 1 rfl) ?_
  refine lv_iconst (v := 1) hx hb d_L_law_147 (by decide) ?_
  refine lv_iadd hx hb d_L_law_148 ?_
  refine lv_eqi (y := nI (7 * i + 1)) (nI_add _ 1) ?_
  refine va_sld hx hb hX hbl hbA hS (i := nI (7 * i + 1)) (vp_in_nI (by omega) (by omega)) d_L_law_149 ?_
  refine lv_eqi (y := xs (7 * i + 1)) (congrArg xs (nI_clamp (by omega))) ?_
  refine lv_i2l hx hb d_L_law_150 rfl ?_
  refine lv_bipush (v := 32) hx hb d_L_law_151 (by decide) ?_
  refine lv_lshl hx hb d_L_law_153 rfl ?_
  refine lv_aload_n hx hb d_L_law_154 rfl (lv_at hl 5 rfl) ?_
  refine lv_iload hx hb d_L_law_155 (lv_at hl 1 rfl) ?_
  refine lv_iconst (v := 2) hx hb d_L_law_157 (by decide) ?_
  refine lv_iadd hx hb d_L_law_158 ?_
  refine lv_eqi (y := nI (7 * i + 2)) (nI_add _ 2) ?_
  refine va_sld hx hb hX hbl hbA hS (i := nI (7 * i + 2)) (vp_in_nI (by omega) (by omega)) d_L_law_159 ?_
  refine lv_eqi (y := xs (7 * i + 2)) (congrArg xs (nI_clamp (by omega))) ?_
  refine lv_i2l hx hb d_L_law_160 rfl ?_
  refine lv_ldc2 hx hb hown (hts _ pb_k387) d_L_law_161 ?_
  refine lv_land hx hb d_L_law_164 ?_
  refine lv_lor hx hb d_L_law_165 ?_
  refine lv_eql (y := x1) (ex1.symm) ?_
  refine lv_aload_n hx hb d_L_law_166 rfl (lv_at hl 5 rfl) ?_
  refine lv_iload hx hb d_L_law_167 (lv_at hl 1 rfl) ?_
  refine lv_iconst (v := 3) hx hb d_L_law_169 (by decide) ?_
  refine lv_iadd hx hb d_L_law_170 ?_
  refine lv_eqi (y := nI (7 * i + 3)) (nI_add _ 3) ?_
  refine va_sld hx hb hX hbl hbA hS (i := nI (7 * i + 3)) (vp_in_nI (by omega) (by omega)) d_L_law_171 ?_
  refine lv_eqi (y := xs (7 * i + 3)) (congrArg xs (nI_clamp (by omega))) ?_
  have ht1 : ((nI (o_put x1 (xs (7 * i + 3)) T.2.1).1, (o_put x1 (xs (7 * i + 3)) T.2.1).2.2, T.2.2) : Mt).1 = nI (o_put x1 (xs (7 * i + 3)) T.2.1).1 := rfl
  have ht2 : ((nI (o_put x1 (xs (7 * i + 3)) T.2.1).1, (o_put x1 (xs (7 * i + 3)) T.2.1).2.2, T.2.2) : Mt).2.1 = (o_put x1 (xs (7 * i + 3)) T.2.1).2.2 := rfl
  refine pb_retI (pb_V (rest := []) C f_L_73 ⟨by decide, by decide, by show 5 + 20 * i + 2 + 0 ≤ 601024; omega, by show 80000 + 200 * i + 12 + 0 ≤ 7293034; omega⟩ (c_M_put l w (o_put x1 (xs (7 * i + 3)) T.2.1).2.2 T (if (o_put x1 (xs (7 * i + 3)) T.2.1).1 = 0 then (o_put x1 (xs (7 * i + 3)) T.2.1).2.1.toInt64 else ov) x1 (xs (7 * i + 3)) hok) hw (pb_Wd_m hw) hl.1 rfl rfl (Nat.le_of_ble_eq_true rfl) d_L_law_172) hS (rfl) (fun H locs hw hS => ?_)
  refine lv_istore (lv' := [(6, .int ((o_put x1 (xs (7 * i + 3)) T.2.1).2.1)), (5, .int (nI (o_put x1 (xs (7 * i + 3)) T.2.1).1)), (4, .int (nI (7 * i))), (3, .ref (w_o w)), (2, .ref (w_m w)), (1, .ref (w_x w)), (0, .ref b)]) hx hb d_L_law_175 hl (by decide) rfl (fun ls hl => ?_)
  refine lv_aload_n hx hb d_L_law_177 rfl (lv_at hl 4 rfl) ?_
  refine pb_retI (pb_V (rest := []) C f_L_74 ⟨by decide, by decide, by show 5 + 20 * i + 2 + 0 + 0 ≤ 601024; omega, by show 80000 + 200 * i + 12 + 0 + 0 ≤ 7293034; omega⟩ (c_M_thrown l w (o_put x1 (xs (7 * i + 3)) T.2.1).2.2 ((nI (o_put x1 (xs (7 * i + 3)) T.2.1).1, (o_put x1 (xs (7 * i + 3)) T.2.1).2.2, T.2.2) : Mt) (if (o_put x1 (xs (7 * i + 3)) T.2.1).1 = 0 then (o_put x1 (xs (7 * i + 3)) T.2.1).2.1.toInt64 else ov)) hw (pb_Wd_m hw) hl.1 rfl rfl (Nat.le_of_ble_eq_true rfl) d_L_law_178) hS (rfl) (fun H locs hw hS => ?_)
  refine lv_iload hx hb d_L_law_181 (lv_at hl 1 rfl) ?_
  refine lv_icmp_eq (tgt := 188) hx hb d_L_law_183 (by decide) (fun h1 => ?_) (fun h1 => ?_)
  · refine lv_iload hx hb d_L_law_188 (lv_at hl 1 rfl) ?_
    refine lv_if_ne (tgt := 205) hx hb d_L_law_190 (by decide) (fun h2 => ?_) (fun h2 => ?_)
    · refine lv_goto (tgt := 1102) hx hb d_L_law_205 (by decide) ?_
      exact W.widen (by show 5 + 20 * i + 2 + 0 + 0 ≤ 5 + 20 * (i + 1); omega) (by show 80000 + 200 * i + 12 + 0 + 0 ≤ 80000 + 200 * (i + 1); omega) (K ((nI (o_put x1 (xs (7 * i + 3)) T.2.1).1, (o_put x1 (xs (7 * i + 3)) T.2.1).2.2, T.2.2) : Mt) (if (o_put x1 (xs (7 * i + 3)) T.2.1).1 = 0 then (o_put x1 (xs (7 * i + 3)) T.2.1).2.1.toInt64 else ov) H locs ls (by rw [ht2]; exact o_put_ok hok) (by rw [ht2]; exact hw) hS (lv_sub hl [2, 3, 4, 5, 6] rfl))
    · have hz : (o_put x1 (xs (7 * i + 3)) T.2.1).1 = 0 := (nI_eq (b := 0) (by omega) (by decide)).mp h2
      refine lv_aload_n hx hb d_L_law_193 rfl (lv_at hl 3 rfl) ?_
      refine lv_iconst (v := 0) hx hb d_L_law_194 (by decide) ?_
      refine o_ld ⟨hx, hb⟩ hw d_L_law_195 ?_
      refine lv_iload hx hb d_L_law_196 (lv_at hl 0 rfl) ?_
      refine lv_i2l hx hb d_L_law_198 rfl ?_
      refine lc_eq (tgt := 205) ⟨hx, hb⟩ d_L_law_199 d_L_law_200 (by decide) (fun h4 => ?_) (fun h4 => ?_)
      · refine lv_goto (tgt := 1102) hx hb d_L_law_205 (by decide) ?_
        exact W.widen (by show 5 + 20 * i + 2 + 0 + 0 ≤ 5 + 20 * (i + 1); omega) (by show 80000 + 200 * i + 12 + 0 + 0 ≤ 80000 + 200 * (i + 1); omega) (K ((nI (o_put x1 (xs (7 * i + 3)) T.2.1).1, (o_put x1 (xs (7 * i + 3)) T.2.1).2.2, T.2.2) : Mt) (if (o_put x1 (xs (7 * i + 3)) T.2.1).1 = 0 then (o_put x1 (xs (7 * i + 3)) T.2.1).2.1.toInt64 else ov) H locs ls (by rw [ht2]; exact o_put_ok hok) (by rw [ht2]; exact hw) hS (lv_sub hl [2, 3, 4, 5, 6] rfl))
      · exact absurd (by rw [if_pos hz]) h4
  · exact absurd ht1 h1
set_option maxHeartbeats 4000000 in
set_option maxRecDepth 100000 in
theorem pb_case_putRange {p : Program} {l : Launch} {e : Env} {s : State} {m : MethodId} {below : List Frame} {meth : Method} {c : Code} {b L i : Nat} {xs : Nat → Int32} {w : Wc} (hfl : l.stackTraces = false) (C : pb_CF p m c code 8 s #[Value.ref b] "PackedBitsLaw") (hX : va_X b L xs s s.heap) (hbl : b < s.heap.size) (hNw : w_N w = s.heap.size) (hL : L ≤ 3584) (hi : 7 * i + 7 ≤ L) (K : pb_LK p l e s m b below meth c w i)
    {T : Mt} {ov : Int64} {H : Heap} {locs : List Loc} {ls : Array Slot} (hok : pb_ok T.2.1) (hw : pb_Wd w T.2.1 T ov s H) (hS : va_S (w_A w) s.heap H locs) (hl : lv_has ls 8 [(4, .int (nI (7 * i))), (3, .ref (w_o w)), (2, .ref (w_m w)), (1, .ref (w_x w)), (0, .ref b)]) : pb_LW p l e s m b below meth c H locs (5 + 20 * i) (80000 + 200 * i) 208 ls [] := by
  have hx := C.1
  have hb := C.2.1
  have hown := C.2.2.2.1
  have hts := C.2.2.2.2
  have hbA : ¬ w_A w b := fun z => Nat.lt_irrefl _ (Nat.lt_of_lt_of_le hbl (by rw [← hNw]; exact z))
  refine lv_aload_n hx hb d_L_law_208 rfl (lv_at hl 3 rfl) ?_
  refine lv_aload_n hx hb d_L_law_209 rfl (lv_at hl 4 rfl) ?_
  refine lv_iload hx hb d_L_law_210 (lv_at hl 0 rfl) ?_
  refine lv_iconst (v := 1) hx hb d_L_law_212 (by decide) ?_
  refine lv_iadd hx hb d_L_law_213 ?_
  refine lv_eqi (y := nI (7 * i + 1)) (nI_add _ 1) ?_
  refine va_sld hx hb hX hbl hbA hS (i := nI (7 * i + 1)) (vp_in_nI (by omega) (by omega)) d_L_law_214 ?_
  refine lv_eqi (y := xs (7 * i + 1)) (congrArg xs (nI_clamp (by omega))) ?_
  refine lv_i2l hx hb d_L_law_215 rfl ?_
  refine lv_bipush (v := 32) hx hb d_L_law_216 (by decide) ?_
  refine lv_lshl hx hb d_L_law_218 rfl ?_
  refine lv_aload_n hx hb d_L_law_219 rfl (lv_at hl 4 rfl) ?_
  refine lv_iload hx hb d_L_law_220 (lv_at hl 0 rfl) ?_
  refine lv_iconst (v := 2) hx hb d_L_law_222 (by decide) ?_
  refine lv_iadd hx hb d_L_law_223 ?_
  refine lv_eqi (y := nI (7 * i + 2)) (nI_add _ 2) ?_
  refine va_sld hx hb hX hbl hbA hS (i := nI (7 * i + 2)) (vp_in_nI (by omega) (by omega)) d_L_law_224 ?_
  refine lv_eqi (y := xs (7 * i + 2)) (congrArg xs (nI_clamp (by omega))) ?_
  refine lv_i2l hx hb d_L_law_225 rfl ?_
  refine lv_ldc2 hx hb hown (hts _ pb_k387) d_L_law_226 ?_
  refine lv_land hx hb d_L_law_229 ?_
  refine lv_lor hx hb d_L_law_230 ?_
  refine lv_topl (fun x1 ex1 => ?_)
  refine lv_aload_n hx hb d_L_law_231 rfl (lv_at hl 4 rfl) ?_
  refine lv_iload hx hb d_L_law_232 (lv_at hl 0 rfl) ?_
  refine lv_iconst (v := 3) hx hb d_L_law_234 (by decide) ?_
  refine lv_iadd hx hb d_L_law_235 ?_
  refine lv_eqi (y := nI (7 * i + 3)) (nI_add _ 3) ?_
  refine va_sld hx hb hX hbl hbA hS (i := nI (7 * i + 3)) (vp_in_nI (by omega) (by omega)) d_L_law_236 ?_
  refine lv_eqi (y := xs (7 * i + 3)) (congrArg xs (nI_clamp (by omega))) ?_
  refine lv_i2l hx hb d_L_law_237 rfl ?_
  refine lv_bipush (v := 32) hx hb d_L_law_238 (by decide) ?_
  refine lv_lshl hx hb d_L_law_240 rfl ?_
  refine lv_aload_n hx hb d_L_law_241 rfl (lv_at hl 4 rfl) ?_
  refine lv_iload hx hb d_L_law_242 (lv_at hl 0 rfl) ?_
  refine lv_iconst (v := 4) hx hb d_L_law_244 (by decide) ?_
  refine lv_iadd hx hb d_L_law_245 ?_
  refine lv_eqi (y := nI (7 * i + 4)) (nI_add _ 4) ?_
  refine va_sld hx hb hX hbl hbA hS (i := nI (7 * i + 4)) (vp_in_nI (by omega) (by omega)) d_L_law_246 ?_
  refine lv_eqi (y := xs (7 * i + 4)) (congrArg xs (nI_clamp (by omega))) ?_
  refine lv_i2l hx hb d_L_law_247 rfl ?_
  refine lv_ldc2 hx hb hown (hts _ pb_k387) d_L_law_248 ?_
  refine lv_land hx hb d_L_law_251 ?_
  refine lv_lor hx hb d_L_law_252 ?_
  refine lv_topl (fun x2 ex2 => ?_)
  refine lv_aload_n hx hb d_L_law_253 rfl (lv_at hl 4 rfl) ?_
  refine lv_iload hx hb d_L_law_254 (lv_at hl 0 rfl) ?_
  refine lv_iconst (v := 5) hx hb d_L_law_256 (by decide) ?_
  refine lv_iadd hx hb d_L_law_257 ?_
  refine lv_eqi (y := nI (7 * i + 5)) (nI_add _ 5) ?_
  refine va_sld hx hb hX hbl hbA hS (i := nI (7 * i + 5)) (vp_in_nI (by omega) (by omega)) d_L_law_258 ?_
  refine lv_eqi (y := xs (7 * i + 5)) (congrArg xs (nI_clamp (by omega))) ?_
  refine lv_i2l hx hb d_L_law_259 rfl ?_
  refine lv_bipush (v := 32) hx hb d_L_law_260 (by decide) ?_
  refine lv_lshl hx hb d_L_law_262 rfl ?_
  refine lv_aload_n hx hb d_L_law_263 rfl (lv_at hl 4 rfl) ?_
  refine lv_iload hx hb d_L_law_264 (lv_at hl 0 rfl) ?_
  refine lv_bipush (v := 6) hx hb d_L_law_266 (by decide) ?_
  refine lv_iadd hx hb d_L_law_268 ?_
  refine lv_eqi (y := nI (7 * i + 6)) (nI_add _ 6) ?_
  refine va_sld hx hb hX hbl hbA hS (i := nI (7 * i + 6)) (vp_in_nI (by omega) (by omega)) d_L_law_269 ?_
  refine lv_eqi (y := xs (7 * i + 6)) (congrArg xs (nI_clamp (by omega))) ?_
  refine lv_i2l hx hb d_L_law_270 rfl ?_
  refine lv_ldc2 hx hb hown (hts _ pb_k387) d_L_law_271 ?_
  refine lv_land hx hb d_L_law_274 ?_
  refine lv_lor hx hb d_L_law_275 ?_
  refine lv_topl (fun x3 ex3 => ?_)
  refine lv_aload_n hx hb d_L_law_276 rfl (lv_at hl 1 rfl) ?_
  have hc := o_putRange_c x1 x2 x3 T.2.1
  refine pb_retI (pb_S (rest := []) C f_L_77 ⟨by decide, by decide, by show 5 + 20 * i + 2 ≤ 601024; omega, by show 80000 + 200 * i + 12 ≤ 7293034; omega⟩ (c_L_putRange l hfl w T.2.1 T ov x1 x2 x3 hok) hw hl.1 rfl rfl (Nat.le_of_ble_eq_true rfl) d_L_law_277) hS (rfl) (fun H locs hw hS => ?_)
  refine lv_istore (lv' := [(5, .int (nI (o_putRange x1 x2 x3 T.2.1).1)), (4, .int (nI (7 * i))), (3, .ref (w_o w)), (2, .ref (w_m w)), (1, .ref (w_x w)), (0, .ref b)]) hx hb d_L_law_280 hl (by decide) rfl (fun ls hl => ?_)
  refine lv_aload_n hx hb d_L_law_282 rfl (lv_at hl 3 rfl) ?_
  refine lv_aload_n hx hb d_L_law_283 rfl (lv_at hl 5 rfl) ?_
  refine lv_iload hx hb d_L_law_284 (lv_at hl 1 rfl) ?_
  refine lv_iconst (v := 1) hx hb d_L_law_286 (by decide) ?_
  refine lv_iadd hx hb d_L_law_287 ?_
  refine lv_eqi (y := nI (7 * i + 1)) (nI_add _ 1) ?_
  refine va_sld hx hb hX hbl hbA hS (i := nI (7 * i + 1)) (vp_in_nI (by omega) (by omega)) d_L_law_288 ?_
  refine lv_eqi (y := xs (7 * i + 1)) (congrArg xs (nI_clamp (by omega))) ?_
  refine lv_i2l hx hb d_L_law_289 rfl ?_
  refine lv_bipush (v := 32) hx hb d_L_law_290 (by decide) ?_
  refine lv_lshl hx hb d_L_law_292 rfl ?_
  refine lv_aload_n hx hb d_L_law_293 rfl (lv_at hl 5 rfl) ?_
  refine lv_iload hx hb d_L_law_294 (lv_at hl 1 rfl) ?_
  refine lv_iconst (v := 2) hx hb d_L_law_296 (by decide) ?_
  refine lv_iadd hx hb d_L_law_297 ?_
  refine lv_eqi (y := nI (7 * i + 2)) (nI_add _ 2) ?_
  refine va_sld hx hb hX hbl hbA hS (i := nI (7 * i + 2)) (vp_in_nI (by omega) (by omega)) d_L_law_298 ?_
  refine lv_eqi (y := xs (7 * i + 2)) (congrArg xs (nI_clamp (by omega))) ?_
  refine lv_i2l hx hb d_L_law_299 rfl ?_
  refine lv_ldc2 hx hb hown (hts _ pb_k387) d_L_law_300 ?_
  refine lv_land hx hb d_L_law_303 ?_
  refine lv_lor hx hb d_L_law_304 ?_
  refine lv_eql (y := x1) (ex1.symm) ?_
  refine lv_aload_n hx hb d_L_law_305 rfl (lv_at hl 5 rfl) ?_
  refine lv_iload hx hb d_L_law_306 (lv_at hl 1 rfl) ?_
  refine lv_iconst (v := 3) hx hb d_L_law_308 (by decide) ?_
  refine lv_iadd hx hb d_L_law_309 ?_
  refine lv_eqi (y := nI (7 * i + 3)) (nI_add _ 3) ?_
  refine va_sld hx hb hX hbl hbA hS (i := nI (7 * i + 3)) (vp_in_nI (by omega) (by omega)) d_L_law_310 ?_
  refine lv_eqi (y := xs (7 * i + 3)) (congrArg xs (nI_clamp (by omega))) ?_
  refine lv_i2l hx hb d_L_law_311 rfl ?_
  refine lv_bipush (v := 32) hx hb d_L_law_312 (by decide) ?_
  refine lv_lshl hx hb d_L_law_314 rfl ?_
  refine lv_aload_n hx hb d_L_law_315 rfl (lv_at hl 5 rfl) ?_
  refine lv_iload hx hb d_L_law_316 (lv_at hl 1 rfl) ?_
  refine lv_iconst (v := 4) hx hb d_L_law_318 (by decide) ?_
  refine lv_iadd hx hb d_L_law_319 ?_
  refine lv_eqi (y := nI (7 * i + 4)) (nI_add _ 4) ?_
  refine va_sld hx hb hX hbl hbA hS (i := nI (7 * i + 4)) (vp_in_nI (by omega) (by omega)) d_L_law_320 ?_
  refine lv_eqi (y := xs (7 * i + 4)) (congrArg xs (nI_clamp (by omega))) ?_
  refine lv_i2l hx hb d_L_law_321 rfl ?_
  refine lv_ldc2 hx hb hown (hts _ pb_k387) d_L_law_322 ?_
  refine lv_land hx hb d_L_law_325 ?_
  refine lv_lor hx hb d_L_law_326 ?_
  refine lv_eql (y := x2) (ex2.symm) ?_
  refine lv_aload_n hx hb d_L_law_327 rfl (lv_at hl 5 rfl) ?_
  refine lv_iload hx hb d_L_law_328 (lv_at hl 1 rfl) ?_
  refine lv_iconst (v := 5) hx hb d_L_law_330 (by decide) ?_
  refine lv_iadd hx hb d_L_law_331 ?_
  refine lv_eqi (y := nI (7 * i + 5)) (nI_add _ 5) ?_
  refine va_sld hx hb hX hbl hbA hS (i := nI (7 * i + 5)) (vp_in_nI (by omega) (by omega)) d_L_law_332 ?_
  refine lv_eqi (y := xs (7 * i + 5)) (congrArg xs (nI_clamp (by omega))) ?_
  refine lv_i2l hx hb d_L_law_333 rfl ?_
  refine lv_bipush (v := 32) hx hb d_L_law_334 (by decide) ?_
  refine lv_lshl hx hb d_L_law_336 rfl ?_
  refine lv_aload_n hx hb d_L_law_337 rfl (lv_at hl 5 rfl) ?_
  refine lv_iload hx hb d_L_law_338 (lv_at hl 1 rfl) ?_
  refine lv_bipush (v := 6) hx hb d_L_law_340 (by decide) ?_
  refine lv_iadd hx hb d_L_law_342 ?_
  refine lv_eqi (y := nI (7 * i + 6)) (nI_add _ 6) ?_
  refine va_sld hx hb hX hbl hbA hS (i := nI (7 * i + 6)) (vp_in_nI (by omega) (by omega)) d_L_law_343 ?_
  refine lv_eqi (y := xs (7 * i + 6)) (congrArg xs (nI_clamp (by omega))) ?_
  refine lv_i2l hx hb d_L_law_344 rfl ?_
  refine lv_ldc2 hx hb hown (hts _ pb_k387) d_L_law_345 ?_
  refine lv_land hx hb d_L_law_348 ?_
  refine lv_lor hx hb d_L_law_349 ?_
  refine lv_eql (y := x3) (ex3.symm) ?_
  have ht1 : ((nI (o_putRange x1 x2 x3 T.2.1).1, (o_putRange x1 x2 x3 T.2.1).2.2, T.2.2) : Mt).1 = nI (o_putRange x1 x2 x3 T.2.1).1 := rfl
  have ht2 : ((nI (o_putRange x1 x2 x3 T.2.1).1, (o_putRange x1 x2 x3 T.2.1).2.2, T.2.2) : Mt).2.1 = (o_putRange x1 x2 x3 T.2.1).2.2 := rfl
  refine pb_retI (pb_V (rest := []) C f_L_80 ⟨by decide, by decide, by show 5 + 20 * i + 2 + 0 ≤ 601024; omega, by show 80000 + 200 * i + 12 + 0 ≤ 7293034; omega⟩ (c_M_putRange l w (o_putRange x1 x2 x3 T.2.1).2.2 T (if (o_putRange x1 x2 x3 T.2.1).1 = 0 then (o_putRange x1 x2 x3 T.2.1).2.1.toInt64 else ov) x1 x2 x3 hok) hw (pb_Wd_m hw) hl.1 rfl rfl (Nat.le_of_ble_eq_true rfl) d_L_law_350) hS (rfl) (fun H locs hw hS => ?_)
  refine lv_istore (lv' := [(6, .int ((o_putRange x1 x2 x3 T.2.1).2.1)), (5, .int (nI (o_putRange x1 x2 x3 T.2.1).1)), (4, .int (nI (7 * i))), (3, .ref (w_o w)), (2, .ref (w_m w)), (1, .ref (w_x w)), (0, .ref b)]) hx hb d_L_law_353 hl (by decide) rfl (fun ls hl => ?_)
  refine lv_aload_n hx hb d_L_law_355 rfl (lv_at hl 4 rfl) ?_
  refine pb_retI (pb_V (rest := []) C f_L_74 ⟨by decide, by decide, by show 5 + 20 * i + 2 + 0 + 0 ≤ 601024; omega, by show 80000 + 200 * i + 12 + 0 + 0 ≤ 7293034; omega⟩ (c_M_thrown l w (o_putRange x1 x2 x3 T.2.1).2.2 ((nI (o_putRange x1 x2 x3 T.2.1).1, (o_putRange x1 x2 x3 T.2.1).2.2, T.2.2) : Mt) (if (o_putRange x1 x2 x3 T.2.1).1 = 0 then (o_putRange x1 x2 x3 T.2.1).2.1.toInt64 else ov)) hw (pb_Wd_m hw) hl.1 rfl rfl (Nat.le_of_ble_eq_true rfl) d_L_law_356) hS (rfl) (fun H locs hw hS => ?_)
  refine lv_iload hx hb d_L_law_359 (lv_at hl 1 rfl) ?_
  refine lv_icmp_eq (tgt := 366) hx hb d_L_law_361 (by decide) (fun h1 => ?_) (fun h1 => ?_)
  · refine lv_iload hx hb d_L_law_366 (lv_at hl 1 rfl) ?_
    refine lv_if_ne (tgt := 383) hx hb d_L_law_368 (by decide) (fun h2 => ?_) (fun h2 => ?_)
    · refine lv_goto (tgt := 1102) hx hb d_L_law_383 (by decide) ?_
      exact W.widen (by show 5 + 20 * i + 2 + 0 + 0 ≤ 5 + 20 * (i + 1); omega) (by show 80000 + 200 * i + 12 + 0 + 0 ≤ 80000 + 200 * (i + 1); omega) (K ((nI (o_putRange x1 x2 x3 T.2.1).1, (o_putRange x1 x2 x3 T.2.1).2.2, T.2.2) : Mt) (if (o_putRange x1 x2 x3 T.2.1).1 = 0 then (o_putRange x1 x2 x3 T.2.1).2.1.toInt64 else ov) H locs ls (by rw [ht2]; exact o_putRange_ok hok) (by rw [ht2]; exact hw) hS (lv_sub hl [2, 3, 4, 5, 6] rfl))
    · have hz : (o_putRange x1 x2 x3 T.2.1).1 = 0 := (nI_eq (b := 0) (by omega) (by decide)).mp h2
      refine lv_aload_n hx hb d_L_law_371 rfl (lv_at hl 3 rfl) ?_
      refine lv_iconst (v := 0) hx hb d_L_law_372 (by decide) ?_
      refine o_ld ⟨hx, hb⟩ hw d_L_law_373 ?_
      refine lv_iload hx hb d_L_law_374 (lv_at hl 0 rfl) ?_
      refine lv_i2l hx hb d_L_law_376 rfl ?_
      refine lc_eq (tgt := 383) ⟨hx, hb⟩ d_L_law_377 d_L_law_378 (by decide) (fun h4 => ?_) (fun h4 => ?_)
      · refine lv_goto (tgt := 1102) hx hb d_L_law_383 (by decide) ?_
        exact W.widen (by show 5 + 20 * i + 2 + 0 + 0 ≤ 5 + 20 * (i + 1); omega) (by show 80000 + 200 * i + 12 + 0 + 0 ≤ 80000 + 200 * (i + 1); omega) (K ((nI (o_putRange x1 x2 x3 T.2.1).1, (o_putRange x1 x2 x3 T.2.1).2.2, T.2.2) : Mt) (if (o_putRange x1 x2 x3 T.2.1).1 = 0 then (o_putRange x1 x2 x3 T.2.1).2.1.toInt64 else ov) H locs ls (by rw [ht2]; exact o_putRange_ok hok) (by rw [ht2]; exact hw) hS (lv_sub hl [2, 3, 4, 5, 6] rfl))
      · exact absurd (by rw [if_pos hz]) h4
  · exact absurd ht1 h1
set_option maxHeartbeats 4000000 in
set_option maxRecDepth 100000 in
theorem pb_case_putLength {p : Program} {l : Launch} {e : Env} {s : State} {m : MethodId} {below : List Frame} {meth : Method} {c : Code} {b L i : Nat} {xs : Nat → Int32} {w : Wc} (hfl : l.stackTraces = false) (C : pb_CF p m c code 8 s #[Value.ref b] "PackedBitsLaw") (hX : va_X b L xs s s.heap) (hbl : b < s.heap.size) (hNw : w_N w = s.heap.size) (hL : L ≤ 3584) (hi : 7 * i + 7 ≤ L) (K : pb_LK p l e s m b below meth c w i)
    {T : Mt} {ov : Int64} {H : Heap} {locs : List Loc} {ls : Array Slot} (hok : pb_ok T.2.1) (hw : pb_Wd w T.2.1 T ov s H) (hS : va_S (w_A w) s.heap H locs) (hl : lv_has ls 8 [(4, .int (nI (7 * i))), (3, .ref (w_o w)), (2, .ref (w_m w)), (1, .ref (w_x w)), (0, .ref b)]) : pb_LW p l e s m b below meth c H locs (5 + 20 * i) (80000 + 200 * i) 386 ls [] := by
  have hx := C.1
  have hb := C.2.1
  have hown := C.2.2.2.1
  have hts := C.2.2.2.2
  have hbA : ¬ w_A w b := fun z => Nat.lt_irrefl _ (Nat.lt_of_lt_of_le hbl (by rw [← hNw]; exact z))
  refine lv_aload_n hx hb d_L_law_386 rfl (lv_at hl 3 rfl) ?_
  refine lv_aload_n hx hb d_L_law_387 rfl (lv_at hl 4 rfl) ?_
  refine lv_iload hx hb d_L_law_388 (lv_at hl 0 rfl) ?_
  refine lv_iconst (v := 1) hx hb d_L_law_390 (by decide) ?_
  refine lv_iadd hx hb d_L_law_391 ?_
  refine lv_eqi (y := nI (7 * i + 1)) (nI_add _ 1) ?_
  refine va_sld hx hb hX hbl hbA hS (i := nI (7 * i + 1)) (vp_in_nI (by omega) (by omega)) d_L_law_392 ?_
  refine lv_eqi (y := xs (7 * i + 1)) (congrArg xs (nI_clamp (by omega))) ?_
  refine lv_aload_n hx hb d_L_law_393 rfl (lv_at hl 1 rfl) ?_
  have hc := o_putLength_c (xs (7 * i + 1)) T.2.1
  refine pb_retI (pb_S (rest := []) C f_L_81 ⟨by decide, by decide, by show 5 + 20 * i + 2 ≤ 601024; omega, by show 80000 + 200 * i + 12 ≤ 7293034; omega⟩ (c_L_putLength l hfl w T.2.1 T ov (xs (7 * i + 1)) hok) hw hl.1 rfl rfl (Nat.le_of_ble_eq_true rfl) d_L_law_394) hS (rfl) (fun H locs hw hS => ?_)
  refine lv_istore (lv' := [(5, .int (nI (o_putLength (xs (7 * i + 1)) T.2.1).1)), (4, .int (nI (7 * i))), (3, .ref (w_o w)), (2, .ref (w_m w)), (1, .ref (w_x w)), (0, .ref b)]) hx hb d_L_law_397 hl (by decide) rfl (fun ls hl => ?_)
  refine lv_aload_n hx hb d_L_law_399 rfl (lv_at hl 3 rfl) ?_
  refine lv_aload_n hx hb d_L_law_400 rfl (lv_at hl 5 rfl) ?_
  refine lv_iload hx hb d_L_law_401 (lv_at hl 1 rfl) ?_
  refine lv_iconst (v := 1) hx hb d_L_law_403 (by decide) ?_
  refine lv_iadd hx hb d_L_law_404 ?_
  refine lv_eqi (y := nI (7 * i + 1)) (nI_add _ 1) ?_
  refine va_sld hx hb hX hbl hbA hS (i := nI (7 * i + 1)) (vp_in_nI (by omega) (by omega)) d_L_law_405 ?_
  refine lv_eqi (y := xs (7 * i + 1)) (congrArg xs (nI_clamp (by omega))) ?_
  have ht1 : ((nI (o_putLength (xs (7 * i + 1)) T.2.1).1, (o_putLength (xs (7 * i + 1)) T.2.1).2.2, T.2.2) : Mt).1 = nI (o_putLength (xs (7 * i + 1)) T.2.1).1 := rfl
  have ht2 : ((nI (o_putLength (xs (7 * i + 1)) T.2.1).1, (o_putLength (xs (7 * i + 1)) T.2.1).2.2, T.2.2) : Mt).2.1 = (o_putLength (xs (7 * i + 1)) T.2.1).2.2 := rfl
  refine pb_retI (pb_V (rest := []) C f_L_84 ⟨by decide, by decide, by show 5 + 20 * i + 2 + 0 ≤ 601024; omega, by show 80000 + 200 * i + 12 + 0 ≤ 7293034; omega⟩ (c_M_putLength l w (o_putLength (xs (7 * i + 1)) T.2.1).2.2 T (if (o_putLength (xs (7 * i + 1)) T.2.1).1 = 0 then (o_putLength (xs (7 * i + 1)) T.2.1).2.1.toInt64 else ov) (xs (7 * i + 1)) hok) hw (pb_Wd_m hw) hl.1 rfl rfl (Nat.le_of_ble_eq_true rfl) d_L_law_406) hS (rfl) (fun H locs hw hS => ?_)
  refine lv_istore (lv' := [(6, .int ((o_putLength (xs (7 * i + 1)) T.2.1).2.1)), (5, .int (nI (o_putLength (xs (7 * i + 1)) T.2.1).1)), (4, .int (nI (7 * i))), (3, .ref (w_o w)), (2, .ref (w_m w)), (1, .ref (w_x w)), (0, .ref b)]) hx hb d_L_law_409 hl (by decide) rfl (fun ls hl => ?_)
  refine lv_aload_n hx hb d_L_law_411 rfl (lv_at hl 4 rfl) ?_
  refine pb_retI (pb_V (rest := []) C f_L_74 ⟨by decide, by decide, by show 5 + 20 * i + 2 + 0 + 0 ≤ 601024; omega, by show 80000 + 200 * i + 12 + 0 + 0 ≤ 7293034; omega⟩ (c_M_thrown l w (o_putLength (xs (7 * i + 1)) T.2.1).2.2 ((nI (o_putLength (xs (7 * i + 1)) T.2.1).1, (o_putLength (xs (7 * i + 1)) T.2.1).2.2, T.2.2) : Mt) (if (o_putLength (xs (7 * i + 1)) T.2.1).1 = 0 then (o_putLength (xs (7 * i + 1)) T.2.1).2.1.toInt64 else ov)) hw (pb_Wd_m hw) hl.1 rfl rfl (Nat.le_of_ble_eq_true rfl) d_L_law_412) hS (rfl) (fun H locs hw hS => ?_)
  refine lv_iload hx hb d_L_law_415 (lv_at hl 1 rfl) ?_
  refine lv_icmp_eq (tgt := 422) hx hb d_L_law_417 (by decide) (fun h1 => ?_) (fun h1 => ?_)
  · refine lv_iload hx hb d_L_law_422 (lv_at hl 1 rfl) ?_
    refine lv_if_ne (tgt := 439) hx hb d_L_law_424 (by decide) (fun h2 => ?_) (fun h2 => ?_)
    · refine lv_goto (tgt := 1102) hx hb d_L_law_439 (by decide) ?_
      exact W.widen (by show 5 + 20 * i + 2 + 0 + 0 ≤ 5 + 20 * (i + 1); omega) (by show 80000 + 200 * i + 12 + 0 + 0 ≤ 80000 + 200 * (i + 1); omega) (K ((nI (o_putLength (xs (7 * i + 1)) T.2.1).1, (o_putLength (xs (7 * i + 1)) T.2.1).2.2, T.2.2) : Mt) (if (o_putLength (xs (7 * i + 1)) T.2.1).1 = 0 then (o_putLength (xs (7 * i + 1)) T.2.1).2.1.toInt64 else ov) H locs ls (by rw [ht2]; exact o_putLength_kk hok) (by rw [ht2]; exact hw) hS (lv_sub hl [2, 3, 4, 5, 6] rfl))
    · have hz : (o_putLength (xs (7 * i + 1)) T.2.1).1 = 0 := (nI_eq (b := 0) (by omega) (by decide)).mp h2
      refine lv_aload_n hx hb d_L_law_427 rfl (lv_at hl 3 rfl) ?_
      refine lv_iconst (v := 0) hx hb d_L_law_428 (by decide) ?_
      refine o_ld ⟨hx, hb⟩ hw d_L_law_429 ?_
      refine lv_iload hx hb d_L_law_430 (lv_at hl 0 rfl) ?_
      refine lv_i2l hx hb d_L_law_432 rfl ?_
      refine lc_eq (tgt := 439) ⟨hx, hb⟩ d_L_law_433 d_L_law_434 (by decide) (fun h4 => ?_) (fun h4 => ?_)
      · refine lv_goto (tgt := 1102) hx hb d_L_law_439 (by decide) ?_
        exact W.widen (by show 5 + 20 * i + 2 + 0 + 0 ≤ 5 + 20 * (i + 1); omega) (by show 80000 + 200 * i + 12 + 0 + 0 ≤ 80000 + 200 * (i + 1); omega) (K ((nI (o_putLength (xs (7 * i + 1)) T.2.1).1, (o_putLength (xs (7 * i + 1)) T.2.1).2.2, T.2.2) : Mt) (if (o_putLength (xs (7 * i + 1)) T.2.1).1 = 0 then (o_putLength (xs (7 * i + 1)) T.2.1).2.1.toInt64 else ov) H locs ls (by rw [ht2]; exact o_putLength_kk hok) (by rw [ht2]; exact hw) hS (lv_sub hl [2, 3, 4, 5, 6] rfl))
      · exact absurd (by rw [if_pos hz]) h4
  · exact absurd ht1 h1
set_option maxHeartbeats 4000000 in
set_option maxRecDepth 100000 in
theorem pb_case_putNumber {p : Program} {l : Launch} {e : Env} {s : State} {m : MethodId} {below : List Frame} {meth : Method} {c : Code} {b L i : Nat} {xs : Nat → Int32} {w : Wc} (hfl : l.stackTraces = false) (C : pb_CF p m c code 8 s #[Value.ref b] "PackedBitsLaw") (hX : va_X b L xs s s.heap) (hbl : b < s.heap.size) (hNw : w_N w = s.heap.size) (hL : L ≤ 3584) (hi : 7 * i + 7 ≤ L) (K : pb_LK p l e s m b below meth c w i)
    {T : Mt} {ov : Int64} {H : Heap} {locs : List Loc} {ls : Array Slot} (hok : pb_ok T.2.1) (hw : pb_Wd w T.2.1 T ov s H) (hS : va_S (w_A w) s.heap H locs) (hl : lv_has ls 8 [(4, .int (nI (7 * i))), (3, .ref (w_o w)), (2, .ref (w_m w)), (1, .ref (w_x w)), (0, .ref b)]) : pb_LW p l e s m b below meth c H locs (5 + 20 * i) (80000 + 200 * i) 442 ls [] := by
  have hx := C.1
  have hb := C.2.1
  have hown := C.2.2.2.1
  have hts := C.2.2.2.2
  have hbA : ¬ w_A w b := fun z => Nat.lt_irrefl _ (Nat.lt_of_lt_of_le hbl (by rw [← hNw]; exact z))
  refine lv_aload_n hx hb d_L_law_442 rfl (lv_at hl 3 rfl) ?_
  refine lv_aload_n hx hb d_L_law_443 rfl (lv_at hl 4 rfl) ?_
  refine lv_iload hx hb d_L_law_444 (lv_at hl 0 rfl) ?_
  refine lv_iconst (v := 1) hx hb d_L_law_446 (by decide) ?_
  refine lv_iadd hx hb d_L_law_447 ?_
  refine lv_eqi (y := nI (7 * i + 1)) (nI_add _ 1) ?_
  refine va_sld hx hb hX hbl hbA hS (i := nI (7 * i + 1)) (vp_in_nI (by omega) (by omega)) d_L_law_448 ?_
  refine lv_eqi (y := xs (7 * i + 1)) (congrArg xs (nI_clamp (by omega))) ?_
  refine lv_aload_n hx hb d_L_law_449 rfl (lv_at hl 4 rfl) ?_
  refine lv_iload hx hb d_L_law_450 (lv_at hl 0 rfl) ?_
  refine lv_iconst (v := 2) hx hb d_L_law_452 (by decide) ?_
  refine lv_iadd hx hb d_L_law_453 ?_
  refine lv_eqi (y := nI (7 * i + 2)) (nI_add _ 2) ?_
  refine va_sld hx hb hX hbl hbA hS (i := nI (7 * i + 2)) (vp_in_nI (by omega) (by omega)) d_L_law_454 ?_
  refine lv_eqi (y := xs (7 * i + 2)) (congrArg xs (nI_clamp (by omega))) ?_
  refine lv_i2l hx hb d_L_law_455 rfl ?_
  refine lv_bipush (v := 32) hx hb d_L_law_456 (by decide) ?_
  refine lv_lshl hx hb d_L_law_458 rfl ?_
  refine lv_aload_n hx hb d_L_law_459 rfl (lv_at hl 4 rfl) ?_
  refine lv_iload hx hb d_L_law_460 (lv_at hl 0 rfl) ?_
  refine lv_iconst (v := 3) hx hb d_L_law_462 (by decide) ?_
  refine lv_iadd hx hb d_L_law_463 ?_
  refine lv_eqi (y := nI (7 * i + 3)) (nI_add _ 3) ?_
  refine va_sld hx hb hX hbl hbA hS (i := nI (7 * i + 3)) (vp_in_nI (by omega) (by omega)) d_L_law_464 ?_
  refine lv_eqi (y := xs (7 * i + 3)) (congrArg xs (nI_clamp (by omega))) ?_
  refine lv_i2l hx hb d_L_law_465 rfl ?_
  refine lv_ldc2 hx hb hown (hts _ pb_k387) d_L_law_466 ?_
  refine lv_land hx hb d_L_law_469 ?_
  refine lv_lor hx hb d_L_law_470 ?_
  refine lv_topl (fun x1 ex1 => ?_)
  refine lv_aload_n hx hb d_L_law_471 rfl (lv_at hl 1 rfl) ?_
  have hc := o_putNumber_c (xs (7 * i + 1)) x1 T.2.1
  refine pb_retI (pb_S (rest := []) C f_L_85 ⟨by decide, by decide, by show 5 + 20 * i + 3 ≤ 601024; omega, by show 80000 + 200 * i + 18 ≤ 7293034; omega⟩ (c_L_putNumber l hfl w T.2.1 T ov (xs (7 * i + 1)) x1 hok) hw hl.1 rfl rfl (Nat.le_of_ble_eq_true rfl) d_L_law_472) hS (rfl) (fun H locs hw hS => ?_)
  refine lv_istore (lv' := [(5, .int (nI (o_putNumber (xs (7 * i + 1)) x1 T.2.1).1)), (4, .int (nI (7 * i))), (3, .ref (w_o w)), (2, .ref (w_m w)), (1, .ref (w_x w)), (0, .ref b)]) hx hb d_L_law_475 hl (by decide) rfl (fun ls hl => ?_)
  refine lv_aload_n hx hb d_L_law_477 rfl (lv_at hl 3 rfl) ?_
  refine lv_aload_n hx hb d_L_law_478 rfl (lv_at hl 5 rfl) ?_
  refine lv_iload hx hb d_L_law_479 (lv_at hl 1 rfl) ?_
  refine lv_iconst (v := 1) hx hb d_L_law_481 (by decide) ?_
  refine lv_iadd hx hb d_L_law_482 ?_
  refine lv_eqi (y := nI (7 * i + 1)) (nI_add _ 1) ?_
  refine va_sld hx hb hX hbl hbA hS (i := nI (7 * i + 1)) (vp_in_nI (by omega) (by omega)) d_L_law_483 ?_
  refine lv_eqi (y := xs (7 * i + 1)) (congrArg xs (nI_clamp (by omega))) ?_
  refine lv_aload_n hx hb d_L_law_484 rfl (lv_at hl 5 rfl) ?_
  refine lv_iload hx hb d_L_law_485 (lv_at hl 1 rfl) ?_
  refine lv_iconst (v := 2) hx hb d_L_law_487 (by decide) ?_
  refine lv_iadd hx hb d_L_law_488 ?_
  refine lv_eqi (y := nI (7 * i + 2)) (nI_add _ 2) ?_
  refine va_sld hx hb hX hbl hbA hS (i := nI (7 * i + 2)) (vp_in_nI (by omega) (by omega)) d_L_law_489 ?_
  refine lv_eqi (y := xs (7 * i + 2)) (congrArg xs (nI_clamp (by omega))) ?_
  refine lv_i2l hx hb d_L_law_490 rfl ?_
  refine lv_bipush (v := 32) hx hb d_L_law_491 (by decide) ?_
  refine lv_lshl hx hb d_L_law_493 rfl ?_
  refine lv_aload_n hx hb d_L_law_494 rfl (lv_at hl 5 rfl) ?_
  refine lv_iload hx hb d_L_law_495 (lv_at hl 1 rfl) ?_
  refine lv_iconst (v := 3) hx hb d_L_law_497 (by decide) ?_
  refine lv_iadd hx hb d_L_law_498 ?_
  refine lv_eqi (y := nI (7 * i + 3)) (nI_add _ 3) ?_
  refine va_sld hx hb hX hbl hbA hS (i := nI (7 * i + 3)) (vp_in_nI (by omega) (by omega)) d_L_law_499 ?_
  refine lv_eqi (y := xs (7 * i + 3)) (congrArg xs (nI_clamp (by omega))) ?_
  refine lv_i2l hx hb d_L_law_500 rfl ?_
  refine lv_ldc2 hx hb hown (hts _ pb_k387) d_L_law_501 ?_
  refine lv_land hx hb d_L_law_504 ?_
  refine lv_lor hx hb d_L_law_505 ?_
  refine lv_eql (y := x1) (ex1.symm) ?_
  have ht1 : ((nI (o_putNumber (xs (7 * i + 1)) x1 T.2.1).1, (o_putNumber (xs (7 * i + 1)) x1 T.2.1).2.2, T.2.2) : Mt).1 = nI (o_putNumber (xs (7 * i + 1)) x1 T.2.1).1 := rfl
  have ht2 : ((nI (o_putNumber (xs (7 * i + 1)) x1 T.2.1).1, (o_putNumber (xs (7 * i + 1)) x1 T.2.1).2.2, T.2.2) : Mt).2.1 = (o_putNumber (xs (7 * i + 1)) x1 T.2.1).2.2 := rfl
  refine pb_retI (pb_V (rest := []) C f_L_88 ⟨by decide, by decide, by show 5 + 20 * i + 3 + 0 ≤ 601024; omega, by show 80000 + 200 * i + 18 + 0 ≤ 7293034; omega⟩ (c_M_putNumber l w (o_putNumber (xs (7 * i + 1)) x1 T.2.1).2.2 T (if (o_putNumber (xs (7 * i + 1)) x1 T.2.1).1 = 0 then (o_putNumber (xs (7 * i + 1)) x1 T.2.1).2.1.toInt64 else ov) (xs (7 * i + 1)) x1 hok) hw (pb_Wd_m hw) hl.1 rfl rfl (Nat.le_of_ble_eq_true rfl) d_L_law_506) hS (rfl) (fun H locs hw hS => ?_)
  refine lv_istore (lv' := [(6, .int ((o_putNumber (xs (7 * i + 1)) x1 T.2.1).2.1)), (5, .int (nI (o_putNumber (xs (7 * i + 1)) x1 T.2.1).1)), (4, .int (nI (7 * i))), (3, .ref (w_o w)), (2, .ref (w_m w)), (1, .ref (w_x w)), (0, .ref b)]) hx hb d_L_law_509 hl (by decide) rfl (fun ls hl => ?_)
  refine lv_aload_n hx hb d_L_law_511 rfl (lv_at hl 4 rfl) ?_
  refine pb_retI (pb_V (rest := []) C f_L_74 ⟨by decide, by decide, by show 5 + 20 * i + 3 + 0 + 0 ≤ 601024; omega, by show 80000 + 200 * i + 18 + 0 + 0 ≤ 7293034; omega⟩ (c_M_thrown l w (o_putNumber (xs (7 * i + 1)) x1 T.2.1).2.2 ((nI (o_putNumber (xs (7 * i + 1)) x1 T.2.1).1, (o_putNumber (xs (7 * i + 1)) x1 T.2.1).2.2, T.2.2) : Mt) (if (o_putNumber (xs (7 * i + 1)) x1 T.2.1).1 = 0 then (o_putNumber (xs (7 * i + 1)) x1 T.2.1).2.1.toInt64 else ov)) hw (pb_Wd_m hw) hl.1 rfl rfl (Nat.le_of_ble_eq_true rfl) d_L_law_512) hS (rfl) (fun H locs hw hS => ?_)
  refine lv_iload hx hb d_L_law_515 (lv_at hl 1 rfl) ?_
  refine lv_icmp_eq (tgt := 522) hx hb d_L_law_517 (by decide) (fun h1 => ?_) (fun h1 => ?_)
  · refine lv_iload hx hb d_L_law_522 (lv_at hl 1 rfl) ?_
    refine lv_if_ne (tgt := 539) hx hb d_L_law_524 (by decide) (fun h2 => ?_) (fun h2 => ?_)
    · refine lv_goto (tgt := 1102) hx hb d_L_law_539 (by decide) ?_
      exact W.widen (by show 5 + 20 * i + 3 + 0 + 0 ≤ 5 + 20 * (i + 1); omega) (by show 80000 + 200 * i + 18 + 0 + 0 ≤ 80000 + 200 * (i + 1); omega) (K ((nI (o_putNumber (xs (7 * i + 1)) x1 T.2.1).1, (o_putNumber (xs (7 * i + 1)) x1 T.2.1).2.2, T.2.2) : Mt) (if (o_putNumber (xs (7 * i + 1)) x1 T.2.1).1 = 0 then (o_putNumber (xs (7 * i + 1)) x1 T.2.1).2.1.toInt64 else ov) H locs ls (by rw [ht2]; exact o_putNumber_ok hok) (by rw [ht2]; exact hw) hS (lv_sub hl [2, 3, 4, 5, 6] rfl))
    · have hz : (o_putNumber (xs (7 * i + 1)) x1 T.2.1).1 = 0 := (nI_eq (b := 0) (by omega) (by decide)).mp h2
      refine lv_aload_n hx hb d_L_law_527 rfl (lv_at hl 3 rfl) ?_
      refine lv_iconst (v := 0) hx hb d_L_law_528 (by decide) ?_
      refine o_ld ⟨hx, hb⟩ hw d_L_law_529 ?_
      refine lv_iload hx hb d_L_law_530 (lv_at hl 0 rfl) ?_
      refine lv_i2l hx hb d_L_law_532 rfl ?_
      refine lc_eq (tgt := 539) ⟨hx, hb⟩ d_L_law_533 d_L_law_534 (by decide) (fun h4 => ?_) (fun h4 => ?_)
      · refine lv_goto (tgt := 1102) hx hb d_L_law_539 (by decide) ?_
        exact W.widen (by show 5 + 20 * i + 3 + 0 + 0 ≤ 5 + 20 * (i + 1); omega) (by show 80000 + 200 * i + 18 + 0 + 0 ≤ 80000 + 200 * (i + 1); omega) (K ((nI (o_putNumber (xs (7 * i + 1)) x1 T.2.1).1, (o_putNumber (xs (7 * i + 1)) x1 T.2.1).2.2, T.2.2) : Mt) (if (o_putNumber (xs (7 * i + 1)) x1 T.2.1).1 = 0 then (o_putNumber (xs (7 * i + 1)) x1 T.2.1).2.1.toInt64 else ov) H locs ls (by rw [ht2]; exact o_putNumber_ok hok) (by rw [ht2]; exact hw) hS (lv_sub hl [2, 3, 4, 5, 6] rfl))
      · exact absurd (by rw [if_pos hz]) h4
  · exact absurd ht1 h1
set_option maxHeartbeats 4000000 in
set_option maxRecDepth 100000 in
theorem pb_case_fill {p : Program} {l : Launch} {e : Env} {s : State} {m : MethodId} {below : List Frame} {meth : Method} {c : Code} {b L i : Nat} {xs : Nat → Int32} {w : Wc} (hfl : l.stackTraces = false) (C : pb_CF p m c code 8 s #[Value.ref b] "PackedBitsLaw") (hX : va_X b L xs s s.heap) (hbl : b < s.heap.size) (hNw : w_N w = s.heap.size) (hL : L ≤ 3584) (hi : 7 * i + 7 ≤ L) (K : pb_LK p l e s m b below meth c w i)
    {T : Mt} {ov : Int64} {H : Heap} {locs : List Loc} {ls : Array Slot} (hok : pb_ok T.2.1) (hw : pb_Wd w T.2.1 T ov s H) (hS : va_S (w_A w) s.heap H locs) (hl : lv_has ls 8 [(4, .int (nI (7 * i))), (3, .ref (w_o w)), (2, .ref (w_m w)), (1, .ref (w_x w)), (0, .ref b)]) : pb_LW p l e s m b below meth c H locs (5 + 20 * i) (80000 + 200 * i) 542 ls [] := by
  have hx := C.1
  have hb := C.2.1
  have hown := C.2.2.2.1
  have hts := C.2.2.2.2
  have hbA : ¬ w_A w b := fun z => Nat.lt_irrefl _ (Nat.lt_of_lt_of_le hbl (by rw [← hNw]; exact z))
  refine lv_aload_n hx hb d_L_law_542 rfl (lv_at hl 3 rfl) ?_
  refine lv_aload_n hx hb d_L_law_543 rfl (lv_at hl 1 rfl) ?_
  have hc := o_fill_c T.2.1
  refine pb_retI (pb_S (rest := []) C f_L_89 ⟨by decide, by decide, by show 5 + 20 * i + 1 ≤ 601024; omega, by show 80000 + 200 * i + 6 ≤ 7293034; omega⟩ (c_L_fill l hfl w T.2.1 T ov hok) hw hl.1 rfl rfl (Nat.le_of_ble_eq_true rfl) d_L_law_544) hS (rfl) (fun H locs hw hS => ?_)
  refine lv_istore (lv' := [(5, .int (nI (o_fill T.2.1).1)), (4, .int (nI (7 * i))), (3, .ref (w_o w)), (2, .ref (w_m w)), (1, .ref (w_x w)), (0, .ref b)]) hx hb d_L_law_547 hl (by decide) rfl (fun ls hl => ?_)
  refine lv_aload_n hx hb d_L_law_549 rfl (lv_at hl 3 rfl) ?_
  have ht1 : ((nI (o_fill T.2.1).1, (o_fill T.2.1).2.2, T.2.2) : Mt).1 = nI (o_fill T.2.1).1 := rfl
  have ht2 : ((nI (o_fill T.2.1).1, (o_fill T.2.1).2.2, T.2.2) : Mt).2.1 = (o_fill T.2.1).2.2 := rfl
  refine pb_retI (pb_V (rest := []) C f_L_92 ⟨by decide, by decide, by show 5 + 20 * i + 1 + 0 ≤ 601024; omega, by show 80000 + 200 * i + 6 + 0 ≤ 7293034; omega⟩ (c_M_fill l w (o_fill T.2.1).2.2 T (if (o_fill T.2.1).1 = 0 then (o_fill T.2.1).2.1.toInt64 else ov) hok) hw (pb_Wd_m hw) hl.1 rfl rfl (Nat.le_of_ble_eq_true rfl) d_L_law_550) hS (rfl) (fun H locs hw hS => ?_)
  refine lv_istore (lv' := [(6, .int ((o_fill T.2.1).2.1)), (5, .int (nI (o_fill T.2.1).1)), (4, .int (nI (7 * i))), (3, .ref (w_o w)), (2, .ref (w_m w)), (1, .ref (w_x w)), (0, .ref b)]) hx hb d_L_law_553 hl (by decide) rfl (fun ls hl => ?_)
  refine lv_aload_n hx hb d_L_law_555 rfl (lv_at hl 4 rfl) ?_
  refine pb_retI (pb_V (rest := []) C f_L_74 ⟨by decide, by decide, by show 5 + 20 * i + 1 + 0 + 0 ≤ 601024; omega, by show 80000 + 200 * i + 6 + 0 + 0 ≤ 7293034; omega⟩ (c_M_thrown l w (o_fill T.2.1).2.2 ((nI (o_fill T.2.1).1, (o_fill T.2.1).2.2, T.2.2) : Mt) (if (o_fill T.2.1).1 = 0 then (o_fill T.2.1).2.1.toInt64 else ov)) hw (pb_Wd_m hw) hl.1 rfl rfl (Nat.le_of_ble_eq_true rfl) d_L_law_556) hS (rfl) (fun H locs hw hS => ?_)
  refine lv_iload hx hb d_L_law_559 (lv_at hl 1 rfl) ?_
  refine lv_icmp_eq (tgt := 566) hx hb d_L_law_561 (by decide) (fun h1 => ?_) (fun h1 => ?_)
  · refine lv_iload hx hb d_L_law_566 (lv_at hl 1 rfl) ?_
    refine lv_if_ne (tgt := 583) hx hb d_L_law_568 (by decide) (fun h2 => ?_) (fun h2 => ?_)
    · refine lv_goto (tgt := 1102) hx hb d_L_law_583 (by decide) ?_
      exact W.widen (by show 5 + 20 * i + 1 + 0 + 0 ≤ 5 + 20 * (i + 1); omega) (by show 80000 + 200 * i + 6 + 0 + 0 ≤ 80000 + 200 * (i + 1); omega) (K ((nI (o_fill T.2.1).1, (o_fill T.2.1).2.2, T.2.2) : Mt) (if (o_fill T.2.1).1 = 0 then (o_fill T.2.1).2.1.toInt64 else ov) H locs ls (by rw [ht2]; exact o_fill_ok hok) (by rw [ht2]; exact hw) hS (lv_sub hl [2, 3, 4, 5, 6] rfl))
    · have hz : (o_fill T.2.1).1 = 0 := (nI_eq (b := 0) (by omega) (by decide)).mp h2
      refine lv_aload_n hx hb d_L_law_571 rfl (lv_at hl 3 rfl) ?_
      refine lv_iconst (v := 0) hx hb d_L_law_572 (by decide) ?_
      refine o_ld ⟨hx, hb⟩ hw d_L_law_573 ?_
      refine lv_iload hx hb d_L_law_574 (lv_at hl 0 rfl) ?_
      refine lv_i2l hx hb d_L_law_576 rfl ?_
      refine lc_eq (tgt := 583) ⟨hx, hb⟩ d_L_law_577 d_L_law_578 (by decide) (fun h4 => ?_) (fun h4 => ?_)
      · refine lv_goto (tgt := 1102) hx hb d_L_law_583 (by decide) ?_
        exact W.widen (by show 5 + 20 * i + 1 + 0 + 0 ≤ 5 + 20 * (i + 1); omega) (by show 80000 + 200 * i + 6 + 0 + 0 ≤ 80000 + 200 * (i + 1); omega) (K ((nI (o_fill T.2.1).1, (o_fill T.2.1).2.2, T.2.2) : Mt) (if (o_fill T.2.1).1 = 0 then (o_fill T.2.1).2.1.toInt64 else ov) H locs ls (by rw [ht2]; exact o_fill_ok hok) (by rw [ht2]; exact hw) hS (lv_sub hl [2, 3, 4, 5, 6] rfl))
      · exact absurd (by rw [if_pos hz]) h4
  · exact absurd ht1 h1
set_option maxHeartbeats 4000000 in
set_option maxRecDepth 100000 in
theorem pb_case_take {p : Program} {l : Launch} {e : Env} {s : State} {m : MethodId} {below : List Frame} {meth : Method} {c : Code} {b L i : Nat} {xs : Nat → Int32} {w : Wc} (hfl : l.stackTraces = false) (C : pb_CF p m c code 8 s #[Value.ref b] "PackedBitsLaw") (hX : va_X b L xs s s.heap) (hbl : b < s.heap.size) (hNw : w_N w = s.heap.size) (hL : L ≤ 3584) (hi : 7 * i + 7 ≤ L) (K : pb_LK p l e s m b below meth c w i)
    {T : Mt} {ov : Int64} {H : Heap} {locs : List Loc} {ls : Array Slot} (hok : pb_ok T.2.1) (hw : pb_Wd w T.2.1 T ov s H) (hS : va_S (w_A w) s.heap H locs) (hl : lv_has ls 8 [(4, .int (nI (7 * i))), (3, .ref (w_o w)), (2, .ref (w_m w)), (1, .ref (w_x w)), (0, .ref b)]) : pb_LW p l e s m b below meth c H locs (5 + 20 * i) (80000 + 200 * i) 586 ls [] := by
  have hx := C.1
  have hb := C.2.1
  have hown := C.2.2.2.1
  have hts := C.2.2.2.2
  have hbA : ¬ w_A w b := fun z => Nat.lt_irrefl _ (Nat.lt_of_lt_of_le hbl (by rw [← hNw]; exact z))
  refine lv_aload_n hx hb d_L_law_586 rfl (lv_at hl 3 rfl) ?_
  refine lv_aload_n hx hb d_L_law_587 rfl (lv_at hl 4 rfl) ?_
  refine lv_iload hx hb d_L_law_588 (lv_at hl 0 rfl) ?_
  refine lv_iconst (v := 1) hx hb d_L_law_590 (by decide) ?_
  refine lv_iadd hx hb d_L_law_591 ?_
  refine lv_eqi (y := nI (7 * i + 1)) (nI_add _ 1) ?_
  refine va_sld hx hb hX hbl hbA hS (i := nI (7 * i + 1)) (vp_in_nI (by omega) (by omega)) d_L_law_592 ?_
  refine lv_eqi (y := xs (7 * i + 1)) (congrArg xs (nI_clamp (by omega))) ?_
  refine lv_aload_n hx hb d_L_law_593 rfl (lv_at hl 1 rfl) ?_
  have hc := o_take_c (xs (7 * i + 1)) T.2.1
  refine pb_retI (pb_S (rest := []) C f_L_93 ⟨by decide, by decide, by show 5 + 20 * i + 2 ≤ 601024; omega, by show 80000 + 200 * i + 12 ≤ 7293034; omega⟩ (c_L_take l hfl w T.2.1 T ov (xs (7 * i + 1)) hok) hw hl.1 rfl rfl (Nat.le_of_ble_eq_true rfl) d_L_law_594) hS (rfl) (fun H locs hw hS => ?_)
  refine lv_istore (lv' := [(5, .int (nI (o_take (xs (7 * i + 1)) T.2.1).1)), (4, .int (nI (7 * i))), (3, .ref (w_o w)), (2, .ref (w_m w)), (1, .ref (w_x w)), (0, .ref b)]) hx hb d_L_law_597 hl (by decide) rfl (fun ls hl => ?_)
  refine lv_aload_n hx hb d_L_law_599 rfl (lv_at hl 3 rfl) ?_
  refine lv_aload_n hx hb d_L_law_600 rfl (lv_at hl 5 rfl) ?_
  refine lv_iload hx hb d_L_law_601 (lv_at hl 1 rfl) ?_
  refine lv_iconst (v := 1) hx hb d_L_law_603 (by decide) ?_
  refine lv_iadd hx hb d_L_law_604 ?_
  refine lv_eqi (y := nI (7 * i + 1)) (nI_add _ 1) ?_
  refine va_sld hx hb hX hbl hbA hS (i := nI (7 * i + 1)) (vp_in_nI (by omega) (by omega)) d_L_law_605 ?_
  refine lv_eqi (y := xs (7 * i + 1)) (congrArg xs (nI_clamp (by omega))) ?_
  have ht := tie_take (xs (7 * i + 1)) T
  have ht1 : (m_take (xs (7 * i + 1)) T).2.1 = nI (o_take (xs (7 * i + 1)) T.2.1).1 := ht.2.1
  have ht2 : (m_take (xs (7 * i + 1)) T).2.2.1 = (o_take (xs (7 * i + 1)) T.2.1).2.2 := ht.2.2
  have hv : (m_take (xs (7 * i + 1)) T).1 = (o_take (xs (7 * i + 1)) T.2.1).2.1 := ht.1
  refine pb_retL (pb_V (rest := []) C f_L_95 ⟨by decide, by decide, by show 5 + 20 * i + 2 + 0 ≤ 601024; omega, by show 80000 + 200 * i + 12 + 0 ≤ 7293034; omega⟩ (c_M_take l w (o_take (xs (7 * i + 1)) T.2.1).2.2 T (if (o_take (xs (7 * i + 1)) T.2.1).1 = 0 then (o_take (xs (7 * i + 1)) T.2.1).2.1 else ov) (xs (7 * i + 1)) hok) hw (pb_Wd_m hw) hl.1 rfl rfl (Nat.le_of_ble_eq_true rfl) d_L_law_606) hS (rfl) (fun H locs hw hS => ?_)
  refine lv_lstore (lv' := [(6, .long ((m_take (xs (7 * i + 1)) T).1)), (5, .int (nI (o_take (xs (7 * i + 1)) T.2.1).1)), (4, .int (nI (7 * i))), (3, .ref (w_o w)), (2, .ref (w_m w)), (1, .ref (w_x w)), (0, .ref b)]) hx hb d_L_law_609 hl (by decide) rfl (fun ls hl => ?_)
  refine lv_aload_n hx hb d_L_law_611 rfl (lv_at hl 4 rfl) ?_
  refine pb_retI (pb_V (rest := []) C f_L_74 ⟨by decide, by decide, by show 5 + 20 * i + 2 + 0 + 0 ≤ 601024; omega, by show 80000 + 200 * i + 12 + 0 + 0 ≤ 7293034; omega⟩ (c_M_thrown l w (o_take (xs (7 * i + 1)) T.2.1).2.2 (m_take (xs (7 * i + 1)) T).2 (if (o_take (xs (7 * i + 1)) T.2.1).1 = 0 then (o_take (xs (7 * i + 1)) T.2.1).2.1 else ov)) hw (pb_Wd_m hw) hl.1 rfl rfl (Nat.le_of_ble_eq_true rfl) d_L_law_612) hS (rfl) (fun H locs hw hS => ?_)
  refine lv_iload hx hb d_L_law_615 (lv_at hl 1 rfl) ?_
  refine lv_icmp_eq (tgt := 622) hx hb d_L_law_617 (by decide) (fun h1 => ?_) (fun h1 => ?_)
  · refine lv_iload hx hb d_L_law_622 (lv_at hl 1 rfl) ?_
    refine lv_if_ne (tgt := 638) hx hb d_L_law_624 (by decide) (fun h2 => ?_) (fun h2 => ?_)
    · refine lv_goto (tgt := 1102) hx hb d_L_law_638 (by decide) ?_
      exact W.widen (by show 5 + 20 * i + 2 + 0 + 0 ≤ 5 + 20 * (i + 1); omega) (by show 80000 + 200 * i + 12 + 0 + 0 ≤ 80000 + 200 * (i + 1); omega) (K (m_take (xs (7 * i + 1)) T).2 (if (o_take (xs (7 * i + 1)) T.2.1).1 = 0 then (o_take (xs (7 * i + 1)) T.2.1).2.1 else ov) H locs ls (by rw [ht2]; exact o_take_ok hok) (by rw [ht2]; exact hw) hS (lv_sub hl [2, 3, 4, 5, 6] rfl))
    · have hz : (o_take (xs (7 * i + 1)) T.2.1).1 = 0 := (nI_eq (b := 0) (by omega) (by decide)).mp h2
      refine lv_aload_n hx hb d_L_law_627 rfl (lv_at hl 3 rfl) ?_
      refine lv_iconst (v := 0) hx hb d_L_law_628 (by decide) ?_
      refine o_ld ⟨hx, hb⟩ hw d_L_law_629 ?_
      refine lv_lload hx hb d_L_law_630 (lv_at hl 0 rfl) ?_
      refine lc_eq (tgt := 638) ⟨hx, hb⟩ d_L_law_632 d_L_law_633 (by decide) (fun h4 => ?_) (fun h4 => ?_)
      · refine lv_goto (tgt := 1102) hx hb d_L_law_638 (by decide) ?_
        exact W.widen (by show 5 + 20 * i + 2 + 0 + 0 ≤ 5 + 20 * (i + 1); omega) (by show 80000 + 200 * i + 12 + 0 + 0 ≤ 80000 + 200 * (i + 1); omega) (K (m_take (xs (7 * i + 1)) T).2 (if (o_take (xs (7 * i + 1)) T.2.1).1 = 0 then (o_take (xs (7 * i + 1)) T.2.1).2.1 else ov) H locs ls (by rw [ht2]; exact o_take_ok hok) (by rw [ht2]; exact hw) hS (lv_sub hl [2, 3, 4, 5, 6] rfl))
      · exact absurd (by rw [if_pos hz, hv]) h4
  · exact absurd ht1 h1
set_option maxHeartbeats 4000000 in
set_option maxRecDepth 100000 in
theorem pb_case_takeRange {p : Program} {l : Launch} {e : Env} {s : State} {m : MethodId} {below : List Frame} {meth : Method} {c : Code} {b L i : Nat} {xs : Nat → Int32} {w : Wc} (hfl : l.stackTraces = false) (C : pb_CF p m c code 8 s #[Value.ref b] "PackedBitsLaw") (hX : va_X b L xs s s.heap) (hbl : b < s.heap.size) (hNw : w_N w = s.heap.size) (hL : L ≤ 3584) (hi : 7 * i + 7 ≤ L) (K : pb_LK p l e s m b below meth c w i)
    {T : Mt} {ov : Int64} {H : Heap} {locs : List Loc} {ls : Array Slot} (hok : pb_ok T.2.1) (hw : pb_Wd w T.2.1 T ov s H) (hS : va_S (w_A w) s.heap H locs) (hl : lv_has ls 8 [(4, .int (nI (7 * i))), (3, .ref (w_o w)), (2, .ref (w_m w)), (1, .ref (w_x w)), (0, .ref b)]) : pb_LW p l e s m b below meth c H locs (5 + 20 * i) (80000 + 200 * i) 641 ls [] := by
  have hx := C.1
  have hb := C.2.1
  have hown := C.2.2.2.1
  have hts := C.2.2.2.2
  have hbA : ¬ w_A w b := fun z => Nat.lt_irrefl _ (Nat.lt_of_lt_of_le hbl (by rw [← hNw]; exact z))
  refine lv_aload_n hx hb d_L_law_641 rfl (lv_at hl 3 rfl) ?_
  refine lv_aload_n hx hb d_L_law_642 rfl (lv_at hl 4 rfl) ?_
  refine lv_iload hx hb d_L_law_643 (lv_at hl 0 rfl) ?_
  refine lv_iconst (v := 1) hx hb d_L_law_645 (by decide) ?_
  refine lv_iadd hx hb d_L_law_646 ?_
  refine lv_eqi (y := nI (7 * i + 1)) (nI_add _ 1) ?_
  refine va_sld hx hb hX hbl hbA hS (i := nI (7 * i + 1)) (vp_in_nI (by omega) (by omega)) d_L_law_647 ?_
  refine lv_eqi (y := xs (7 * i + 1)) (congrArg xs (nI_clamp (by omega))) ?_
  refine lv_i2l hx hb d_L_law_648 rfl ?_
  refine lv_bipush (v := 32) hx hb d_L_law_649 (by decide) ?_
  refine lv_lshl hx hb d_L_law_651 rfl ?_
  refine lv_aload_n hx hb d_L_law_652 rfl (lv_at hl 4 rfl) ?_
  refine lv_iload hx hb d_L_law_653 (lv_at hl 0 rfl) ?_
  refine lv_iconst (v := 2) hx hb d_L_law_655 (by decide) ?_
  refine lv_iadd hx hb d_L_law_656 ?_
  refine lv_eqi (y := nI (7 * i + 2)) (nI_add _ 2) ?_
  refine va_sld hx hb hX hbl hbA hS (i := nI (7 * i + 2)) (vp_in_nI (by omega) (by omega)) d_L_law_657 ?_
  refine lv_eqi (y := xs (7 * i + 2)) (congrArg xs (nI_clamp (by omega))) ?_
  refine lv_i2l hx hb d_L_law_658 rfl ?_
  refine lv_ldc2 hx hb hown (hts _ pb_k387) d_L_law_659 ?_
  refine lv_land hx hb d_L_law_662 ?_
  refine lv_lor hx hb d_L_law_663 ?_
  refine lv_topl (fun x1 ex1 => ?_)
  refine lv_aload_n hx hb d_L_law_664 rfl (lv_at hl 4 rfl) ?_
  refine lv_iload hx hb d_L_law_665 (lv_at hl 0 rfl) ?_
  refine lv_iconst (v := 3) hx hb d_L_law_667 (by decide) ?_
  refine lv_iadd hx hb d_L_law_668 ?_
  refine lv_eqi (y := nI (7 * i + 3)) (nI_add _ 3) ?_
  refine va_sld hx hb hX hbl hbA hS (i := nI (7 * i + 3)) (vp_in_nI (by omega) (by omega)) d_L_law_669 ?_
  refine lv_eqi (y := xs (7 * i + 3)) (congrArg xs (nI_clamp (by omega))) ?_
  refine lv_i2l hx hb d_L_law_670 rfl ?_
  refine lv_bipush (v := 32) hx hb d_L_law_671 (by decide) ?_
  refine lv_lshl hx hb d_L_law_673 rfl ?_
  refine lv_aload_n hx hb d_L_law_674 rfl (lv_at hl 4 rfl) ?_
  refine lv_iload hx hb d_L_law_675 (lv_at hl 0 rfl) ?_
  refine lv_iconst (v := 4) hx hb d_L_law_677 (by decide) ?_
  refine lv_iadd hx hb d_L_law_678 ?_
  refine lv_eqi (y := nI (7 * i + 4)) (nI_add _ 4) ?_
  refine va_sld hx hb hX hbl hbA hS (i := nI (7 * i + 4)) (vp_in_nI (by omega) (by omega)) d_L_law_679 ?_
  refine lv_eqi (y := xs (7 * i + 4)) (congrArg xs (nI_clamp (by omega))) ?_
  refine lv_i2l hx hb d_L_law_680 rfl ?_
  refine lv_ldc2 hx hb hown (hts _ pb_k387) d_L_law_681 ?_
  refine lv_land hx hb d_L_law_684 ?_
  refine lv_lor hx hb d_L_law_685 ?_
  refine lv_topl (fun x2 ex2 => ?_)
  refine lv_aload_n hx hb d_L_law_686 rfl (lv_at hl 1 rfl) ?_
  have hc := o_takeRange_c x1 x2 T.2.1
  refine pb_retI (pb_S (rest := []) C f_L_96 ⟨by decide, by decide, by show 5 + 20 * i + 3 ≤ 601024; omega, by show 80000 + 200 * i + 18 ≤ 7293034; omega⟩ (c_L_takeRange l hfl w T.2.1 T ov x1 x2 hok) hw hl.1 rfl rfl (Nat.le_of_ble_eq_true rfl) d_L_law_687) hS (rfl) (fun H locs hw hS => ?_)
  refine lv_istore (lv' := [(5, .int (nI (o_takeRange x1 x2 T.2.1).1)), (4, .int (nI (7 * i))), (3, .ref (w_o w)), (2, .ref (w_m w)), (1, .ref (w_x w)), (0, .ref b)]) hx hb d_L_law_690 hl (by decide) rfl (fun ls hl => ?_)
  refine lv_aload_n hx hb d_L_law_692 rfl (lv_at hl 3 rfl) ?_
  refine lv_aload_n hx hb d_L_law_693 rfl (lv_at hl 5 rfl) ?_
  refine lv_iload hx hb d_L_law_694 (lv_at hl 1 rfl) ?_
  refine lv_iconst (v := 1) hx hb d_L_law_696 (by decide) ?_
  refine lv_iadd hx hb d_L_law_697 ?_
  refine lv_eqi (y := nI (7 * i + 1)) (nI_add _ 1) ?_
  refine va_sld hx hb hX hbl hbA hS (i := nI (7 * i + 1)) (vp_in_nI (by omega) (by omega)) d_L_law_698 ?_
  refine lv_eqi (y := xs (7 * i + 1)) (congrArg xs (nI_clamp (by omega))) ?_
  refine lv_i2l hx hb d_L_law_699 rfl ?_
  refine lv_bipush (v := 32) hx hb d_L_law_700 (by decide) ?_
  refine lv_lshl hx hb d_L_law_702 rfl ?_
  refine lv_aload_n hx hb d_L_law_703 rfl (lv_at hl 5 rfl) ?_
  refine lv_iload hx hb d_L_law_704 (lv_at hl 1 rfl) ?_
  refine lv_iconst (v := 2) hx hb d_L_law_706 (by decide) ?_
  refine lv_iadd hx hb d_L_law_707 ?_
  refine lv_eqi (y := nI (7 * i + 2)) (nI_add _ 2) ?_
  refine va_sld hx hb hX hbl hbA hS (i := nI (7 * i + 2)) (vp_in_nI (by omega) (by omega)) d_L_law_708 ?_
  refine lv_eqi (y := xs (7 * i + 2)) (congrArg xs (nI_clamp (by omega))) ?_
  refine lv_i2l hx hb d_L_law_709 rfl ?_
  refine lv_ldc2 hx hb hown (hts _ pb_k387) d_L_law_710 ?_
  refine lv_land hx hb d_L_law_713 ?_
  refine lv_lor hx hb d_L_law_714 ?_
  refine lv_eql (y := x1) (ex1.symm) ?_
  refine lv_aload_n hx hb d_L_law_715 rfl (lv_at hl 5 rfl) ?_
  refine lv_iload hx hb d_L_law_716 (lv_at hl 1 rfl) ?_
  refine lv_iconst (v := 3) hx hb d_L_law_718 (by decide) ?_
  refine lv_iadd hx hb d_L_law_719 ?_
  refine lv_eqi (y := nI (7 * i + 3)) (nI_add _ 3) ?_
  refine va_sld hx hb hX hbl hbA hS (i := nI (7 * i + 3)) (vp_in_nI (by omega) (by omega)) d_L_law_720 ?_
  refine lv_eqi (y := xs (7 * i + 3)) (congrArg xs (nI_clamp (by omega))) ?_
  refine lv_i2l hx hb d_L_law_721 rfl ?_
  refine lv_bipush (v := 32) hx hb d_L_law_722 (by decide) ?_
  refine lv_lshl hx hb d_L_law_724 rfl ?_
  refine lv_aload_n hx hb d_L_law_725 rfl (lv_at hl 5 rfl) ?_
  refine lv_iload hx hb d_L_law_726 (lv_at hl 1 rfl) ?_
  refine lv_iconst (v := 4) hx hb d_L_law_728 (by decide) ?_
  refine lv_iadd hx hb d_L_law_729 ?_
  refine lv_eqi (y := nI (7 * i + 4)) (nI_add _ 4) ?_
  refine va_sld hx hb hX hbl hbA hS (i := nI (7 * i + 4)) (vp_in_nI (by omega) (by omega)) d_L_law_730 ?_
  refine lv_eqi (y := xs (7 * i + 4)) (congrArg xs (nI_clamp (by omega))) ?_
  refine lv_i2l hx hb d_L_law_731 rfl ?_
  refine lv_ldc2 hx hb hown (hts _ pb_k387) d_L_law_732 ?_
  refine lv_land hx hb d_L_law_735 ?_
  refine lv_lor hx hb d_L_law_736 ?_
  refine lv_eql (y := x2) (ex2.symm) ?_
  have ht := tie_takeRange x1 x2 T
  have ht1 : (m_takeRange x1 x2 T).2.1 = nI (o_takeRange x1 x2 T.2.1).1 := ht.2.1
  have ht2 : (m_takeRange x1 x2 T).2.2.1 = (o_takeRange x1 x2 T.2.1).2.2 := ht.2.2
  have hv : (m_takeRange x1 x2 T).1 = (o_takeRange x1 x2 T.2.1).2.1 := ht.1
  refine pb_retL (pb_V (rest := []) C f_L_99 ⟨by decide, by decide, by show 5 + 20 * i + 3 + 0 ≤ 601024; omega, by show 80000 + 200 * i + 18 + 0 ≤ 7293034; omega⟩ (c_M_takeRange l w (o_takeRange x1 x2 T.2.1).2.2 T (if (o_takeRange x1 x2 T.2.1).1 = 0 then (o_takeRange x1 x2 T.2.1).2.1 else ov) x1 x2 hok) hw (pb_Wd_m hw) hl.1 rfl rfl (Nat.le_of_ble_eq_true rfl) d_L_law_737) hS (rfl) (fun H locs hw hS => ?_)
  refine lv_lstore (lv' := [(6, .long ((m_takeRange x1 x2 T).1)), (5, .int (nI (o_takeRange x1 x2 T.2.1).1)), (4, .int (nI (7 * i))), (3, .ref (w_o w)), (2, .ref (w_m w)), (1, .ref (w_x w)), (0, .ref b)]) hx hb d_L_law_740 hl (by decide) rfl (fun ls hl => ?_)
  refine lv_aload_n hx hb d_L_law_742 rfl (lv_at hl 4 rfl) ?_
  refine pb_retI (pb_V (rest := []) C f_L_74 ⟨by decide, by decide, by show 5 + 20 * i + 3 + 0 + 0 ≤ 601024; omega, by show 80000 + 200 * i + 18 + 0 + 0 ≤ 7293034; omega⟩ (c_M_thrown l w (o_takeRange x1 x2 T.2.1).2.2 (m_takeRange x1 x2 T).2 (if (o_takeRange x1 x2 T.2.1).1 = 0 then (o_takeRange x1 x2 T.2.1).2.1 else ov)) hw (pb_Wd_m hw) hl.1 rfl rfl (Nat.le_of_ble_eq_true rfl) d_L_law_743) hS (rfl) (fun H locs hw hS => ?_)
  refine lv_iload hx hb d_L_law_746 (lv_at hl 1 rfl) ?_
  refine lv_icmp_eq (tgt := 753) hx hb d_L_law_748 (by decide) (fun h1 => ?_) (fun h1 => ?_)
  · refine lv_iload hx hb d_L_law_753 (lv_at hl 1 rfl) ?_
    refine lv_if_ne (tgt := 769) hx hb d_L_law_755 (by decide) (fun h2 => ?_) (fun h2 => ?_)
    · refine lv_goto (tgt := 1102) hx hb d_L_law_769 (by decide) ?_
      exact W.widen (by show 5 + 20 * i + 3 + 0 + 0 ≤ 5 + 20 * (i + 1); omega) (by show 80000 + 200 * i + 18 + 0 + 0 ≤ 80000 + 200 * (i + 1); omega) (K (m_takeRange x1 x2 T).2 (if (o_takeRange x1 x2 T.2.1).1 = 0 then (o_takeRange x1 x2 T.2.1).2.1 else ov) H locs ls (by rw [ht2]; exact o_takeRange_ok hok) (by rw [ht2]; exact hw) hS (lv_sub hl [2, 3, 4, 5, 6] rfl))
    · have hz : (o_takeRange x1 x2 T.2.1).1 = 0 := (nI_eq (b := 0) (by omega) (by decide)).mp h2
      refine lv_aload_n hx hb d_L_law_758 rfl (lv_at hl 3 rfl) ?_
      refine lv_iconst (v := 0) hx hb d_L_law_759 (by decide) ?_
      refine o_ld ⟨hx, hb⟩ hw d_L_law_760 ?_
      refine lv_lload hx hb d_L_law_761 (lv_at hl 0 rfl) ?_
      refine lc_eq (tgt := 769) ⟨hx, hb⟩ d_L_law_763 d_L_law_764 (by decide) (fun h4 => ?_) (fun h4 => ?_)
      · refine lv_goto (tgt := 1102) hx hb d_L_law_769 (by decide) ?_
        exact W.widen (by show 5 + 20 * i + 3 + 0 + 0 ≤ 5 + 20 * (i + 1); omega) (by show 80000 + 200 * i + 18 + 0 + 0 ≤ 80000 + 200 * (i + 1); omega) (K (m_takeRange x1 x2 T).2 (if (o_takeRange x1 x2 T.2.1).1 = 0 then (o_takeRange x1 x2 T.2.1).2.1 else ov) H locs ls (by rw [ht2]; exact o_takeRange_ok hok) (by rw [ht2]; exact hw) hS (lv_sub hl [2, 3, 4, 5, 6] rfl))
      · exact absurd (by rw [if_pos hz, hv]) h4
  · exact absurd ht1 h1
set_option maxHeartbeats 4000000 in
set_option maxRecDepth 100000 in
theorem pb_case_takeLength {p : Program} {l : Launch} {e : Env} {s : State} {m : MethodId} {below : List Frame} {meth : Method} {c : Code} {b L i : Nat} {xs : Nat → Int32} {w : Wc} (hfl : l.stackTraces = false) (C : pb_CF p m c code 8 s #[Value.ref b] "PackedBitsLaw") (hX : va_X b L xs s s.heap) (hbl : b < s.heap.size) (hNw : w_N w = s.heap.size) (hL : L ≤ 3584) (hi : 7 * i + 7 ≤ L) (K : pb_LK p l e s m b below meth c w i)
    {T : Mt} {ov : Int64} {H : Heap} {locs : List Loc} {ls : Array Slot} (hok : pb_ok T.2.1) (hw : pb_Wd w T.2.1 T ov s H) (hS : va_S (w_A w) s.heap H locs) (hl : lv_has ls 8 [(4, .int (nI (7 * i))), (3, .ref (w_o w)), (2, .ref (w_m w)), (1, .ref (w_x w)), (0, .ref b)]) : pb_LW p l e s m b below meth c H locs (5 + 20 * i) (80000 + 200 * i) 772 ls [] := by
  have hx := C.1
  have hb := C.2.1
  have hown := C.2.2.2.1
  have hts := C.2.2.2.2
  have hbA : ¬ w_A w b := fun z => Nat.lt_irrefl _ (Nat.lt_of_lt_of_le hbl (by rw [← hNw]; exact z))
  refine lv_aload_n hx hb d_L_law_772 rfl (lv_at hl 3 rfl) ?_
  refine lv_aload_n hx hb d_L_law_773 rfl (lv_at hl 1 rfl) ?_
  have hc := o_takeLength_c T.2.1
  refine pb_retI (pb_S (rest := []) C f_L_100 ⟨by decide, by decide, by show 5 + 20 * i + 8 ≤ 601024; omega, by show 80000 + 200 * i + 48 ≤ 7293034; omega⟩ (c_L_takeLength l hfl w T.2.1 T ov hok) hw hl.1 rfl rfl (Nat.le_of_ble_eq_true rfl) d_L_law_774) hS (rfl) (fun H locs hw hS => ?_)
  refine lv_istore (lv' := [(5, .int (nI (o_takeLength T.2.1).1)), (4, .int (nI (7 * i))), (3, .ref (w_o w)), (2, .ref (w_m w)), (1, .ref (w_x w)), (0, .ref b)]) hx hb d_L_law_777 hl (by decide) rfl (fun ls hl => ?_)
  refine lv_aload_n hx hb d_L_law_779 rfl (lv_at hl 3 rfl) ?_
  have ht := tie_takeLength T hok.1
  have ht1 : (m_takeLength T).2.1 = nI (o_takeLength T.2.1).1 := ht.2.1
  have ht2 : (m_takeLength T).2.2.1 = (o_takeLength T.2.1).2.2 := ht.2.2
  have hv : (m_takeLength T).1 = (o_takeLength T.2.1).2.1 := ht.1
  refine pb_retI (pb_V (rest := []) C f_L_102 ⟨by decide, by decide, by show 5 + 20 * i + 8 + 0 ≤ 601024; omega, by show 80000 + 200 * i + 48 + 0 ≤ 7293034; omega⟩ (c_M_takeLength l w (o_takeLength T.2.1).2.2 T (if (o_takeLength T.2.1).1 = 0 then (o_takeLength T.2.1).2.1.toInt64 else ov) hok) hw (pb_Wd_m hw) hl.1 rfl rfl (Nat.le_of_ble_eq_true rfl) d_L_law_780) hS (rfl) (fun H locs hw hS => ?_)
  refine lv_istore (lv' := [(6, .int ((m_takeLength T).1)), (5, .int (nI (o_takeLength T.2.1).1)), (4, .int (nI (7 * i))), (3, .ref (w_o w)), (2, .ref (w_m w)), (1, .ref (w_x w)), (0, .ref b)]) hx hb d_L_law_783 hl (by decide) rfl (fun ls hl => ?_)
  refine lv_aload_n hx hb d_L_law_785 rfl (lv_at hl 4 rfl) ?_
  refine pb_retI (pb_V (rest := []) C f_L_74 ⟨by decide, by decide, by show 5 + 20 * i + 8 + 0 + 0 ≤ 601024; omega, by show 80000 + 200 * i + 48 + 0 + 0 ≤ 7293034; omega⟩ (c_M_thrown l w (o_takeLength T.2.1).2.2 (m_takeLength T).2 (if (o_takeLength T.2.1).1 = 0 then (o_takeLength T.2.1).2.1.toInt64 else ov)) hw (pb_Wd_m hw) hl.1 rfl rfl (Nat.le_of_ble_eq_true rfl) d_L_law_786) hS (rfl) (fun H locs hw hS => ?_)
  refine lv_iload hx hb d_L_law_789 (lv_at hl 1 rfl) ?_
  refine lv_icmp_eq (tgt := 796) hx hb d_L_law_791 (by decide) (fun h1 => ?_) (fun h1 => ?_)
  · refine lv_iload hx hb d_L_law_796 (lv_at hl 1 rfl) ?_
    refine lv_if_ne (tgt := 813) hx hb d_L_law_798 (by decide) (fun h2 => ?_) (fun h2 => ?_)
    · refine lv_goto (tgt := 1102) hx hb d_L_law_813 (by decide) ?_
      exact W.widen (by show 5 + 20 * i + 8 + 0 + 0 ≤ 5 + 20 * (i + 1); omega) (by show 80000 + 200 * i + 48 + 0 + 0 ≤ 80000 + 200 * (i + 1); omega) (K (m_takeLength T).2 (if (o_takeLength T.2.1).1 = 0 then (o_takeLength T.2.1).2.1.toInt64 else ov) H locs ls (by rw [ht2]; exact o_takeLength_ok hok) (by rw [ht2]; exact hw) hS (lv_sub hl [2, 3, 4, 5, 6] rfl))
    · have hz : (o_takeLength T.2.1).1 = 0 := (nI_eq (b := 0) (by omega) (by decide)).mp h2
      refine lv_aload_n hx hb d_L_law_801 rfl (lv_at hl 3 rfl) ?_
      refine lv_iconst (v := 0) hx hb d_L_law_802 (by decide) ?_
      refine o_ld ⟨hx, hb⟩ hw d_L_law_803 ?_
      refine lv_iload hx hb d_L_law_804 (lv_at hl 0 rfl) ?_
      refine lv_i2l hx hb d_L_law_806 rfl ?_
      refine lc_eq (tgt := 813) ⟨hx, hb⟩ d_L_law_807 d_L_law_808 (by decide) (fun h4 => ?_) (fun h4 => ?_)
      · refine lv_goto (tgt := 1102) hx hb d_L_law_813 (by decide) ?_
        exact W.widen (by show 5 + 20 * i + 8 + 0 + 0 ≤ 5 + 20 * (i + 1); omega) (by show 80000 + 200 * i + 48 + 0 + 0 ≤ 80000 + 200 * (i + 1); omega) (K (m_takeLength T).2 (if (o_takeLength T.2.1).1 = 0 then (o_takeLength T.2.1).2.1.toInt64 else ov) H locs ls (by rw [ht2]; exact o_takeLength_ok hok) (by rw [ht2]; exact hw) hS (lv_sub hl [2, 3, 4, 5, 6] rfl))
      · exact absurd (by rw [if_pos hz, hv]) h4
  · exact absurd ht1 h1
set_option maxHeartbeats 4000000 in
set_option maxRecDepth 100000 in
theorem pb_case_takeNumber {p : Program} {l : Launch} {e : Env} {s : State} {m : MethodId} {below : List Frame} {meth : Method} {c : Code} {b L i : Nat} {xs : Nat → Int32} {w : Wc} (hfl : l.stackTraces = false) (C : pb_CF p m c code 8 s #[Value.ref b] "PackedBitsLaw") (hX : va_X b L xs s s.heap) (hbl : b < s.heap.size) (hNw : w_N w = s.heap.size) (hL : L ≤ 3584) (hi : 7 * i + 7 ≤ L) (K : pb_LK p l e s m b below meth c w i)
    {T : Mt} {ov : Int64} {H : Heap} {locs : List Loc} {ls : Array Slot} (hok : pb_ok T.2.1) (hw : pb_Wd w T.2.1 T ov s H) (hS : va_S (w_A w) s.heap H locs) (hl : lv_has ls 8 [(4, .int (nI (7 * i))), (3, .ref (w_o w)), (2, .ref (w_m w)), (1, .ref (w_x w)), (0, .ref b)]) : pb_LW p l e s m b below meth c H locs (5 + 20 * i) (80000 + 200 * i) 816 ls [] := by
  have hx := C.1
  have hb := C.2.1
  have hown := C.2.2.2.1
  have hts := C.2.2.2.2
  have hbA : ¬ w_A w b := fun z => Nat.lt_irrefl _ (Nat.lt_of_lt_of_le hbl (by rw [← hNw]; exact z))
  refine lv_aload_n hx hb d_L_law_816 rfl (lv_at hl 3 rfl) ?_
  refine lv_aload_n hx hb d_L_law_817 rfl (lv_at hl 4 rfl) ?_
  refine lv_iload hx hb d_L_law_818 (lv_at hl 0 rfl) ?_
  refine lv_iconst (v := 1) hx hb d_L_law_820 (by decide) ?_
  refine lv_iadd hx hb d_L_law_821 ?_
  refine lv_eqi (y := nI (7 * i + 1)) (nI_add _ 1) ?_
  refine va_sld hx hb hX hbl hbA hS (i := nI (7 * i + 1)) (vp_in_nI (by omega) (by omega)) d_L_law_822 ?_
  refine lv_eqi (y := xs (7 * i + 1)) (congrArg xs (nI_clamp (by omega))) ?_
  refine lv_aload_n hx hb d_L_law_823 rfl (lv_at hl 1 rfl) ?_
  have hc := o_takeNumber_c (xs (7 * i + 1)) T.2.1
  refine pb_retI (pb_S (rest := []) C f_L_103 ⟨by decide, by decide, by show 5 + 20 * i + 14 ≤ 601024; omega, by show 80000 + 200 * i + 84 ≤ 7293034; omega⟩ (c_L_takeNumber l hfl w T.2.1 T ov (xs (7 * i + 1)) hok) hw hl.1 rfl rfl (Nat.le_of_ble_eq_true rfl) d_L_law_824) hS (rfl) (fun H locs hw hS => ?_)
  refine lv_istore (lv' := [(5, .int (nI (o_takeNumber (xs (7 * i + 1)) T.2.1).1)), (4, .int (nI (7 * i))), (3, .ref (w_o w)), (2, .ref (w_m w)), (1, .ref (w_x w)), (0, .ref b)]) hx hb d_L_law_827 hl (by decide) rfl (fun ls hl => ?_)
  refine lv_aload_n hx hb d_L_law_829 rfl (lv_at hl 3 rfl) ?_
  refine lv_aload_n hx hb d_L_law_830 rfl (lv_at hl 5 rfl) ?_
  refine lv_iload hx hb d_L_law_831 (lv_at hl 1 rfl) ?_
  refine lv_iconst (v := 1) hx hb d_L_law_833 (by decide) ?_
  refine lv_iadd hx hb d_L_law_834 ?_
  refine lv_eqi (y := nI (7 * i + 1)) (nI_add _ 1) ?_
  refine va_sld hx hb hX hbl hbA hS (i := nI (7 * i + 1)) (vp_in_nI (by omega) (by omega)) d_L_law_835 ?_
  refine lv_eqi (y := xs (7 * i + 1)) (congrArg xs (nI_clamp (by omega))) ?_
  have ht := tie_takeNumber (xs (7 * i + 1)) T hok.1
  have ht1 : (m_takeNumber (xs (7 * i + 1)) T).2.1 = nI (o_takeNumber (xs (7 * i + 1)) T.2.1).1 := ht.2.1
  have ht2 : (m_takeNumber (xs (7 * i + 1)) T).2.2.1 = (o_takeNumber (xs (7 * i + 1)) T.2.1).2.2 := ht.2.2
  have hv : (m_takeNumber (xs (7 * i + 1)) T).1 = (o_takeNumber (xs (7 * i + 1)) T.2.1).2.1 := ht.1
  refine pb_retL (pb_V (rest := []) C f_L_105 ⟨by decide, by decide, by show 5 + 20 * i + 14 + 0 ≤ 601024; omega, by show 80000 + 200 * i + 84 + 0 ≤ 7293034; omega⟩ (c_M_takeNumber l w (o_takeNumber (xs (7 * i + 1)) T.2.1).2.2 T (if (o_takeNumber (xs (7 * i + 1)) T.2.1).1 = 0 then (o_takeNumber (xs (7 * i + 1)) T.2.1).2.1 else ov) (xs (7 * i + 1)) hok) hw (pb_Wd_m hw) hl.1 rfl rfl (Nat.le_of_ble_eq_true rfl) d_L_law_836) hS (rfl) (fun H locs hw hS => ?_)
  refine lv_lstore (lv' := [(6, .long ((m_takeNumber (xs (7 * i + 1)) T).1)), (5, .int (nI (o_takeNumber (xs (7 * i + 1)) T.2.1).1)), (4, .int (nI (7 * i))), (3, .ref (w_o w)), (2, .ref (w_m w)), (1, .ref (w_x w)), (0, .ref b)]) hx hb d_L_law_839 hl (by decide) rfl (fun ls hl => ?_)
  refine lv_aload_n hx hb d_L_law_841 rfl (lv_at hl 4 rfl) ?_
  refine pb_retI (pb_V (rest := []) C f_L_74 ⟨by decide, by decide, by show 5 + 20 * i + 14 + 0 + 0 ≤ 601024; omega, by show 80000 + 200 * i + 84 + 0 + 0 ≤ 7293034; omega⟩ (c_M_thrown l w (o_takeNumber (xs (7 * i + 1)) T.2.1).2.2 (m_takeNumber (xs (7 * i + 1)) T).2 (if (o_takeNumber (xs (7 * i + 1)) T.2.1).1 = 0 then (o_takeNumber (xs (7 * i + 1)) T.2.1).2.1 else ov)) hw (pb_Wd_m hw) hl.1 rfl rfl (Nat.le_of_ble_eq_true rfl) d_L_law_842) hS (rfl) (fun H locs hw hS => ?_)
  refine lv_iload hx hb d_L_law_845 (lv_at hl 1 rfl) ?_
  refine lv_icmp_eq (tgt := 852) hx hb d_L_law_847 (by decide) (fun h1 => ?_) (fun h1 => ?_)
  · refine lv_iload hx hb d_L_law_852 (lv_at hl 1 rfl) ?_
    refine lv_if_ne (tgt := 868) hx hb d_L_law_854 (by decide) (fun h2 => ?_) (fun h2 => ?_)
    · refine lv_goto (tgt := 1102) hx hb d_L_law_868 (by decide) ?_
      exact W.widen (by show 5 + 20 * i + 14 + 0 + 0 ≤ 5 + 20 * (i + 1); omega) (by show 80000 + 200 * i + 84 + 0 + 0 ≤ 80000 + 200 * (i + 1); omega) (K (m_takeNumber (xs (7 * i + 1)) T).2 (if (o_takeNumber (xs (7 * i + 1)) T.2.1).1 = 0 then (o_takeNumber (xs (7 * i + 1)) T.2.1).2.1 else ov) H locs ls (by rw [ht2]; exact o_takeNumber_ok hok) (by rw [ht2]; exact hw) hS (lv_sub hl [2, 3, 4, 5, 6] rfl))
    · have hz : (o_takeNumber (xs (7 * i + 1)) T.2.1).1 = 0 := (nI_eq (b := 0) (by omega) (by decide)).mp h2
      refine lv_aload_n hx hb d_L_law_857 rfl (lv_at hl 3 rfl) ?_
      refine lv_iconst (v := 0) hx hb d_L_law_858 (by decide) ?_
      refine o_ld ⟨hx, hb⟩ hw d_L_law_859 ?_
      refine lv_lload hx hb d_L_law_860 (lv_at hl 0 rfl) ?_
      refine lc_eq (tgt := 868) ⟨hx, hb⟩ d_L_law_862 d_L_law_863 (by decide) (fun h4 => ?_) (fun h4 => ?_)
      · refine lv_goto (tgt := 1102) hx hb d_L_law_868 (by decide) ?_
        exact W.widen (by show 5 + 20 * i + 14 + 0 + 0 ≤ 5 + 20 * (i + 1); omega) (by show 80000 + 200 * i + 84 + 0 + 0 ≤ 80000 + 200 * (i + 1); omega) (K (m_takeNumber (xs (7 * i + 1)) T).2 (if (o_takeNumber (xs (7 * i + 1)) T.2.1).1 = 0 then (o_takeNumber (xs (7 * i + 1)) T.2.1).2.1 else ov) H locs ls (by rw [ht2]; exact o_takeNumber_ok hok) (by rw [ht2]; exact hw) hS (lv_sub hl [2, 3, 4, 5, 6] rfl))
      · exact absurd (by rw [if_pos hz, hv]) h4
  · exact absurd ht1 h1
set_option maxHeartbeats 4000000 in
set_option maxRecDepth 100000 in
theorem pb_case_go {p : Program} {l : Launch} {e : Env} {s : State} {m : MethodId} {below : List Frame} {meth : Method} {c : Code} {b L i : Nat} {xs : Nat → Int32} {w : Wc} (hfl : l.stackTraces = false) (C : pb_CF p m c code 8 s #[Value.ref b] "PackedBitsLaw") (hX : va_X b L xs s s.heap) (hbl : b < s.heap.size) (hNw : w_N w = s.heap.size) (hL : L ≤ 3584) (hi : 7 * i + 7 ≤ L) (K : pb_LK p l e s m b below meth c w i)
    {T : Mt} {ov : Int64} {H : Heap} {locs : List Loc} {ls : Array Slot} (hok : pb_ok T.2.1) (hw : pb_Wd w T.2.1 T ov s H) (hS : va_S (w_A w) s.heap H locs) (hl : lv_has ls 8 [(4, .int (nI (7 * i))), (3, .ref (w_o w)), (2, .ref (w_m w)), (1, .ref (w_x w)), (0, .ref b)]) : pb_LW p l e s m b below meth c H locs (5 + 20 * i) (80000 + 200 * i) 871 ls [] := by
  have hx := C.1
  have hb := C.2.1
  have hown := C.2.2.2.1
  have hts := C.2.2.2.2
  have hbA : ¬ w_A w b := fun z => Nat.lt_irrefl _ (Nat.lt_of_lt_of_le hbl (by rw [← hNw]; exact z))
  refine lv_aload_n hx hb d_L_law_871 rfl (lv_at hl 3 rfl) ?_
  refine lv_aload_n hx hb d_L_law_872 rfl (lv_at hl 4 rfl) ?_
  refine lv_iload hx hb d_L_law_873 (lv_at hl 0 rfl) ?_
  refine lv_iconst (v := 1) hx hb d_L_law_875 (by decide) ?_
  refine lv_iadd hx hb d_L_law_876 ?_
  refine lv_eqi (y := nI (7 * i + 1)) (nI_add _ 1) ?_
  refine va_sld hx hb hX hbl hbA hS (i := nI (7 * i + 1)) (vp_in_nI (by omega) (by omega)) d_L_law_877 ?_
  refine lv_eqi (y := xs (7 * i + 1)) (congrArg xs (nI_clamp (by omega))) ?_
  refine lv_aload_n hx hb d_L_law_878 rfl (lv_at hl 1 rfl) ?_
  have hc := o_go_c (xs (7 * i + 1)) T.2.1
  refine pb_retI (pb_S (rest := []) C f_L_106 ⟨by decide, by decide, by show 5 + 20 * i + 1 ≤ 601024; omega, by show 80000 + 200 * i + 6 ≤ 7293034; omega⟩ (c_L_go l hfl w T.2.1 T ov (xs (7 * i + 1)) hok) hw hl.1 rfl rfl (Nat.le_of_ble_eq_true rfl) d_L_law_879) hS (rfl) (fun H locs hw hS => ?_)
  refine lv_istore (lv' := [(5, .int (nI (o_go (xs (7 * i + 1)) T.2.1).1)), (4, .int (nI (7 * i))), (3, .ref (w_o w)), (2, .ref (w_m w)), (1, .ref (w_x w)), (0, .ref b)]) hx hb d_L_law_882 hl (by decide) rfl (fun ls hl => ?_)
  refine lv_aload_n hx hb d_L_law_884 rfl (lv_at hl 3 rfl) ?_
  refine lv_aload_n hx hb d_L_law_885 rfl (lv_at hl 5 rfl) ?_
  refine lv_iload hx hb d_L_law_886 (lv_at hl 1 rfl) ?_
  refine lv_iconst (v := 1) hx hb d_L_law_888 (by decide) ?_
  refine lv_iadd hx hb d_L_law_889 ?_
  refine lv_eqi (y := nI (7 * i + 1)) (nI_add _ 1) ?_
  refine va_sld hx hb hX hbl hbA hS (i := nI (7 * i + 1)) (vp_in_nI (by omega) (by omega)) d_L_law_890 ?_
  refine lv_eqi (y := xs (7 * i + 1)) (congrArg xs (nI_clamp (by omega))) ?_
  have ht1 : ((nI (o_go (xs (7 * i + 1)) T.2.1).1, (o_go (xs (7 * i + 1)) T.2.1).2.2, T.2.2) : Mt).1 = nI (o_go (xs (7 * i + 1)) T.2.1).1 := rfl
  have ht2 : ((nI (o_go (xs (7 * i + 1)) T.2.1).1, (o_go (xs (7 * i + 1)) T.2.1).2.2, T.2.2) : Mt).2.1 = (o_go (xs (7 * i + 1)) T.2.1).2.2 := rfl
  refine pb_retI (pb_V (rest := []) C f_L_108 ⟨by decide, by decide, by show 5 + 20 * i + 1 + 0 ≤ 601024; omega, by show 80000 + 200 * i + 6 + 0 ≤ 7293034; omega⟩ (c_M_go l w (o_go (xs (7 * i + 1)) T.2.1).2.2 T (if (o_go (xs (7 * i + 1)) T.2.1).1 = 0 then (o_go (xs (7 * i + 1)) T.2.1).2.1.toInt64 else ov) (xs (7 * i + 1)) hok) hw (pb_Wd_m hw) hl.1 rfl rfl (Nat.le_of_ble_eq_true rfl) d_L_law_891) hS (rfl) (fun H locs hw hS => ?_)
  refine lv_istore (lv' := [(6, .int ((o_go (xs (7 * i + 1)) T.2.1).2.1)), (5, .int (nI (o_go (xs (7 * i + 1)) T.2.1).1)), (4, .int (nI (7 * i))), (3, .ref (w_o w)), (2, .ref (w_m w)), (1, .ref (w_x w)), (0, .ref b)]) hx hb d_L_law_894 hl (by decide) rfl (fun ls hl => ?_)
  refine lv_aload_n hx hb d_L_law_896 rfl (lv_at hl 4 rfl) ?_
  refine pb_retI (pb_V (rest := []) C f_L_74 ⟨by decide, by decide, by show 5 + 20 * i + 1 + 0 + 0 ≤ 601024; omega, by show 80000 + 200 * i + 6 + 0 + 0 ≤ 7293034; omega⟩ (c_M_thrown l w (o_go (xs (7 * i + 1)) T.2.1).2.2 ((nI (o_go (xs (7 * i + 1)) T.2.1).1, (o_go (xs (7 * i + 1)) T.2.1).2.2, T.2.2) : Mt) (if (o_go (xs (7 * i + 1)) T.2.1).1 = 0 then (o_go (xs (7 * i + 1)) T.2.1).2.1.toInt64 else ov)) hw (pb_Wd_m hw) hl.1 rfl rfl (Nat.le_of_ble_eq_true rfl) d_L_law_897) hS (rfl) (fun H locs hw hS => ?_)
  refine lv_iload hx hb d_L_law_900 (lv_at hl 1 rfl) ?_
  refine lv_icmp_eq (tgt := 907) hx hb d_L_law_902 (by decide) (fun h1 => ?_) (fun h1 => ?_)
  · refine lv_iload hx hb d_L_law_907 (lv_at hl 1 rfl) ?_
    refine lv_if_ne (tgt := 924) hx hb d_L_law_909 (by decide) (fun h2 => ?_) (fun h2 => ?_)
    · refine lv_goto (tgt := 1102) hx hb d_L_law_924 (by decide) ?_
      exact W.widen (by show 5 + 20 * i + 1 + 0 + 0 ≤ 5 + 20 * (i + 1); omega) (by show 80000 + 200 * i + 6 + 0 + 0 ≤ 80000 + 200 * (i + 1); omega) (K ((nI (o_go (xs (7 * i + 1)) T.2.1).1, (o_go (xs (7 * i + 1)) T.2.1).2.2, T.2.2) : Mt) (if (o_go (xs (7 * i + 1)) T.2.1).1 = 0 then (o_go (xs (7 * i + 1)) T.2.1).2.1.toInt64 else ov) H locs ls (by rw [ht2]; exact o_go_ok hok) (by rw [ht2]; exact hw) hS (lv_sub hl [2, 3, 4, 5, 6] rfl))
    · have hz : (o_go (xs (7 * i + 1)) T.2.1).1 = 0 := (nI_eq (b := 0) (by omega) (by decide)).mp h2
      refine lv_aload_n hx hb d_L_law_912 rfl (lv_at hl 3 rfl) ?_
      refine lv_iconst (v := 0) hx hb d_L_law_913 (by decide) ?_
      refine o_ld ⟨hx, hb⟩ hw d_L_law_914 ?_
      refine lv_iload hx hb d_L_law_915 (lv_at hl 0 rfl) ?_
      refine lv_i2l hx hb d_L_law_917 rfl ?_
      refine lc_eq (tgt := 924) ⟨hx, hb⟩ d_L_law_918 d_L_law_919 (by decide) (fun h4 => ?_) (fun h4 => ?_)
      · refine lv_goto (tgt := 1102) hx hb d_L_law_924 (by decide) ?_
        exact W.widen (by show 5 + 20 * i + 1 + 0 + 0 ≤ 5 + 20 * (i + 1); omega) (by show 80000 + 200 * i + 6 + 0 + 0 ≤ 80000 + 200 * (i + 1); omega) (K ((nI (o_go (xs (7 * i + 1)) T.2.1).1, (o_go (xs (7 * i + 1)) T.2.1).2.2, T.2.2) : Mt) (if (o_go (xs (7 * i + 1)) T.2.1).1 = 0 then (o_go (xs (7 * i + 1)) T.2.1).2.1.toInt64 else ov) H locs ls (by rw [ht2]; exact o_go_ok hok) (by rw [ht2]; exact hw) hS (lv_sub hl [2, 3, 4, 5, 6] rfl))
      · exact absurd (by rw [if_pos hz]) h4
  · exact absurd ht1 h1
set_option maxHeartbeats 4000000 in
set_option maxRecDepth 100000 in
theorem pb_case_turn {p : Program} {l : Launch} {e : Env} {s : State} {m : MethodId} {below : List Frame} {meth : Method} {c : Code} {b L i : Nat} {xs : Nat → Int32} {w : Wc} (hfl : l.stackTraces = false) (C : pb_CF p m c code 8 s #[Value.ref b] "PackedBitsLaw") (hX : va_X b L xs s s.heap) (hbl : b < s.heap.size) (hNw : w_N w = s.heap.size) (hL : L ≤ 3584) (hi : 7 * i + 7 ≤ L) (K : pb_LK p l e s m b below meth c w i)
    {T : Mt} {ov : Int64} {H : Heap} {locs : List Loc} {ls : Array Slot} (hok : pb_ok T.2.1) (hw : pb_Wd w T.2.1 T ov s H) (hS : va_S (w_A w) s.heap H locs) (hl : lv_has ls 8 [(4, .int (nI (7 * i))), (3, .ref (w_o w)), (2, .ref (w_m w)), (1, .ref (w_x w)), (0, .ref b)]) : pb_LW p l e s m b below meth c H locs (5 + 20 * i) (80000 + 200 * i) 927 ls [] := by
  have hx := C.1
  have hb := C.2.1
  have hown := C.2.2.2.1
  have hts := C.2.2.2.2
  have hbA : ¬ w_A w b := fun z => Nat.lt_irrefl _ (Nat.lt_of_lt_of_le hbl (by rw [← hNw]; exact z))
  refine lv_aload_n hx hb d_L_law_927 rfl (lv_at hl 3 rfl) ?_
  refine lv_aload_n hx hb d_L_law_928 rfl (lv_at hl 4 rfl) ?_
  refine lv_iload hx hb d_L_law_929 (lv_at hl 0 rfl) ?_
  refine lv_iconst (v := 1) hx hb d_L_law_931 (by decide) ?_
  refine lv_iadd hx hb d_L_law_932 ?_
  refine lv_eqi (y := nI (7 * i + 1)) (nI_add _ 1) ?_
  refine va_sld hx hb hX hbl hbA hS (i := nI (7 * i + 1)) (vp_in_nI (by omega) (by omega)) d_L_law_933 ?_
  refine lv_eqi (y := xs (7 * i + 1)) (congrArg xs (nI_clamp (by omega))) ?_
  refine lv_aload_n hx hb d_L_law_934 rfl (lv_at hl 1 rfl) ?_
  have hc := o_turn_c (xs (7 * i + 1)) T.2.1
  refine pb_retI (pb_S (rest := []) C f_L_109 ⟨by decide, by decide, by show 5 + 20 * i + 1 ≤ 601024; omega, by show 80000 + 200 * i + 6 ≤ 7293034; omega⟩ (c_L_turn l hfl w T.2.1 T ov (xs (7 * i + 1)) hok) hw hl.1 rfl rfl (Nat.le_of_ble_eq_true rfl) d_L_law_935) hS (rfl) (fun H locs hw hS => ?_)
  refine lv_istore (lv' := [(5, .int (nI (o_turn (xs (7 * i + 1)) T.2.1).1)), (4, .int (nI (7 * i))), (3, .ref (w_o w)), (2, .ref (w_m w)), (1, .ref (w_x w)), (0, .ref b)]) hx hb d_L_law_938 hl (by decide) rfl (fun ls hl => ?_)
  refine lv_aload_n hx hb d_L_law_940 rfl (lv_at hl 3 rfl) ?_
  refine lv_aload_n hx hb d_L_law_941 rfl (lv_at hl 5 rfl) ?_
  refine lv_iload hx hb d_L_law_942 (lv_at hl 1 rfl) ?_
  refine lv_iconst (v := 1) hx hb d_L_law_944 (by decide) ?_
  refine lv_iadd hx hb d_L_law_945 ?_
  refine lv_eqi (y := nI (7 * i + 1)) (nI_add _ 1) ?_
  refine va_sld hx hb hX hbl hbA hS (i := nI (7 * i + 1)) (vp_in_nI (by omega) (by omega)) d_L_law_946 ?_
  refine lv_eqi (y := xs (7 * i + 1)) (congrArg xs (nI_clamp (by omega))) ?_
  have ht1 : ((nI (o_turn (xs (7 * i + 1)) T.2.1).1, (o_turn (xs (7 * i + 1)) T.2.1).2.2, T.2.2) : Mt).1 = nI (o_turn (xs (7 * i + 1)) T.2.1).1 := rfl
  have ht2 : ((nI (o_turn (xs (7 * i + 1)) T.2.1).1, (o_turn (xs (7 * i + 1)) T.2.1).2.2, T.2.2) : Mt).2.1 = (o_turn (xs (7 * i + 1)) T.2.1).2.2 := rfl
  refine pb_retI (pb_V (rest := []) C f_L_111 ⟨by decide, by decide, by show 5 + 20 * i + 1 + 0 ≤ 601024; omega, by show 80000 + 200 * i + 6 + 0 ≤ 7293034; omega⟩ (c_M_turn l w (o_turn (xs (7 * i + 1)) T.2.1).2.2 T (if (o_turn (xs (7 * i + 1)) T.2.1).1 = 0 then (if (o_turn (xs (7 * i + 1)) T.2.1).2.1 then 1 else 0) else ov) (xs (7 * i + 1)) hok) hw (pb_Wd_m hw) hl.1 rfl rfl (Nat.le_of_ble_eq_true rfl) d_L_law_947) hS (rfl) (fun H locs hw hS => ?_)
  refine lv_istore (lv' := [(6, .int (bI (o_turn (xs (7 * i + 1)) T.2.1).2.1)), (5, .int (nI (o_turn (xs (7 * i + 1)) T.2.1).1)), (4, .int (nI (7 * i))), (3, .ref (w_o w)), (2, .ref (w_m w)), (1, .ref (w_x w)), (0, .ref b)]) hx hb d_L_law_950 hl (by decide) rfl (fun ls hl => ?_)
  refine lv_aload_n hx hb d_L_law_952 rfl (lv_at hl 4 rfl) ?_
  refine pb_retI (pb_V (rest := []) C f_L_74 ⟨by decide, by decide, by show 5 + 20 * i + 1 + 0 + 0 ≤ 601024; omega, by show 80000 + 200 * i + 6 + 0 + 0 ≤ 7293034; omega⟩ (c_M_thrown l w (o_turn (xs (7 * i + 1)) T.2.1).2.2 ((nI (o_turn (xs (7 * i + 1)) T.2.1).1, (o_turn (xs (7 * i + 1)) T.2.1).2.2, T.2.2) : Mt) (if (o_turn (xs (7 * i + 1)) T.2.1).1 = 0 then (if (o_turn (xs (7 * i + 1)) T.2.1).2.1 then 1 else 0) else ov)) hw (pb_Wd_m hw) hl.1 rfl rfl (Nat.le_of_ble_eq_true rfl) d_L_law_953) hS (rfl) (fun H locs hw hS => ?_)
  refine lv_iload hx hb d_L_law_956 (lv_at hl 1 rfl) ?_
  refine lv_icmp_eq (tgt := 963) hx hb d_L_law_958 (by decide) (fun h1 => ?_) (fun h1 => ?_)
  · refine lv_iload hx hb d_L_law_963 (lv_at hl 1 rfl) ?_
    refine lv_if_ne (tgt := 987) hx hb d_L_law_965 (by decide) (fun h2 => ?_) (fun h2 => ?_)
    · refine lv_goto (tgt := 1102) hx hb d_L_law_987 (by decide) ?_
      exact W.widen (by show 5 + 20 * i + 1 + 0 + 0 ≤ 5 + 20 * (i + 1); omega) (by show 80000 + 200 * i + 6 + 0 + 0 ≤ 80000 + 200 * (i + 1); omega) (K ((nI (o_turn (xs (7 * i + 1)) T.2.1).1, (o_turn (xs (7 * i + 1)) T.2.1).2.2, T.2.2) : Mt) (if (o_turn (xs (7 * i + 1)) T.2.1).1 = 0 then (if (o_turn (xs (7 * i + 1)) T.2.1).2.1 then 1 else 0) else ov) H locs ls (by rw [ht2]; exact o_turn_ok hok) (by rw [ht2]; exact hw) hS (lv_sub hl [2, 3, 4, 5, 6] rfl))
    · have hz : (o_turn (xs (7 * i + 1)) T.2.1).1 = 0 := (nI_eq (b := 0) (by omega) (by decide)).mp h2
      refine lv_aload_n hx hb d_L_law_968 rfl (lv_at hl 3 rfl) ?_
      refine lv_iconst (v := 0) hx hb d_L_law_969 (by decide) ?_
      refine o_ld ⟨hx, hb⟩ hw d_L_law_970 ?_
      refine lv_iload hx hb d_L_law_971 (lv_at hl 0 rfl) ?_
      refine lv_if_eq (tgt := 980) hx hb d_L_law_973 (by decide) (fun h3 => ?_) (fun h3 => ?_)
      · have hb3 : (o_turn (xs (7 * i + 1)) T.2.1).2.1 = false := by
          cases hc3 : (o_turn (xs (7 * i + 1)) T.2.1).2.1
          · rfl
          · rw [hc3] at h3; exact absurd h3 (by decide)
        refine lv_lconst (v := 0) hx hb d_L_law_980 (by decide) ?_
        refine lc_eq (tgt := 987) ⟨hx, hb⟩ d_L_law_981 d_L_law_982 (by decide) (fun h4 => ?_) (fun h4 => ?_)
        · refine lv_goto (tgt := 1102) hx hb d_L_law_987 (by decide) ?_
          exact W.widen (by show 5 + 20 * i + 1 + 0 + 0 ≤ 5 + 20 * (i + 1); omega) (by show 80000 + 200 * i + 6 + 0 + 0 ≤ 80000 + 200 * (i + 1); omega) (K ((nI (o_turn (xs (7 * i + 1)) T.2.1).1, (o_turn (xs (7 * i + 1)) T.2.1).2.2, T.2.2) : Mt) (if (o_turn (xs (7 * i + 1)) T.2.1).1 = 0 then (if (o_turn (xs (7 * i + 1)) T.2.1).2.1 then 1 else 0) else ov) H locs ls (by rw [ht2]; exact o_turn_ok hok) (by rw [ht2]; exact hw) hS (lv_sub hl [2, 3, 4, 5, 6] rfl))
        · exact absurd (by rw [if_pos hz, hb3]; rfl) h4
      · have hb3 : (o_turn (xs (7 * i + 1)) T.2.1).2.1 = true := by
          cases hc3 : (o_turn (xs (7 * i + 1)) T.2.1).2.1
          · rw [hc3] at h3; exact absurd rfl h3
          · rfl
        refine lv_lconst (v := 1) hx hb d_L_law_976 (by decide) ?_
        refine lv_goto (tgt := 981) hx hb d_L_law_977 (by decide) ?_
        refine lc_eq (tgt := 987) ⟨hx, hb⟩ d_L_law_981 d_L_law_982 (by decide) (fun h4 => ?_) (fun h4 => ?_)
        · refine lv_goto (tgt := 1102) hx hb d_L_law_987 (by decide) ?_
          exact W.widen (by show 5 + 20 * i + 1 + 0 + 0 ≤ 5 + 20 * (i + 1); omega) (by show 80000 + 200 * i + 6 + 0 + 0 ≤ 80000 + 200 * (i + 1); omega) (K ((nI (o_turn (xs (7 * i + 1)) T.2.1).1, (o_turn (xs (7 * i + 1)) T.2.1).2.2, T.2.2) : Mt) (if (o_turn (xs (7 * i + 1)) T.2.1).1 = 0 then (if (o_turn (xs (7 * i + 1)) T.2.1).2.1 then 1 else 0) else ov) H locs ls (by rw [ht2]; exact o_turn_ok hok) (by rw [ht2]; exact hw) hS (lv_sub hl [2, 3, 4, 5, 6] rfl))
        · exact absurd (by rw [if_pos hz, hb3]; rfl) h4
  · exact absurd ht1 h1
set_option maxHeartbeats 4000000 in
set_option maxRecDepth 100000 in
theorem pb_case_cut {p : Program} {l : Launch} {e : Env} {s : State} {m : MethodId} {below : List Frame} {meth : Method} {c : Code} {b L i : Nat} {xs : Nat → Int32} {w : Wc} (hfl : l.stackTraces = false) (C : pb_CF p m c code 8 s #[Value.ref b] "PackedBitsLaw") (hX : va_X b L xs s s.heap) (hbl : b < s.heap.size) (hNw : w_N w = s.heap.size) (hL : L ≤ 3584) (hi : 7 * i + 7 ≤ L) (K : pb_LK p l e s m b below meth c w i)
    {T : Mt} {ov : Int64} {H : Heap} {locs : List Loc} {ls : Array Slot} (hok : pb_ok T.2.1) (hw : pb_Wd w T.2.1 T ov s H) (hS : va_S (w_A w) s.heap H locs) (hl : lv_has ls 8 [(4, .int (nI (7 * i))), (3, .ref (w_o w)), (2, .ref (w_m w)), (1, .ref (w_x w)), (0, .ref b)]) : pb_LW p l e s m b below meth c H locs (5 + 20 * i) (80000 + 200 * i) 990 ls [] := by
  have hx := C.1
  have hb := C.2.1
  have hown := C.2.2.2.1
  have hts := C.2.2.2.2
  have hbA : ¬ w_A w b := fun z => Nat.lt_irrefl _ (Nat.lt_of_lt_of_le hbl (by rw [← hNw]; exact z))
  refine lv_aload_n hx hb d_L_law_990 rfl (lv_at hl 3 rfl) ?_
  refine lv_aload_n hx hb d_L_law_991 rfl (lv_at hl 4 rfl) ?_
  refine lv_iload hx hb d_L_law_992 (lv_at hl 0 rfl) ?_
  refine lv_iconst (v := 1) hx hb d_L_law_994 (by decide) ?_
  refine lv_iadd hx hb d_L_law_995 ?_
  refine lv_eqi (y := nI (7 * i + 1)) (nI_add _ 1) ?_
  refine va_sld hx hb hX hbl hbA hS (i := nI (7 * i + 1)) (vp_in_nI (by omega) (by omega)) d_L_law_996 ?_
  refine lv_eqi (y := xs (7 * i + 1)) (congrArg xs (nI_clamp (by omega))) ?_
  refine lv_aload_n hx hb d_L_law_997 rfl (lv_at hl 1 rfl) ?_
  have hc := o_cut_c (xs (7 * i + 1)) T.2.1
  refine pb_retI (pb_S (rest := []) C f_L_112 ⟨by decide, by decide, by show 5 + 20 * i + 1 ≤ 601024; omega, by show 80000 + 200 * i + 6 ≤ 7293034; omega⟩ (c_L_cut l hfl w T.2.1 T ov (xs (7 * i + 1)) hok) hw hl.1 rfl rfl (Nat.le_of_ble_eq_true rfl) d_L_law_998) hS (rfl) (fun H locs hw hS => ?_)
  refine lv_istore (lv' := [(5, .int (nI (o_cut (xs (7 * i + 1)) T.2.1).1)), (4, .int (nI (7 * i))), (3, .ref (w_o w)), (2, .ref (w_m w)), (1, .ref (w_x w)), (0, .ref b)]) hx hb d_L_law_1001 hl (by decide) rfl (fun ls hl => ?_)
  refine lv_aload_n hx hb d_L_law_1003 rfl (lv_at hl 3 rfl) ?_
  refine lv_aload_n hx hb d_L_law_1004 rfl (lv_at hl 5 rfl) ?_
  refine lv_iload hx hb d_L_law_1005 (lv_at hl 1 rfl) ?_
  refine lv_iconst (v := 1) hx hb d_L_law_1007 (by decide) ?_
  refine lv_iadd hx hb d_L_law_1008 ?_
  refine lv_eqi (y := nI (7 * i + 1)) (nI_add _ 1) ?_
  refine va_sld hx hb hX hbl hbA hS (i := nI (7 * i + 1)) (vp_in_nI (by omega) (by omega)) d_L_law_1009 ?_
  refine lv_eqi (y := xs (7 * i + 1)) (congrArg xs (nI_clamp (by omega))) ?_
  have ht1 : ((nI (o_cut (xs (7 * i + 1)) T.2.1).1, (o_cut (xs (7 * i + 1)) T.2.1).2.2, T.2.2) : Mt).1 = nI (o_cut (xs (7 * i + 1)) T.2.1).1 := rfl
  have ht2 : ((nI (o_cut (xs (7 * i + 1)) T.2.1).1, (o_cut (xs (7 * i + 1)) T.2.1).2.2, T.2.2) : Mt).2.1 = (o_cut (xs (7 * i + 1)) T.2.1).2.2 := rfl
  refine pb_retI (pb_V (rest := []) C f_L_114 ⟨by decide, by decide, by show 5 + 20 * i + 1 + 0 ≤ 601024; omega, by show 80000 + 200 * i + 6 + 0 ≤ 7293034; omega⟩ (c_M_cut l w (o_cut (xs (7 * i + 1)) T.2.1).2.2 T (if (o_cut (xs (7 * i + 1)) T.2.1).1 = 0 then (o_cut (xs (7 * i + 1)) T.2.1).2.1.toInt64 else ov) (xs (7 * i + 1)) hok) hw (pb_Wd_m hw) hl.1 rfl rfl (Nat.le_of_ble_eq_true rfl) d_L_law_1010) hS (rfl) (fun H locs hw hS => ?_)
  refine lv_istore (lv' := [(6, .int ((o_cut (xs (7 * i + 1)) T.2.1).2.1)), (5, .int (nI (o_cut (xs (7 * i + 1)) T.2.1).1)), (4, .int (nI (7 * i))), (3, .ref (w_o w)), (2, .ref (w_m w)), (1, .ref (w_x w)), (0, .ref b)]) hx hb d_L_law_1013 hl (by decide) rfl (fun ls hl => ?_)
  refine lv_aload_n hx hb d_L_law_1015 rfl (lv_at hl 4 rfl) ?_
  refine pb_retI (pb_V (rest := []) C f_L_74 ⟨by decide, by decide, by show 5 + 20 * i + 1 + 0 + 0 ≤ 601024; omega, by show 80000 + 200 * i + 6 + 0 + 0 ≤ 7293034; omega⟩ (c_M_thrown l w (o_cut (xs (7 * i + 1)) T.2.1).2.2 ((nI (o_cut (xs (7 * i + 1)) T.2.1).1, (o_cut (xs (7 * i + 1)) T.2.1).2.2, T.2.2) : Mt) (if (o_cut (xs (7 * i + 1)) T.2.1).1 = 0 then (o_cut (xs (7 * i + 1)) T.2.1).2.1.toInt64 else ov)) hw (pb_Wd_m hw) hl.1 rfl rfl (Nat.le_of_ble_eq_true rfl) d_L_law_1016) hS (rfl) (fun H locs hw hS => ?_)
  refine lv_iload hx hb d_L_law_1019 (lv_at hl 1 rfl) ?_
  refine lv_icmp_eq (tgt := 1026) hx hb d_L_law_1021 (by decide) (fun h1 => ?_) (fun h1 => ?_)
  · refine lv_iload hx hb d_L_law_1026 (lv_at hl 1 rfl) ?_
    refine lv_if_ne (tgt := 1043) hx hb d_L_law_1028 (by decide) (fun h2 => ?_) (fun h2 => ?_)
    · refine lv_goto (tgt := 1102) hx hb d_L_law_1043 (by decide) ?_
      exact W.widen (by show 5 + 20 * i + 1 + 0 + 0 ≤ 5 + 20 * (i + 1); omega) (by show 80000 + 200 * i + 6 + 0 + 0 ≤ 80000 + 200 * (i + 1); omega) (K ((nI (o_cut (xs (7 * i + 1)) T.2.1).1, (o_cut (xs (7 * i + 1)) T.2.1).2.2, T.2.2) : Mt) (if (o_cut (xs (7 * i + 1)) T.2.1).1 = 0 then (o_cut (xs (7 * i + 1)) T.2.1).2.1.toInt64 else ov) H locs ls (by rw [ht2]; exact o_cut_ok hok) (by rw [ht2]; exact hw) hS (lv_sub hl [2, 3, 4, 5, 6] rfl))
    · have hz : (o_cut (xs (7 * i + 1)) T.2.1).1 = 0 := (nI_eq (b := 0) (by omega) (by decide)).mp h2
      refine lv_aload_n hx hb d_L_law_1031 rfl (lv_at hl 3 rfl) ?_
      refine lv_iconst (v := 0) hx hb d_L_law_1032 (by decide) ?_
      refine o_ld ⟨hx, hb⟩ hw d_L_law_1033 ?_
      refine lv_iload hx hb d_L_law_1034 (lv_at hl 0 rfl) ?_
      refine lv_i2l hx hb d_L_law_1036 rfl ?_
      refine lc_eq (tgt := 1043) ⟨hx, hb⟩ d_L_law_1037 d_L_law_1038 (by decide) (fun h4 => ?_) (fun h4 => ?_)
      · refine lv_goto (tgt := 1102) hx hb d_L_law_1043 (by decide) ?_
        exact W.widen (by show 5 + 20 * i + 1 + 0 + 0 ≤ 5 + 20 * (i + 1); omega) (by show 80000 + 200 * i + 6 + 0 + 0 ≤ 80000 + 200 * (i + 1); omega) (K ((nI (o_cut (xs (7 * i + 1)) T.2.1).1, (o_cut (xs (7 * i + 1)) T.2.1).2.2, T.2.2) : Mt) (if (o_cut (xs (7 * i + 1)) T.2.1).1 = 0 then (o_cut (xs (7 * i + 1)) T.2.1).2.1.toInt64 else ov) H locs ls (by rw [ht2]; exact o_cut_ok hok) (by rw [ht2]; exact hw) hS (lv_sub hl [2, 3, 4, 5, 6] rfl))
      · exact absurd (by rw [if_pos hz]) h4
  · exact absurd ht1 h1
set_option maxHeartbeats 4000000 in
set_option maxRecDepth 100000 in
theorem pb_case_count {p : Program} {l : Launch} {e : Env} {s : State} {m : MethodId} {below : List Frame} {meth : Method} {c : Code} {b L i : Nat} {xs : Nat → Int32} {w : Wc} (hfl : l.stackTraces = false) (C : pb_CF p m c code 8 s #[Value.ref b] "PackedBitsLaw") (hX : va_X b L xs s s.heap) (hbl : b < s.heap.size) (hNw : w_N w = s.heap.size) (hL : L ≤ 3584) (hi : 7 * i + 7 ≤ L) (K : pb_LK p l e s m b below meth c w i)
    {T : Mt} {ov : Int64} {H : Heap} {locs : List Loc} {ls : Array Slot} (hok : pb_ok T.2.1) (hw : pb_Wd w T.2.1 T ov s H) (hS : va_S (w_A w) s.heap H locs) (hl : lv_has ls 8 [(4, .int (nI (7 * i))), (3, .ref (w_o w)), (2, .ref (w_m w)), (1, .ref (w_x w)), (0, .ref b)]) : pb_LW p l e s m b below meth c H locs (5 + 20 * i) (80000 + 200 * i) 1046 ls [] := by
  have hx := C.1
  have hb := C.2.1
  have hown := C.2.2.2.1
  have hts := C.2.2.2.2
  have hbA : ¬ w_A w b := fun z => Nat.lt_irrefl _ (Nat.lt_of_lt_of_le hbl (by rw [← hNw]; exact z))
  refine lv_aload_n hx hb d_L_law_1046 rfl (lv_at hl 3 rfl) ?_
  refine lv_aload_n hx hb d_L_law_1047 rfl (lv_at hl 4 rfl) ?_
  refine lv_iload hx hb d_L_law_1048 (lv_at hl 0 rfl) ?_
  refine lv_iconst (v := 1) hx hb d_L_law_1050 (by decide) ?_
  refine lv_iadd hx hb d_L_law_1051 ?_
  refine lv_eqi (y := nI (7 * i + 1)) (nI_add _ 1) ?_
  refine va_sld hx hb hX hbl hbA hS (i := nI (7 * i + 1)) (vp_in_nI (by omega) (by omega)) d_L_law_1052 ?_
  refine lv_eqi (y := xs (7 * i + 1)) (congrArg xs (nI_clamp (by omega))) ?_
  refine lv_aload_n hx hb d_L_law_1053 rfl (lv_at hl 1 rfl) ?_
  have hc := o_count_c (xs (7 * i + 1)) T.2.1
  refine pb_retI (pb_S (rest := []) C f_L_115 ⟨by decide, by decide, by show 5 + 20 * i + 1 ≤ 601024; omega, by show 80000 + 200 * i + 6 ≤ 7293034; omega⟩ (c_L_count l hfl w T.2.1 T ov (xs (7 * i + 1)) hok) hw hl.1 rfl rfl (Nat.le_of_ble_eq_true rfl) d_L_law_1054) hS (rfl) (fun H locs hw hS => ?_)
  refine lv_istore (lv' := [(5, .int (nI (o_count (xs (7 * i + 1)) T.2.1).1)), (4, .int (nI (7 * i))), (3, .ref (w_o w)), (2, .ref (w_m w)), (1, .ref (w_x w)), (0, .ref b)]) hx hb d_L_law_1057 hl (by decide) rfl (fun ls hl => ?_)
  refine lv_aload_n hx hb d_L_law_1059 rfl (lv_at hl 3 rfl) ?_
  refine lv_aload_n hx hb d_L_law_1060 rfl (lv_at hl 5 rfl) ?_
  refine lv_iload hx hb d_L_law_1061 (lv_at hl 1 rfl) ?_
  refine lv_iconst (v := 1) hx hb d_L_law_1063 (by decide) ?_
  refine lv_iadd hx hb d_L_law_1064 ?_
  refine lv_eqi (y := nI (7 * i + 1)) (nI_add _ 1) ?_
  refine va_sld hx hb hX hbl hbA hS (i := nI (7 * i + 1)) (vp_in_nI (by omega) (by omega)) d_L_law_1065 ?_
  refine lv_eqi (y := xs (7 * i + 1)) (congrArg xs (nI_clamp (by omega))) ?_
  have ht1 : ((nI (o_count (xs (7 * i + 1)) T.2.1).1, (o_count (xs (7 * i + 1)) T.2.1).2.2, T.2.2) : Mt).1 = nI (o_count (xs (7 * i + 1)) T.2.1).1 := rfl
  have ht2 : ((nI (o_count (xs (7 * i + 1)) T.2.1).1, (o_count (xs (7 * i + 1)) T.2.1).2.2, T.2.2) : Mt).2.1 = (o_count (xs (7 * i + 1)) T.2.1).2.2 := rfl
  refine pb_retI (pb_V (rest := []) C f_L_117 ⟨by decide, by decide, by show 5 + 20 * i + 1 + 0 ≤ 601024; omega, by show 80000 + 200 * i + 6 + 0 ≤ 7293034; omega⟩ (c_M_count l w (o_count (xs (7 * i + 1)) T.2.1).2.2 T (if (o_count (xs (7 * i + 1)) T.2.1).1 = 0 then (o_count (xs (7 * i + 1)) T.2.1).2.1.toInt64 else ov) (xs (7 * i + 1))) hw (pb_Wd_m hw) hl.1 rfl rfl (Nat.le_of_ble_eq_true rfl) d_L_law_1066) hS (rfl) (fun H locs hw hS => ?_)
  refine lv_istore (lv' := [(6, .int ((o_count (xs (7 * i + 1)) T.2.1).2.1)), (5, .int (nI (o_count (xs (7 * i + 1)) T.2.1).1)), (4, .int (nI (7 * i))), (3, .ref (w_o w)), (2, .ref (w_m w)), (1, .ref (w_x w)), (0, .ref b)]) hx hb d_L_law_1069 hl (by decide) rfl (fun ls hl => ?_)
  refine lv_aload_n hx hb d_L_law_1071 rfl (lv_at hl 4 rfl) ?_
  refine pb_retI (pb_V (rest := []) C f_L_74 ⟨by decide, by decide, by show 5 + 20 * i + 1 + 0 + 0 ≤ 601024; omega, by show 80000 + 200 * i + 6 + 0 + 0 ≤ 7293034; omega⟩ (c_M_thrown l w (o_count (xs (7 * i + 1)) T.2.1).2.2 ((nI (o_count (xs (7 * i + 1)) T.2.1).1, (o_count (xs (7 * i + 1)) T.2.1).2.2, T.2.2) : Mt) (if (o_count (xs (7 * i + 1)) T.2.1).1 = 0 then (o_count (xs (7 * i + 1)) T.2.1).2.1.toInt64 else ov)) hw (pb_Wd_m hw) hl.1 rfl rfl (Nat.le_of_ble_eq_true rfl) d_L_law_1072) hS (rfl) (fun H locs hw hS => ?_)
  refine lv_iload hx hb d_L_law_1075 (lv_at hl 1 rfl) ?_
  refine lv_icmp_eq (tgt := 1082) hx hb d_L_law_1077 (by decide) (fun h1 => ?_) (fun h1 => ?_)
  · refine lv_iload hx hb d_L_law_1082 (lv_at hl 1 rfl) ?_
    refine lv_if_ne (tgt := 1099) hx hb d_L_law_1084 (by decide) (fun h2 => ?_) (fun h2 => ?_)
    · refine lv_goto (tgt := 1102) hx hb d_L_law_1099 (by decide) ?_
      exact W.widen (by show 5 + 20 * i + 1 + 0 + 0 ≤ 5 + 20 * (i + 1); omega) (by show 80000 + 200 * i + 6 + 0 + 0 ≤ 80000 + 200 * (i + 1); omega) (K ((nI (o_count (xs (7 * i + 1)) T.2.1).1, (o_count (xs (7 * i + 1)) T.2.1).2.2, T.2.2) : Mt) (if (o_count (xs (7 * i + 1)) T.2.1).1 = 0 then (o_count (xs (7 * i + 1)) T.2.1).2.1.toInt64 else ov) H locs ls (by rw [ht2]; exact o_count_ok hok) (by rw [ht2]; exact hw) hS (lv_sub hl [2, 3, 4, 5, 6] rfl))
    · have hz : (o_count (xs (7 * i + 1)) T.2.1).1 = 0 := (nI_eq (b := 0) (by omega) (by decide)).mp h2
      refine lv_aload_n hx hb d_L_law_1087 rfl (lv_at hl 3 rfl) ?_
      refine lv_iconst (v := 0) hx hb d_L_law_1088 (by decide) ?_
      refine o_ld ⟨hx, hb⟩ hw d_L_law_1089 ?_
      refine lv_iload hx hb d_L_law_1090 (lv_at hl 0 rfl) ?_
      refine lv_i2l hx hb d_L_law_1092 rfl ?_
      refine lc_eq (tgt := 1099) ⟨hx, hb⟩ d_L_law_1093 d_L_law_1094 (by decide) (fun h4 => ?_) (fun h4 => ?_)
      · refine lv_goto (tgt := 1102) hx hb d_L_law_1099 (by decide) ?_
        exact W.widen (by show 5 + 20 * i + 1 + 0 + 0 ≤ 5 + 20 * (i + 1); omega) (by show 80000 + 200 * i + 6 + 0 + 0 ≤ 80000 + 200 * (i + 1); omega) (K ((nI (o_count (xs (7 * i + 1)) T.2.1).1, (o_count (xs (7 * i + 1)) T.2.1).2.2, T.2.2) : Mt) (if (o_count (xs (7 * i + 1)) T.2.1).1 = 0 then (o_count (xs (7 * i + 1)) T.2.1).2.1.toInt64 else ov) H locs ls (by rw [ht2]; exact o_count_ok hok) (by rw [ht2]; exact hw) hS (lv_sub hl [2, 3, 4, 5, 6] rfl))
      · exact absurd (by rw [if_pos hz]) h4
  · exact absurd ht1 h1
end
section
/-! part 25: the law's loop -/
theorem i_gt7 {L k : Nat} (hL : L ≤ 3584) (hk : k ≤ 3584) : nI L - 7 < nI k ↔ L < k + 7 := by
  rw [Int32.lt_iff_toInt_lt, show nI L - 7 = nI L - nI 7 from rfl, pk_sub_toInt (by omega) (by decide), nI_toInt (by omega)]
  omega
set_option maxHeartbeats 4000000 in
set_option maxRecDepth 100000 in
theorem pb_law_loop {p : Program} {l : Launch} {e : Env} {s : State} {m : MethodId} {below : List Frame} {meth : Method} {c : Code} {b L : Nat} {xs : Nat → Int32} {w : Wc} (hfl : l.stackTraces = false) (C : pb_CF p m c code 8 s #[Value.ref b] "PackedBitsLaw") (hr : meth.sig.returnType = ret) (hlocks : meth.locks = false) (hX : va_X b L xs s s.heap) (hbl : b < s.heap.size) (hNw : w_N w = s.heap.size) (hL : L ≤ 3584) :
    ∀ i, i ≤ L / 7 → (∀ (T : Mt) (ov : Int64) (H : Heap) (locs : List Loc) (ls : Array Slot), pb_ok T.2.1 → pb_Wd w T.2.1 T ov s H → va_S (w_A w) s.heap H locs → lv_has ls 8 [(4, .int (nI (7 * i))), (3, .ref (w_o w)), (2, .ref (w_m w)), (1, .ref (w_x w)), (0, .ref b)] → pb_LW p l e s m b below meth c H locs (5 + 20 * i) (80000 + 200 * i) 23 ls []) := by
  refine up_loop (L / 7) (fun i hi ih => ?_)
  intro T ov H locs ls hok hw hS hl
  have hx := C.1
  have hb := C.2.1
  have hbA : ¬ w_A w b := fun z => Nat.lt_irrefl _ (Nat.lt_of_lt_of_le hbl (by rw [← hNw]; exact z))
  refine lv_iload hx hb d_L_law_23 (lv_at hl 0 rfl) ?_
  refine lv_aload_n hx hb d_L_law_25 rfl (lv_at hl 4 rfl) ?_
  refine va_slen hx hb hX hbl hbA hS d_L_law_26 ?_
  refine lv_bipush (v := 7) hx hb d_L_law_27 (by decide) ?_
  refine lv_isub hx hb d_L_law_29 ?_
  refine lv_icmp_gt (tgt := 1108) hx hb d_L_law_30 (by decide) (fun h1 => ?_) (fun h1 => ?_)
  · refine lv_iconst (v := 1) hx hb d_L_law_1108 (by decide) ?_
    refine va_forget (fun q hq => by rw [← hNw]; exact hS.2.2 q hq) ?_
    refine W.widen (k := 601024) (n := 7293034) (by omega) (by omega) ?_
    exact lw_ret hx hb hr hlocks d_L_law_1109
  have h7 : 7 * i + 7 ≤ L := Nat.le_of_not_lt (fun z => h1 ((i_gt7 hL (by omega)).mpr z))
  have K : pb_LK p l e s m b below meth c w i := by
    intro T ov H locs ls hok hw hS hl
    refine lv_iinc (k := 0) (v := nI (7 * (i + 1))) (lv' := [(4, .int (nI (7 * (i + 1)))), (3, .ref (w_o w)), (2, .ref (w_m w)), (1, .ref (w_x w)), (0, .ref b)]) hx hb d_L_law_1102 hl rfl (by rw [show Int32.ofInt 7 = nI 7 from rfl, nI_add, show 7 * i + 7 = 7 * (i + 1) by omega]) (by decide) rfl (fun ls hl => ?_)
    refine lv_goto (tgt := 23) hx hb d_L_law_1105 (by decide) ?_
    exact ih (by omega) T ov H locs ls hok hw hS hl
  refine lv_aload_n hx hb d_L_law_33 rfl (lv_at hl 4 rfl) ?_
  refine lv_iload hx hb d_L_law_34 (lv_at hl 0 rfl) ?_
  refine va_sld hx hb hX hbl hbA hS (i := nI (7 * i)) (vp_in_nI (by omega) (by omega)) d_L_law_36 ?_
  refine lv_bipush (v := 15) hx hb d_L_law_37 (by decide) ?_
  refine lv_iand hx hb d_L_law_39 ?_
  obtain ⟨j, hj, hjx⟩ := pk_andE (xs (nI (7 * i)).toNatClampNeg) (m := 15) 4 (by decide)
  refine lv_eqi (y := nI j) hjx ?_
  have hj : j < 16 := hj
  have hcs : j = 0 ∨ j = 1 ∨ j = 2 ∨ j = 3 ∨ j = 4 ∨ j = 5 ∨ j = 6 ∨ j = 7 ∨ j = 8 ∨ j = 9 ∨ j = 10 ∨ j = 11 ∨ j = 12 ∨ 13 ≤ j := by omega
  rcases hcs with rfl | rfl | rfl | rfl | rfl | rfl | rfl | rfl | rfl | rfl | rfl | rfl | rfl | h13
  · refine lv_tableIn (off := 68) (tgt := 108) hx hb d_L_law_40 (by decide) (by decide) (by decide) (by decide) ?_
    exact pb_case_put hfl C hX hbl hNw hL h7 K hok hw hS hl
  · refine lv_tableIn (off := 168) (tgt := 208) hx hb d_L_law_40 (by decide) (by decide) (by decide) (by decide) ?_
    exact pb_case_putRange hfl C hX hbl hNw hL h7 K hok hw hS hl
  · refine lv_tableIn (off := 346) (tgt := 386) hx hb d_L_law_40 (by decide) (by decide) (by decide) (by decide) ?_
    exact pb_case_putLength hfl C hX hbl hNw hL h7 K hok hw hS hl
  · refine lv_tableIn (off := 402) (tgt := 442) hx hb d_L_law_40 (by decide) (by decide) (by decide) (by decide) ?_
    exact pb_case_putNumber hfl C hX hbl hNw hL h7 K hok hw hS hl
  · refine lv_tableIn (off := 502) (tgt := 542) hx hb d_L_law_40 (by decide) (by decide) (by decide) (by decide) ?_
    exact pb_case_fill hfl C hX hbl hNw hL h7 K hok hw hS hl
  · refine lv_tableIn (off := 546) (tgt := 586) hx hb d_L_law_40 (by decide) (by decide) (by decide) (by decide) ?_
    exact pb_case_take hfl C hX hbl hNw hL h7 K hok hw hS hl
  · refine lv_tableIn (off := 601) (tgt := 641) hx hb d_L_law_40 (by decide) (by decide) (by decide) (by decide) ?_
    exact pb_case_takeRange hfl C hX hbl hNw hL h7 K hok hw hS hl
  · refine lv_tableIn (off := 732) (tgt := 772) hx hb d_L_law_40 (by decide) (by decide) (by decide) (by decide) ?_
    exact pb_case_takeLength hfl C hX hbl hNw hL h7 K hok hw hS hl
  · refine lv_tableIn (off := 776) (tgt := 816) hx hb d_L_law_40 (by decide) (by decide) (by decide) (by decide) ?_
    exact pb_case_takeNumber hfl C hX hbl hNw hL h7 K hok hw hS hl
  · refine lv_tableIn (off := 831) (tgt := 871) hx hb d_L_law_40 (by decide) (by decide) (by decide) (by decide) ?_
    exact pb_case_go hfl C hX hbl hNw hL h7 K hok hw hS hl
  · refine lv_tableIn (off := 887) (tgt := 927) hx hb d_L_law_40 (by decide) (by decide) (by decide) (by decide) ?_
    exact pb_case_turn hfl C hX hbl hNw hL h7 K hok hw hS hl
  · refine lv_tableIn (off := 950) (tgt := 990) hx hb d_L_law_40 (by decide) (by decide) (by decide) (by decide) ?_
    exact pb_case_cut hfl C hX hbl hNw hL h7 K hok hw hS hl
  · refine lv_tableIn (off := 1006) (tgt := 1046) hx hb d_L_law_40 (by decide) (by decide) (by decide) (by decide) ?_
    exact pb_case_count hfl C hX hbl hNw hL h7 K hok hw hS hl
  · refine lv_tableOut (tgt := 1102) hx hb d_L_law_40 (Or.inr (by rw [nI_toInt (by omega)]; omega)) (by decide) ?_
    exact W.widen (by omega) (by omega) (K T ov H locs ls hok hw hS hl)
end
section
/-! part 26: the law from its entry -/
theorem pb_npar {d : String} {k n : Nat} {sig : MethodDescriptor} (hk : k = n) (h : parseMethodDescriptor d = some sig) (hd : (parseMethodDescriptor d).map (fun d => d.parameters.length) = some n) : k = sig.parameters.length := by
  rw [h] at hd
  exact hk.trans (Option.some.inj hd).symm
set_option maxHeartbeats 4000000 in
set_option maxRecDepth 100000 in
theorem whole_start {p : Program} {e : Env} {s : State} {m : MethodId} {below : List Frame} {meth : Method} {c : Code} (l : Launch) (hfl : l.stackTraces = false) {b L : Nat} {xs : Nat → Int32} (hL : L ≤ 3584) (C0 : lw_At p s m meth c b L xs) : W p l e room_1 s m #[Value.ref b] below meth c s.heap [] 0 0 (lw_Z below #[Value.ref b] s) (entryFrame m ([Value.ref b] : List Value).toArray 8) := by
  obtain ⟨hx, hb, hr, hml, hown, hts, hX, hbl, hlocks, hgv⟩ := C0
  have hts2 : pb_HT #[Value.ref b] s := fun w hw => hts w (pb_sub hw)
  have hs := flat_of_before _ hgv
  have hEX : pb_EX s.heap.size s s.heap := by
    refine ⟨pb_Zs_of (args := #[Value.ref b]) (hts _ (List.mem_of_getElem? (i := 84) rfl)) (hs _ (by decide +kernel)) (Nat.le_refl _), pb_Zs_of (args := #[Value.ref b]) (hts _ (List.mem_of_getElem? (i := 86) rfl)) (hs _ (by decide +kernel)) (Nat.le_refl _), ?_, ?_⟩
    · exact va_Nc.of (hs (.not (.castable R_IOB R_IAE)) (by decide +kernel))
    · exact va_Nc.of (hs (.not (.castable R_UOE R_IAE)) (by decide +kernel))
  obtain ⟨cX, iX, kX⟩ := u_known hts2 u_X (hts2 _ pb_k11)
  obtain ⟨cM, iM, kM⟩ := u_known hts2 u_M (hts2 _ pb_k258)
  obtain ⟨D, hD1, hD2, hD3, hD4⟩ : ∃ D : va_G, D.1 0 = cX ∧ D.2 0 = iX ∧ D.1 1 = cM ∧ D.2 1 = iM := ⟨(fun k => if k = 0 then cX else cM, fun k => if k = 0 then iX else iM), rfl, rfl, rfl, rfl⟩
  have hK : va_K D pb_cl [] s := by
    refine ⟨fun k q hq => ?_, fun k q hk => by cases hk⟩
    rcases k with _ | _ | k
    · cases hq
      rw [hD1, hD2]
      exact kX
    · cases hq
      rw [hD3, hD4]
      exact kM
    · cases hq
  have hP : va_P D pb_cl [] s.heap := fun k q hk => by cases hk
  have hD : va_D (fun q => s.heap.size ≤ q) [] := ⟨fun i j x y hi => (by cases hi), fun k q hk => (by cases hk)⟩
  have hS : va_S (fun q => s.heap.size ≤ q) s.heap s.heap [] := va_S.rf
  have hA : ∀ q : Nat, s.heap.size ≤ q → (fun q => s.heap.size ≤ q) q := fun q h => h
  have hl := lv_entry ([.ref b]) (n := 8) (Nat.le_of_ble_eq_true rfl)
  rw [lg_entry_eq]
  generalize (lg_sl ([.ref b]) ++ List.replicate (8 - (lg_sl ([.ref b])).length) Slot.unset).toArray = ls at hl ⊢
  have hl : lv_has ls 8 [(0, .ref b)] := hl
  refine va_new (ci := 0) (fs := [.null, .int 0, .int 0]) (C := R_X) (T := F_X) (N := 3) hx hb hts2 u_X t_X t_X_ok hown (hts2 _ pb_k10) (hts2 _ pb_k11) (hts2 _ pb_k1) hK hP hD hS hA rfl (fun j hj => by rcases (by omega : j = 0 ∨ j = 1 ∨ j = 2) with rfl | rfl | rfl <;> rfl) (by decide) (by decide) d_L_law_0 (fun q0 H hP hD hS => ?_)
  have hP : va_P D pb_cl [(q0, .inr (0, [.null, .int 0, .int 0]))] H := hP
  have hD : va_D (fun q => s.heap.size ≤ q) [(q0, .inr (0, [.null, .int 0, .int 0]))] := hD
  refine lv_dup hx hb d_L_law_3 rfl ?_
  have hPc := hP.sub (ws' := [(q0, .inr (0, [.null, .int 0, .int 0]))]) [0] rfl
  have hDc := hD.sub (ws' := [(q0, .inr (0, [.null, .int 0, .int 0]))]) [0] (by decide) rfl
  have hKc := hK.sub (tys' := []) [] rfl
  have hFc := va_free (wc := [(q0, .inr (0, [.null, .int 0, .int 0]))]) hD hS hA [0] rfl
  refine va_callv (va_runI (As := []) (rest := [.ref q0]) ⟨hx, hb, hml, hown, hts2⟩ (c_X_init l D q0 H.size) ⟨⟨rfl, rfl, by decide, by decide, fun w hw a' U hW => (List.mem_cons.mp hw).elim (fun e9 => by rw [e9]; exact pb_word hW rfl (hts2 _ pb_k14)) (fun h9 => pb_word hW (pb_good h9) (hts2 _ h9)), List.mem_cons_self, hts2 _ pb_k14, hts2 _ pb_k1, by decide +kernel, fun sig h9 => pb_npar rfl h9 (by decide +kernel), hts2 _ pb_k12⟩, rfl, hts2 _ pb_k13⟩
    ⟨fun a U g mk q => by obtain ⟨q0, q1, qP, qK, qD⟩ := q; exact ⟨q0, q1, qP, va_K.moved (u := U) (U := U.calling g mk a) (Vm.Alike.refl U.vm) qK, qD⟩, fun U hU hW => ⟨rfl, by rw [hU], by rw [hU]; exact hPc, va_K.moved hW.alike hKc, hDc.weaken (fun _ _ _ _ => trivial)⟩⟩ rfl rfl hl.1 rfl (lv_room (Nat.le_of_ble_eq_true rfl)) d_L_law_4 ⟨by decide, by decide⟩) hS (fun q _ h => hFc q h) hFc (fun u t H1 locs ht hvm hw hB hz1 hk1 hS => ?_)
  obtain ⟨qb, cB⟩ := u
  obtain ⟨hP1, hK1, hDD1⟩ := hB
  rw [ht] at hP1
  have hK1 := va_K.moved hvm.symm hK1
  obtain ⟨hP, hD⟩ := va_join (wr := []) (w1 := [(q0, .inr (0, [.ref qb, .int 0, .int 0])), (qb, .inl (cB, 8192, .inl (fun _ => 0)))]) hP hD [0] [] rfl rfl (by decide) (by decide) hk1 hFc hP1 hDD1
  have hK := (hK.sub (tys' := []) [] rfl).app hK1
  generalize H1 = H at hP hS ⊢
  have hP : va_P D pb_cl [(q0, .inr (0, [.ref qb, .int 0, .int 0])), (qb, .inl (cB, 8192, .inl (fun _ => 0)))] H := hP
  have hD : va_D (fun q => s.heap.size ≤ q) [(q0, .inr (0, [.ref qb, .int 0, .int 0])), (qb, .inl (cB, 8192, .inl (fun _ => 0)))] := hD
  have hK : va_K D pb_cl [(cB, .byte)] s := hK
  refine lv_astore_n (lv' := [(1, .ref q0), (0, .ref b)]) hx hb d_L_law_7 rfl hl (by decide) rfl (fun ls hl => ?_)
  refine va_new (ci := 1) (fs := [.int 0, .null, .int 0, .int 0, .int 0, .int 0]) (C := R_M) (T := F_M) (N := 6) hx hb hts2 u_M t_M t_M_ok hown (hts2 _ pb_k257) (hts2 _ pb_k258) (hts2 _ pb_k2) hK hP hD hS hA rfl (fun j hj => by rcases (by omega : j = 0 ∨ j = 1 ∨ j = 2 ∨ j = 3 ∨ j = 4 ∨ j = 5) with rfl | rfl | rfl | rfl | rfl | rfl <;> rfl) (by decide) (by decide) d_L_law_8 (fun q2 H hP hD hS => ?_)
  have hP : va_P D pb_cl [(q0, .inr (0, [.ref qb, .int 0, .int 0])), (qb, .inl (cB, 8192, .inl (fun _ => 0))), (q2, .inr (1, [.int 0, .null, .int 0, .int 0, .int 0, .int 0]))] H := hP
  have hD : va_D (fun q => s.heap.size ≤ q) [(q0, .inr (0, [.ref qb, .int 0, .int 0])), (qb, .inl (cB, 8192, .inl (fun _ => 0))), (q2, .inr (1, [.int 0, .null, .int 0, .int 0, .int 0, .int 0]))] := hD
  refine lv_dup hx hb d_L_law_11 rfl ?_
  have hPc := hP.sub (ws' := [(q2, .inr (1, [.int 0, .null, .int 0, .int 0, .int 0, .int 0]))]) [2] rfl
  have hDc := hD.sub (ws' := [(q2, .inr (1, [.int 0, .null, .int 0, .int 0, .int 0, .int 0]))]) [2] (by decide) rfl
  have hKc := hK.sub (tys' := []) [] rfl
  have hFc := va_free (wc := [(q2, .inr (1, [.int 0, .null, .int 0, .int 0, .int 0, .int 0]))]) hD hS hA [2] rfl
  refine va_callv (va_runI (As := []) (rest := [.ref q2]) ⟨hx, hb, hml, hown, hts2⟩ (c_M_init l D q2 H.size) ⟨⟨rfl, rfl, by decide, by decide, fun w hw a' U hW => (List.mem_cons.mp hw).elim (fun e9 => by rw [e9]; exact pb_word hW rfl (hts2 _ pb_k261)) (fun h9 => pb_word hW (pb_good h9) (hts2 _ h9)), List.mem_cons_self, hts2 _ pb_k261, hts2 _ pb_k2, by decide +kernel, fun sig h9 => pb_npar rfl h9 (by decide +kernel), hts2 _ pb_k259⟩, rfl, hts2 _ pb_k260⟩
    ⟨fun a U g mk q => by obtain ⟨q0, q1, qP, qK, qD⟩ := q; exact ⟨q0, q1, qP, va_K.moved (u := U) (U := U.calling g mk a) (Vm.Alike.refl U.vm) qK, qD⟩, fun U hU hW => ⟨rfl, by rw [hU], by rw [hU]; exact hPc, va_K.moved hW.alike hKc, hDc.weaken (fun _ _ _ _ => trivial)⟩⟩ rfl rfl hl.1 rfl (lv_room (Nat.le_of_ble_eq_true rfl)) d_L_law_12 ⟨by decide, by decide⟩) hS (fun q _ h => hFc q h) hFc (fun u t H1 locs ht hvm hw hB hz1 hk1 hS => ?_)
  obtain ⟨qr, cZ⟩ := u
  obtain ⟨hP1, hK1, hDD1⟩ := hB
  rw [ht] at hP1
  have hK1 := va_K.moved hvm.symm hK1
  obtain ⟨hP, hD⟩ := va_join (wr := [(q0, .inr (0, [.ref qb, .int 0, .int 0])), (qb, .inl (cB, 8192, .inl (fun _ => 0)))]) (w1 := [(q2, .inr (1, [.int 0, .ref qr, .int 0, .int 0, .int 0, .int 0])), (qr, .inl (cZ, 65536, .inl (fun _ => 0)))]) hP hD [2] [0, 1] rfl rfl (by decide) (by decide) hk1 hFc hP1 hDD1
  have hK := (hK.sub (tys' := [(cB, .byte)]) [0] rfl).app hK1
  generalize H1 = H at hP hS ⊢
  have hP : va_P D pb_cl [(q0, .inr (0, [.ref qb, .int 0, .int 0])), (qb, .inl (cB, 8192, .inl (fun _ => 0))), (q2, .inr (1, [.int 0, .ref qr, .int 0, .int 0, .int 0, .int 0])), (qr, .inl (cZ, 65536, .inl (fun _ => 0)))] H := hP
  have hD : va_D (fun q => s.heap.size ≤ q) [(q0, .inr (0, [.ref qb, .int 0, .int 0])), (qb, .inl (cB, 8192, .inl (fun _ => 0))), (q2, .inr (1, [.int 0, .ref qr, .int 0, .int 0, .int 0, .int 0])), (qr, .inl (cZ, 65536, .inl (fun _ => 0)))] := hD
  have hK : va_K D pb_cl [(cB, .byte), (cZ, .boolean)] s := hK
  refine lv_astore_n (lv' := [(2, .ref q2), (1, .ref q0), (0, .ref b)]) hx hb d_L_law_15 rfl hl (by decide) rfl (fun ls hl => ?_)
  refine lv_iconst (v := 1) hx hb d_L_law_16 (by decide) ?_
  refine va_newa (atype := .long) (ty := .long) (N' := 1) (a0 := (1, .inr (.inl (fun _ => 0)))) hx hb (hts2 _ pb_k388) rfl hK hP hD hS hA (fun cA => rfl) (by decide) (by decide) (by decide) (by decide) (by decide) d_L_law_17 (fun q4 cL H hK hP hD hS => ?_)
  have hP : va_P D pb_cl [(q0, .inr (0, [.ref qb, .int 0, .int 0])), (qb, .inl (cB, 8192, .inl (fun _ => 0))), (q2, .inr (1, [.int 0, .ref qr, .int 0, .int 0, .int 0, .int 0])), (qr, .inl (cZ, 65536, .inl (fun _ => 0))), (q4, .inl (cL, 1, .inr (.inl (fun _ => 0))))] H := hP
  have hD : va_D (fun q => s.heap.size ≤ q) [(q0, .inr (0, [.ref qb, .int 0, .int 0])), (qb, .inl (cB, 8192, .inl (fun _ => 0))), (q2, .inr (1, [.int 0, .ref qr, .int 0, .int 0, .int 0, .int 0])), (qr, .inl (cZ, 65536, .inl (fun _ => 0))), (q4, .inl (cL, 1, .inr (.inl (fun _ => 0))))] := hD
  have hK : va_K D pb_cl [(cB, .byte), (cZ, .boolean), (cL, .long)] s := hK
  refine lv_astore_n (lv' := [(3, .ref q4), (2, .ref q2), (1, .ref q0), (0, .ref b)]) hx hb d_L_law_19 rfl hl (by decide) rfl (fun ls hl => ?_)
  refine lv_iconst (v := 0) hx hb d_L_law_20 (by decide) ?_
  refine lv_istore (lv' := [(4, .int 0), (3, .ref q4), (2, .ref q2), (1, .ref q0), (0, .ref b)]) hx hb d_L_law_21 hl (by decide) rfl (fun ls hl => ?_)
  have hwd : pb_Wd (s.heap.size, D, (cB, cZ, cL), (q0, qb, q2, qr, q4)) (0, 0, fun _ => false) (0, (0, 0, fun _ => false), 0, false) 0 s H :=
    ⟨fun _ => 0, fun _ => 0, fun _ => 0, fun k _ => rfl, fun k _ => rfl, rfl, hP, hD, hK, pb_EX_kept hEX (fun q hq => hS.2.1 q hq (fun z => Nat.lt_irrefl _ (Nat.lt_of_lt_of_le hq z)))⟩
  refine W.widen (k := 5 + 20 * 0) (n := 80000 + 200 * 0) (by decide) (by decide) ?_
  exact pb_law_loop (w := (s.heap.size, D, (cB, cZ, cL), (q0, qb, q2, qr, q4))) hfl ⟨hx, hb, hml, hown, hts2⟩ hr hlocks hX hbl rfl hL 0 (Nat.zero_le _) (0, (0, 0, fun _ => false), 0, false) 0 H _ ls ⟨Nat.le_refl _, Nat.zero_le _⟩ hwd hS hl
end
section
/-! part 27: the end of kit/laws/SKELETON.whole.lean.txt (a starting text), with the launch's flag carried along -/
theorem pb_flags {l : Launch} (h : l.flags = flags0) : l.stackTraces = false := by
  unfold Launch.stackTraces
  rw [h]
  decide +kernel
set_option maxHeartbeats 4000000 in
theorem lw_walk (l : Launch) (hfl : l.stackTraces = false) (b : Addr) (xs : List Int32) : MetFree l x (headSpec (Jvm.Cond.code x code maxLocals ret :: tables_1) room_1) (lw_P b xs) (fun _ _ _ _ _ => True) lw_Q := by
  refine MetFree.of_bodyS (code := code) (maxLocals := maxLocals) (ret := ret) (by decide) ?_ ?_
  · intro args s m h hn
    obtain ⟨meth, c, h1, h2, h3, h4, h5, h6, -, -⟩ := Cond.code_spec hn (atoms_spec (ws := Jvm.Cond.code x code maxLocals ret :: tables_1) h _ List.mem_cons_self)
    exact ⟨meth, c, h1, h2, h3, h4, h5, h6⟩
  · intro p e s m args below meth c s₁ B hml0 hP _
    obtain ⟨rfl, hx, hbd, hgv⟩ := hP
    obtain ⟨scr, harrAt, hlist, hof, hsmall⟩ := hx
    obtain ⟨hcb, hkn, -, -⟩ := State.arrayAt?_spec harrAt
    have hown : s.vm.findClass R_law = some m.cls := findClass_of_methodNamed B.named
    have hts0 : ∀ c ∈ (Jvm.Cond.code x code maxLocals ret :: tables_1), c.before #[Value.ref b] s = true := atoms_spec (ws := Jvm.Cond.code x code maxLocals ret :: tables_1) B.pre
    have hts : ∀ w ∈ lw_tbl, w.before #[Value.ref b] s = true := k2_hts_sels lw_privs (fun w hw => hts0 w (List.mem_cons_of_mem _ hw)) lw_privs_ok
    have hml : c.maxLocals = 8 := B.maxLocals_eq (hts0 _ List.mem_cons_self)
    have X₀ : Stand p l e room_1 s m #[Value.ref b] below meth c s₁ [] 0 0 := Stand.of_body B
    have hh0 : s₁.heap = s.heap := by rw [B.state]; rfl
    have hsz : scr.slots.size = xs.length := by rw [← Array.length_toList, hlist, List.length_map]
    have hval : ∀ j : Nat, j < xs.length → scr.slots[j]? = some (.int (xs.getD j 0)) := fun j hj => by
      rw [← Array.getElem?_toList, hlist]
      simp [hj]
    have hbl : b < s.heap.size := (Array.getElem?_eq_some_iff.mp hcb).1
    have hX : va_X b xs.length (fun j => xs.getD j 0) s s.heap := ⟨scr, hcb, hof, hkn, hsz, hval⟩
    have K : W p l e room_1 s m #[Value.ref b] below meth c s₁.heap [] 0 0 (lw_Z below #[Value.ref b] s) (entryFrame m ([Value.ref b] : List Value).toArray 8) := by
      rw [hh0]
      exact whole_start l hfl hbd ⟨B.exec, B.bytes, B.returns, hml, hown, hts, hX, hbl, B.notSynchronized, hgv⟩
    obtain ⟨t, a1, o, b1, b2, b3⟩ := K s₁ rfl X₀
    exact ⟨t, o, a1, b1, b2, b3⟩
theorem lw_pre_spec {args : Array Value} {s : State} (h : (Jvm.Cond.and given_1 narrow_1).before args s = true) (hr : rest_1_c.before args s = true) : ∃ (b : Addr) (xs : List Int32), lw_P b xs args s := by
  have hs := flat_of_before _ h
  have hq := flat_of_before _ hr
  have hc : (Cond.count 1).before args s = true := hs _ (by decide +kernel)
  have harr : (Cond.arrayOf (.arg 0) .int).before args s = true := hs _ (by decide +kernel)
  have hle : (Cond.le (.length (.arg 0)) (.int 3584)).before args s = true := hs _ (by decide +kernel)
  have hlen : (Cond.isInt (.length (.arg 0))).before args s = true := hq _ (by decide +kernel)
  have hall : (Cond.all (.arg 0) (.isInt (.elem (.arg 0) (.index 0)))).before args s = true := hq _ (by decide +kernel)
  obtain ⟨b, xs, hb, hx⟩ := State.ints_of_pre rfl harr hlen hall
  have hsm : xs.length < 2 ^ 31 := hx.choose_spec.2.2.2
  have hev : (Term.length (.arg 0)).eval args s none [] s = some (.int xs.length.toInt32) := hx.length_eval hb
  have hv := Cond.le_ints hev (show (Term.int 3584).eval args s none [] s = some (.int 3584) from rfl)
  have hd : xs.length.toInt32 ≤ 3584 := by
    simpa [Cond.before, Cond.holds, hv] using hle
  have hN : xs.length ≤ 3584 := (Int32.ofNat_le_ofNat hsm (by decide)).mp (show Int32.ofNat xs.length ≤ Int32.ofNat 3584 from hd)
  exact ⟨b, xs, Cond.one_arg hc (show args[0]? = some (.ref b) from hb), hx, hN, h⟩
theorem lw_comes (l : Launch) (hfl : l.stackTraces = false) : Comes l x (Jvm.Cond.code x code maxLocals ret :: tables_1) room_1 (fun tb e args s => Calls_1 tb e args s ∧ rest_1 tb e args s ∧ Pre_1 tb e args s)
    (fun _ _ args s o t => lw_Q args s o t) := by
  intro p e ha hc hk s m args below hf hfit hheap happ hpre
  obtain ⟨b, xs, hP⟩ := lw_pre_spec hpre.2.2 hpre.2.1
  obtain ⟨k, o, h1, h2, h3, hQ⟩ := lw_walk l hfl b xs p e ha hc hk s m args below hf ((Spec.applies_iff_loose hf).mp happ).1 hP trivial
  exact ⟨k, o, h1, h2, h3, hQ⟩
theorem lw_frame {s t : State} {o : Outcome} {args : Array Value} (h : Framed s o t [] 601024 7293034) :
    Framed s o t (fieldLocs frame_1_writes args s ++ arrayLocs frame_1_arrays args s ++ staticLocs frame_1_statics s) 601024 7293034 := h
theorem lw_limb (L : Cond) (hL : ∀ (args : Array Value) (s t : State), L.after args s (.returned (some (.int 1))) t = true) :
    ArmFor flags0 classFile x code maxLocals ret World_1 tables_1 room_1 Calls_1 rest_1 Pre_1
      (fun tb e a s o t => postC L tb e a s o t ∧ Framed s o t (fieldLocs frame_1_writes a s ++ arrayLocs frame_1_arrays a s ++ staticLocs frame_1_statics s) 601024 7293034) := by
  intro l hfl0 _ _ p e ha hc hk s m args below hf hfit hheap happ hpre
  obtain ⟨k, o, h1, h2, h3, rfl, hF⟩ := lw_comes l (pb_flags hfl0) p e ha hc hk s m args below hf hfit hheap happ hpre
  exact ⟨k, _, h1, h2, h3, hL args s _, lw_frame hF⟩
theorem i_vc : Claimed_1_1 ∧ Claimed_1_2 := ⟨lw_limb limb_1_1 (fun args s t => by simp [limb_1_1, Cond.after, Cond.holds, Cond.value]), lw_limb limb_1_2 (fun args s t => Cond.after_iff.mpr (by
  first | (rw [show limb_1_2 = Cond.eq .result (.int 1) from rfl, Cond.eq_ints (x := 1) (y := 1) rfl rfl]; simp; done) | (simp [limb_1_2, Cond.value, Term.eval]; done)))⟩
end
