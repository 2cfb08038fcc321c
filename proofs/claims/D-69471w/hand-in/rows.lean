section
-- ===== PART A: goes FIRST, ahead of the names: the tables' words, and 'selects' of the private methods out of them =====
/-- a private method of a class that the tables say can be made, by its rows of tables_1 -/
def lw_okq (q : MethodName × Nat) : Prop := (q.1.cls ≠ "java/lang/invoke/MethodHandle" ∧ q.1.cls ≠ "java/lang/invoke/VarHandle") ∧ Cond.instantiable q.1.cls q.2 ∈ tables_1 ∧ Cond.privateMethod q.1 ∈ tables_1 ∧ Cond.instanceMethod q.1 ∈ tables_1
theorem lw_p0 : lw_okq (⟨"RunRows", "four", "(I)V"⟩, 8) := ⟨⟨by decide +kernel, by decide +kernel⟩, List.mem_of_getElem? (i := 8) (by decide +kernel), List.mem_of_getElem? (i := 81) (by decide +kernel), List.mem_of_getElem? (i := 82) (by decide +kernel)⟩
theorem lw_p1 : lw_okq (⟨"RunRows$Runs", "look", "([II)V"⟩, 1) := ⟨⟨by decide +kernel, by decide +kernel⟩, List.mem_of_getElem? (i := 41) (by decide +kernel), List.mem_of_getElem? (i := 127) (by decide +kernel), List.mem_of_getElem? (i := 128) (by decide +kernel)⟩
theorem lw_p2 : lw_okq (⟨"RunRowsModel", "writeRuns", "([III)V"⟩, 13) := ⟨⟨by decide +kernel, by decide +kernel⟩, List.mem_of_getElem? (i := 200) (by decide +kernel), List.mem_of_getElem? (i := 270) (by decide +kernel), List.mem_of_getElem? (i := 271) (by decide +kernel)⟩
theorem lw_p3 : lw_okq (⟨"RunRowsModel", "putVarint", "(J)V"⟩, 13) := ⟨⟨by decide +kernel, by decide +kernel⟩, List.mem_of_getElem? (i := 200) (by decide +kernel), List.mem_of_getElem? (i := 278) (by decide +kernel), List.mem_of_getElem? (i := 279) (by decide +kernel)⟩
theorem lw_p4 : lw_okq (⟨"RunRowsModel", "put", "(I)V"⟩, 13) := ⟨⟨by decide +kernel, by decide +kernel⟩, List.mem_of_getElem? (i := 200) (by decide +kernel), List.mem_of_getElem? (i := 283) (by decide +kernel), List.mem_of_getElem? (i := 284) (by decide +kernel)⟩
theorem lw_p5 : lw_okq (⟨"RunRowsModel", "readRuns", "([IIII)V"⟩, 13) := ⟨⟨by decide +kernel, by decide +kernel⟩, List.mem_of_getElem? (i := 200) (by decide +kernel), List.mem_of_getElem? (i := 291) (by decide +kernel), List.mem_of_getElem? (i := 292) (by decide +kernel)⟩
theorem lw_p6 : lw_okq (⟨"RunRowsModel", "varint", "(I)J"⟩, 13) := ⟨⟨by decide +kernel, by decide +kernel⟩, List.mem_of_getElem? (i := 200) (by decide +kernel), List.mem_of_getElem? (i := 295) (by decide +kernel), List.mem_of_getElem? (i := 296) (by decide +kernel)⟩
theorem lw_p7 : lw_okq (⟨"RunRowsModel", "readOne", "([IIIIIJ)I"⟩, 13) := ⟨⟨by decide +kernel, by decide +kernel⟩, List.mem_of_getElem? (i := 200) (by decide +kernel), List.mem_of_getElem? (i := 299) (by decide +kernel), List.mem_of_getElem? (i := 300) (by decide +kernel)⟩
theorem lw_p8 : lw_okq (⟨"RunRowsModel", "bitsAt", "(III)I"⟩, 13) := ⟨⟨by decide +kernel, by decide +kernel⟩, List.mem_of_getElem? (i := 200) (by decide +kernel), List.mem_of_getElem? (i := 303) (by decide +kernel), List.mem_of_getElem? (i := 304) (by decide +kernel)⟩
theorem lw_p9 : lw_okq (⟨"RunRowsModel", "readGroups", "([IIIIIJ)I"⟩, 13) := ⟨⟨by decide +kernel, by decide +kernel⟩, List.mem_of_getElem? (i := 200) (by decide +kernel), List.mem_of_getElem? (i := 307) (by decide +kernel), List.mem_of_getElem? (i := 308) (by decide +kernel)⟩
def lw_privs_1 : List (MethodName × Nat) := [(⟨"RunRows", "four", "(I)V"⟩, 8), (⟨"RunRows$Runs", "look", "([II)V"⟩, 1), (⟨"RunRowsModel", "writeRuns", "([III)V"⟩, 13), (⟨"RunRowsModel", "putVarint", "(J)V"⟩, 13), (⟨"RunRowsModel", "put", "(I)V"⟩, 13), (⟨"RunRowsModel", "readRuns", "([IIII)V"⟩, 13), (⟨"RunRowsModel", "varint", "(I)J"⟩, 13), (⟨"RunRowsModel", "readOne", "([IIIIIJ)I"⟩, 13), (⟨"RunRowsModel", "bitsAt", "(III)I"⟩, 13), (⟨"RunRowsModel", "readGroups", "([IIIIIJ)I"⟩, 13)]
theorem lw_r1 : ∀ q ∈ lw_privs_1, lw_okq q := List.forall_mem_cons.mpr ⟨lw_p0, List.forall_mem_cons.mpr ⟨lw_p1, List.forall_mem_cons.mpr ⟨lw_p2, List.forall_mem_cons.mpr ⟨lw_p3, List.forall_mem_cons.mpr ⟨lw_p4, List.forall_mem_cons.mpr ⟨lw_p5, List.forall_mem_cons.mpr ⟨lw_p6, List.forall_mem_cons.mpr ⟨lw_p7, List.forall_mem_cons.mpr ⟨lw_p8, List.forall_mem_cons.mpr ⟨lw_p9, fun _ h => absurd h List.not_mem_nil⟩⟩⟩⟩⟩⟩⟩⟩⟩⟩
def lw_privs : List (MethodName × Nat) := lw_privs_1
def lw_tbl : List Cond := k2_sels lw_privs ++ tables_1
theorem lw_privs_ok : ∀ q ∈ lw_privs, lw_okq q := lw_r1
-- ===== one list of words for every method =====
/-- the tables' words that every call keeps -/
def gw : List Cond := lw_tbl.filter goodWord
theorem gw_in {w : Cond} (h : w ∈ lw_tbl) (g : goodWord w = true) : w ∈ gw := List.mem_filter.mpr ⟨h, g⟩
theorem gw_tbl {w : Cond} (h : w ∈ gw) : w ∈ lw_tbl := (List.mem_filter.mp h).1
theorem gw_good {w : Cond} (h : w ∈ gw) : (w.onTables && w.keeps) = true ∨ ∃ ty, w = .arrayClass ty := good_of_word (List.mem_filter.mp h).2
def wd (y : MethodName) (b : ByteArray) (n : Nat) (r : Option FieldType) : List Cond := .code y b n r :: gw
theorem wd_good {y : MethodName} {b : ByteArray} {n : Nat} {r : Option FieldType} (h : Cond.code y b n r ∈ gw) : GoodIn gw (wd y b n r) := fun w hw => by
  rcases List.mem_cons.mp hw with rfl | hw
  · exact ⟨h, gw_good h⟩
  · exact ⟨hw, gw_good hw⟩
theorem tb_at {w : Cond} (i : Nat) (h : lw_tbl[i]? = some w) : w ∈ lw_tbl := List.mem_of_getElem? h
end
section
/-! names: classes, fields by slots, methods; every word of the tables that a walk uses, as a member of gw -/
abbrev R_B : String := "RunRows$Bytes"
abbrev R_U : String := "RunRows$Runs"
abbrev R_X : String := "RunRows"
abbrev R_M : String := "RunRowsModel"
abbrev R_L : String := "RunRowsLaw"
def F_B : u_T := fun k => match k with
  | 0 => ("RunRows$Bytes", "row", "[B", false)
  | 1 => ("RunRows$Bytes", "size", "I", false)
  | 2 => ("RunRows$Bytes", "at", "I", false)
  | _ => ("RunRows$Bytes", "fault", "I", false)
def t_B : Nat → FieldType := fun k => match k with
  | 0 => .array .byte
  | 1 => .int
  | 2 => .int
  | _ => .int
def F_U : u_T := fun k => match k with
  | _ => ("RunRows$Runs", "same", "[I", false)
def t_U : Nat → FieldType := fun k => match k with
  | _ => .array .int
def F_X : u_T := fun k => match k with
  | 0 => ("RunRows", "tape", "LRunRows$Bytes;", true)
  | 1 => ("RunRows", "input", "LRunRows$Bytes;", true)
  | 2 => ("RunRows", "out", "LRunRows$Bytes;", true)
  | 3 => ("RunRows", "runs", "LRunRows$Runs;", true)
  | 4 => ("RunRows", "row", "[I", true)
  | 5 => ("RunRows", "spare", "[I", true)
  | 6 => ("RunRows", "size", "I", false)
  | _ => ("RunRows", "width", "I", false)
def t_X : Nat → FieldType := fun k => match k with
  | 0 => .object "RunRows$Bytes"
  | 1 => .object "RunRows$Bytes"
  | 2 => .object "RunRows$Bytes"
  | 3 => .object "RunRows$Runs"
  | 4 => .array .int
  | 5 => .array .int
  | 6 => .int
  | _ => .int
def F_M : u_T := fun k => match k with
  | 0 => ("RunRowsModel", "code", "I", false)
  | 1 => ("RunRowsModel", "row", "[I", true)
  | 2 => ("RunRowsModel", "spare", "[I", true)
  | 3 => ("RunRowsModel", "size", "I", false)
  | 4 => ("RunRowsModel", "width", "I", false)
  | 5 => ("RunRowsModel", "taped", "I", false)
  | 6 => ("RunRowsModel", "inputSize", "I", false)
  | 7 => ("RunRowsModel", "outSize", "I", false)
  | 8 => ("RunRowsModel", "at", "I", false)
  | 9 => ("RunRowsModel", "fault", "I", false)
  | 10 => ("RunRowsModel", "tape", "[I", true)
  | 11 => ("RunRowsModel", "input", "[I", true)
  | _ => ("RunRowsModel", "out", "[I", true)
def t_M : Nat → FieldType := fun k => match k with
  | 0 => .int
  | 1 => .array .int
  | 2 => .array .int
  | 3 => .int
  | 4 => .int
  | 5 => .int
  | 6 => .int
  | 7 => .int
  | 8 => .int
  | 9 => .int
  | 10 => .array .int
  | 11 => .array .int
  | _ => .array .int
abbrev classes : List vw_C := [(R_B, F_B, 4), (R_U, F_U, 1), (R_X, F_X, 8), (R_M, F_M, 13)]
theorem n_B : ∀ a, a < 4 → ∀ b, b < 4 → a ≠ b → (F_B a).2.1 ≠ (F_B b).2.1 := by decide +kernel
theorem t_B_ok : ∀ k, k < 4 → parseFieldDescriptor (F_B k).2.2.1 = some (t_B k) := by decide +kernel
theorem i_B : ∀ w ∈ u_ws R_B F_B 4, w ∈ gw := by decide +kernel
theorem n_U : ∀ a, a < 1 → ∀ b, b < 1 → a ≠ b → (F_U a).2.1 ≠ (F_U b).2.1 := by decide +kernel
theorem t_U_ok : ∀ k, k < 1 → parseFieldDescriptor (F_U k).2.2.1 = some (t_U k) := by decide +kernel
theorem i_U : ∀ w ∈ u_ws R_U F_U 1, w ∈ gw := by decide +kernel
theorem n_X : ∀ a, a < 8 → ∀ b, b < 8 → a ≠ b → (F_X a).2.1 ≠ (F_X b).2.1 := by decide +kernel
theorem t_X_ok : ∀ k, k < 8 → parseFieldDescriptor (F_X k).2.2.1 = some (t_X k) := by decide +kernel
theorem i_X : ∀ w ∈ u_ws R_X F_X 8, w ∈ gw := by decide +kernel
theorem n_M : ∀ a, a < 13 → ∀ b, b < 13 → a ≠ b → (F_M a).2.1 ≠ (F_M b).2.1 := by decide +kernel
theorem t_M_ok : ∀ k, k < 13 → parseFieldDescriptor (F_M k).2.2.1 = some (t_M k) := by decide +kernel
theorem i_M : ∀ w ∈ u_ws R_M F_M 13, w ∈ gw := by decide +kernel
abbrev b_X_init : ByteArray := prog_1_method_1_code
abbrev y_X_init : MethodName := ⟨"RunRows", "<init>", "()V"⟩
abbrev b_B_init : ByteArray := prog_2_method_1_code
abbrev y_B_init : MethodName := ⟨"RunRows$Bytes", "<init>", "(I)V"⟩
abbrev b_U_init : ByteArray := prog_3_method_1_code
abbrev y_U_init : MethodName := ⟨"RunRows$Runs", "<init>", "()V"⟩
abbrev b_X_feed : ByteArray := prog_1_method_2_code
abbrev y_X_feed : MethodName := ⟨"RunRows", "feed", "(IIIII)Z"⟩
abbrev b_X_four : ByteArray := prog_1_method_3_code
abbrev y_X_four : MethodName := ⟨"RunRows", "four", "(I)V"⟩
abbrev b_B_put : ByteArray := prog_2_method_3_code
abbrev y_B_put : MethodName := ⟨"RunRows$Bytes", "put", "(I)V"⟩
abbrev b_X_end : ByteArray := prog_1_method_4_code
abbrev y_X_end : MethodName := ⟨"RunRows", "end", "(I)Z"⟩
abbrev b_B_clear : ByteArray := prog_2_method_2_code
abbrev y_B_clear : MethodName := ⟨"RunRows$Bytes", "clear", "()V"⟩
abbrev b_B_get : ByteArray := prog_2_method_6_code
abbrev y_B_get : MethodName := ⟨"RunRows$Bytes", "get", "(I)I"⟩
abbrev b_X_width : ByteArray := prog_1_method_5_code
abbrev y_X_width : MethodName := ⟨"RunRows", "width", "(I)Z"⟩
abbrev b_X_add : ByteArray := prog_1_method_6_code
abbrev y_X_add : MethodName := ⟨"RunRows", "add", "(II)Z"⟩
abbrev b_X_clear : ByteArray := prog_1_method_7_code
abbrev y_X_clear : MethodName := ⟨"RunRows", "clear", "()V"⟩
abbrev b_X_encode : ByteArray := prog_1_method_8_code
abbrev y_X_encode : MethodName := ⟨"RunRows", "encode", "()I"⟩
abbrev b_U_fits : ByteArray := prog_3_method_3_code
abbrev y_U_fits : MethodName := ⟨"RunRows$Runs", "fits", "(II)Z"⟩
abbrev b_U_write : ByteArray := prog_3_method_4_code
abbrev y_U_write : MethodName := ⟨"RunRows$Runs", "write", "([IIILRunRows$Bytes;)V"⟩
abbrev b_U_look : ByteArray := prog_3_method_2_code
abbrev y_U_look : MethodName := ⟨"RunRows$Runs", "look", "([II)V"⟩
abbrev b_B_putVarint : ByteArray := prog_2_method_5_code
abbrev y_B_putVarint : MethodName := ⟨"RunRows$Bytes", "putVarint", "(J)V"⟩
abbrev b_B_putFixed : ByteArray := prog_2_method_4_code
abbrev y_B_putFixed : MethodName := ⟨"RunRows$Bytes", "putFixed", "(JI)V"⟩
abbrev b_U_pack : ByteArray := prog_3_method_5_code
abbrev y_U_pack : MethodName := ⟨"RunRows$Runs", "pack", "([IIIIILRunRows$Bytes;)V"⟩
abbrev b_X_decode : ByteArray := prog_1_method_9_code
abbrev y_X_decode : MethodName := ⟨"RunRows", "decode", "(I)I"⟩
abbrev b_U_read : ByteArray := prog_3_method_6_code
abbrev y_U_read : MethodName := ⟨"RunRows$Runs", "read", "(LRunRows$Bytes;III[I)V"⟩
abbrev b_B_takeVarint : ByteArray := prog_2_method_9_code
abbrev y_B_takeVarint : MethodName := ⟨"RunRows$Bytes", "takeVarint", "(I)J"⟩
abbrev b_B_take : ByteArray := prog_2_method_7_code
abbrev y_B_take : MethodName := ⟨"RunRows$Bytes", "take", "(I)I"⟩
abbrev b_B_fail : ByteArray := prog_2_method_10_code
abbrev y_B_fail : MethodName := ⟨"RunRows$Bytes", "fail", "(I)V"⟩
abbrev b_U_one : ByteArray := prog_3_method_7_code
abbrev y_U_one : MethodName := ⟨"RunRows$Runs", "one", "(LRunRows$Bytes;IJIII[I)I"⟩
abbrev b_B_takeFixed : ByteArray := prog_2_method_8_code
abbrev y_B_takeFixed : MethodName := ⟨"RunRows$Bytes", "takeFixed", "(II)J"⟩
abbrev b_U_groups : ByteArray := prog_3_method_8_code
abbrev y_U_groups : MethodName := ⟨"RunRows$Runs", "groups", "(LRunRows$Bytes;IJIII[I)I"⟩
abbrev b_X_turn : ByteArray := prog_1_method_10_code
abbrev y_X_turn : MethodName := ⟨"RunRows", "turn", "()Z"⟩
abbrev b_X_size : ByteArray := prog_1_method_11_code
abbrev y_X_size : MethodName := ⟨"RunRows", "size", "()I"⟩
abbrev b_X_value : ByteArray := prog_1_method_12_code
abbrev y_X_value : MethodName := ⟨"RunRows", "value", "(I)I"⟩
abbrev b_X_output : ByteArray := prog_1_method_13_code
abbrev y_X_output : MethodName := ⟨"RunRows", "output", "(I)I"⟩
abbrev b_M_init : ByteArray := prog_5_method_1_code
abbrev y_M_init : MethodName := ⟨"RunRowsModel", "<init>", "()V"⟩
abbrev b_M_feed : ByteArray := prog_5_method_6_code
abbrev y_M_feed : MethodName := ⟨"RunRowsModel", "feed", "(IIIII)Z"⟩
abbrev b_M_end : ByteArray := prog_5_method_7_code
abbrev y_M_end : MethodName := ⟨"RunRowsModel", "end", "(I)Z"⟩
abbrev b_M_width : ByteArray := prog_5_method_8_code
abbrev y_M_width : MethodName := ⟨"RunRowsModel", "width", "(I)Z"⟩
abbrev b_M_add : ByteArray := prog_5_method_9_code
abbrev y_M_add : MethodName := ⟨"RunRowsModel", "add", "(II)Z"⟩
abbrev b_M_clear : ByteArray := prog_5_method_10_code
abbrev y_M_clear : MethodName := ⟨"RunRowsModel", "clear", "()V"⟩
abbrev b_M_encode : ByteArray := prog_5_method_17_code
abbrev y_M_encode : MethodName := ⟨"RunRowsModel", "encode", "()I"⟩
abbrev b_M_writeRuns : ByteArray := prog_5_method_12_code
abbrev y_M_writeRuns : MethodName := ⟨"RunRowsModel", "writeRuns", "([III)V"⟩
abbrev b_M_alike : ByteArray := prog_5_method_11_code
abbrev y_M_alike : MethodName := ⟨"RunRowsModel", "alike", "([III)I"⟩
abbrev b_M_putVarint : ByteArray := prog_5_method_5_code
abbrev y_M_putVarint : MethodName := ⟨"RunRowsModel", "putVarint", "(J)V"⟩
abbrev b_M_put : ByteArray := prog_5_method_3_code
abbrev y_M_put : MethodName := ⟨"RunRowsModel", "put", "(I)V"⟩
abbrev b_M_decode : ByteArray := prog_5_method_18_code
abbrev y_M_decode : MethodName := ⟨"RunRowsModel", "decode", "(I)I"⟩
abbrev b_M_readRuns : ByteArray := prog_5_method_14_code
abbrev y_M_readRuns : MethodName := ⟨"RunRowsModel", "readRuns", "([IIII)V"⟩
abbrev b_M_varint : ByteArray := prog_5_method_4_code
abbrev y_M_varint : MethodName := ⟨"RunRowsModel", "varint", "(I)J"⟩
abbrev b_M_readOne : ByteArray := prog_5_method_15_code
abbrev y_M_readOne : MethodName := ⟨"RunRowsModel", "readOne", "([IIIIIJ)I"⟩
abbrev b_M_bitsAt : ByteArray := prog_5_method_13_code
abbrev y_M_bitsAt : MethodName := ⟨"RunRowsModel", "bitsAt", "(III)I"⟩
abbrev b_M_readGroups : ByteArray := prog_5_method_16_code
abbrev y_M_readGroups : MethodName := ⟨"RunRowsModel", "readGroups", "([IIIIIJ)I"⟩
abbrev b_M_turn : ByteArray := prog_5_method_19_code
abbrev y_M_turn : MethodName := ⟨"RunRowsModel", "turn", "()Z"⟩
abbrev b_M_size : ByteArray := prog_5_method_20_code
abbrev y_M_size : MethodName := ⟨"RunRowsModel", "size", "()I"⟩
abbrev b_M_value : ByteArray := prog_5_method_21_code
abbrev y_M_value : MethodName := ⟨"RunRowsModel", "value", "(I)I"⟩
abbrev b_M_output : ByteArray := prog_5_method_22_code
abbrev y_M_output : MethodName := ⟨"RunRowsModel", "output", "(I)I"⟩
theorem in_L : (Jvm.Cond.initialized "RunRowsLaw") ∈ gw := gw_in (tb_at 10 (by rfl)) (by rfl)
theorem in_X : (Jvm.Cond.initialized "RunRows") ∈ gw := gw_in (tb_at 11 (by rfl)) (by rfl)
theorem in_B : (Jvm.Cond.initialized "RunRows$Bytes") ∈ gw := gw_in (tb_at 12 (by rfl)) (by rfl)
theorem in_U : (Jvm.Cond.initialized "RunRows$Runs") ∈ gw := gw_in (tb_at 13 (by rfl)) (by rfl)
theorem in_M : (Jvm.Cond.initialized "RunRowsModel") ∈ gw := gw_in (tb_at 14 (by rfl)) (by rfl)
theorem in_Sys : (Jvm.Cond.initialized "java/lang/System") ∈ gw := gw_in (tb_at 15 (by rfl)) (by rfl)
theorem fl_B_9 : (Jvm.Cond.fieldLink "RunRows$Bytes" (9 : Nat) "RunRows$Bytes" "row" "[B") ∈ gw := gw_in (tb_at 31 (by rfl)) (by rfl)
theorem fl_B_15 : (Jvm.Cond.fieldLink "RunRows$Bytes" (15 : Nat) "RunRows$Bytes" "size" "I") ∈ gw := gw_in (tb_at 32 (by rfl)) (by rfl)
theorem fl_B_19 : (Jvm.Cond.fieldLink "RunRows$Bytes" (19 : Nat) "RunRows$Bytes" "at" "I") ∈ gw := gw_in (tb_at 34 (by rfl)) (by rfl)
theorem fl_B_22 : (Jvm.Cond.fieldLink "RunRows$Bytes" (22 : Nat) "RunRows$Bytes" "fault" "I") ∈ gw := gw_in (tb_at 37 (by rfl)) (by rfl)
theorem fl_U_9 : (Jvm.Cond.fieldLink "RunRows$Runs" (9 : Nat) "RunRows$Runs" "same" "[I") ∈ gw := gw_in (tb_at 56 (by rfl)) (by rfl)
theorem fl_X_14 : (Jvm.Cond.fieldLink "RunRows" (14 : Nat) "RunRows" "tape" "LRunRows$Bytes;") ∈ gw := gw_in (tb_at 61 (by rfl)) (by rfl)
theorem fl_X_18 : (Jvm.Cond.fieldLink "RunRows" (18 : Nat) "RunRows" "input" "LRunRows$Bytes;") ∈ gw := gw_in (tb_at 62 (by rfl)) (by rfl)
theorem fl_X_21 : (Jvm.Cond.fieldLink "RunRows" (21 : Nat) "RunRows" "out" "LRunRows$Bytes;") ∈ gw := gw_in (tb_at 63 (by rfl)) (by rfl)
theorem fl_X_27 : (Jvm.Cond.fieldLink "RunRows" (27 : Nat) "RunRows" "runs" "LRunRows$Runs;") ∈ gw := gw_in (tb_at 64 (by rfl)) (by rfl)
theorem fl_X_31 : (Jvm.Cond.fieldLink "RunRows" (31 : Nat) "RunRows" "row" "[I") ∈ gw := gw_in (tb_at 65 (by rfl)) (by rfl)
theorem fl_X_35 : (Jvm.Cond.fieldLink "RunRows" (35 : Nat) "RunRows" "spare" "[I") ∈ gw := gw_in (tb_at 66 (by rfl)) (by rfl)
theorem fl_X_58 : (Jvm.Cond.fieldLink "RunRows" (58 : Nat) "RunRows" "size" "I") ∈ gw := gw_in (tb_at 67 (by rfl)) (by rfl)
theorem fl_X_55 : (Jvm.Cond.fieldLink "RunRows" (55 : Nat) "RunRows" "width" "I") ∈ gw := gw_in (tb_at 68 (by rfl)) (by rfl)
theorem fl_M_25 : (Jvm.Cond.fieldLink "RunRowsModel" (25 : Nat) "RunRowsModel" "code" "I") ∈ gw := gw_in (tb_at 215 (by rfl)) (by rfl)
theorem fl_M_7 : (Jvm.Cond.fieldLink "RunRowsModel" (7 : Nat) "RunRowsModel" "row" "[I") ∈ gw := gw_in (tb_at 216 (by rfl)) (by rfl)
theorem fl_M_13 : (Jvm.Cond.fieldLink "RunRowsModel" (13 : Nat) "RunRowsModel" "spare" "[I") ∈ gw := gw_in (tb_at 217 (by rfl)) (by rfl)
theorem fl_M_53 : (Jvm.Cond.fieldLink "RunRowsModel" (53 : Nat) "RunRowsModel" "size" "I") ∈ gw := gw_in (tb_at 218 (by rfl)) (by rfl)
theorem fl_M_50 : (Jvm.Cond.fieldLink "RunRowsModel" (50 : Nat) "RunRowsModel" "width" "I") ∈ gw := gw_in (tb_at 219 (by rfl)) (by rfl)
theorem fl_M_44 : (Jvm.Cond.fieldLink "RunRowsModel" (44 : Nat) "RunRowsModel" "taped" "I") ∈ gw := gw_in (tb_at 220 (by rfl)) (by rfl)
theorem fl_M_47 : (Jvm.Cond.fieldLink "RunRowsModel" (47 : Nat) "RunRowsModel" "inputSize" "I") ∈ gw := gw_in (tb_at 221 (by rfl)) (by rfl)
theorem fl_M_29 : (Jvm.Cond.fieldLink "RunRowsModel" (29 : Nat) "RunRowsModel" "outSize" "I") ∈ gw := gw_in (tb_at 222 (by rfl)) (by rfl)
theorem fl_M_35 : (Jvm.Cond.fieldLink "RunRowsModel" (35 : Nat) "RunRowsModel" "at" "I") ∈ gw := gw_in (tb_at 223 (by rfl)) (by rfl)
theorem fl_M_32 : (Jvm.Cond.fieldLink "RunRowsModel" (32 : Nat) "RunRowsModel" "fault" "I") ∈ gw := gw_in (tb_at 224 (by rfl)) (by rfl)
theorem fl_M_16 : (Jvm.Cond.fieldLink "RunRowsModel" (16 : Nat) "RunRowsModel" "tape" "[I") ∈ gw := gw_in (tb_at 225 (by rfl)) (by rfl)
theorem fl_M_19 : (Jvm.Cond.fieldLink "RunRowsModel" (19 : Nat) "RunRowsModel" "input" "[I") ∈ gw := gw_in (tb_at 226 (by rfl)) (by rfl)
theorem fl_M_22 : (Jvm.Cond.fieldLink "RunRowsModel" (22 : Nat) "RunRowsModel" "out" "[I") ∈ gw := gw_in (tb_at 227 (by rfl)) (by rfl)
theorem ct_U_25 : (Jvm.Cond.constantLong "RunRows$Runs" (25 : Nat) (2 : Int64)) ∈ gw := gw_in (tb_at 143 (by rfl)) (by rfl)
theorem ct_B_35 : (Jvm.Cond.constantLong "RunRows$Bytes" (35 : Nat) (-128 : Int64)) ∈ gw := gw_in (tb_at 148 (by rfl)) (by rfl)
theorem ct_B_37 : (Jvm.Cond.constantLong "RunRows$Bytes" (37 : Nat) (127 : Int64)) ∈ gw := gw_in (tb_at 149 (by rfl)) (by rfl)
theorem ct_U_33 : (Jvm.Cond.constantLong "RunRows$Runs" (33 : Nat) (4294967295 : Int64)) ∈ gw := gw_in (tb_at 151 (by rfl)) (by rfl)
theorem ct_M_60 : (Jvm.Cond.constantLong "RunRowsModel" (60 : Nat) (2 : Int64)) ∈ gw := gw_in (tb_at 286 (by rfl)) (by rfl)
theorem ct_M_38 : (Jvm.Cond.constantLong "RunRowsModel" (38 : Nat) (127 : Int64)) ∈ gw := gw_in (tb_at 291 (by rfl)) (by rfl)
theorem ct_M_81 : (Jvm.Cond.constantLong "RunRowsModel" (81 : Nat) (8 : Int64)) ∈ gw := gw_in (tb_at 320 (by rfl)) (by rfl)
theorem cl_L_7 : (Jvm.Cond.classLink "RunRowsLaw" (7 : Nat) "RunRows") ∈ gw := gw_in (tb_at 17 (by rfl)) (by rfl)
theorem cl_X_7 : (Jvm.Cond.classLink "RunRows" (7 : Nat) "RunRows$Bytes") ∈ gw := gw_in (tb_at 25 (by rfl)) (by rfl)
theorem cl_X_24 : (Jvm.Cond.classLink "RunRows" (24 : Nat) "RunRows$Runs") ∈ gw := gw_in (tb_at 50 (by rfl)) (by rfl)
theorem cl_L_10 : (Jvm.Cond.classLink "RunRowsLaw" (10 : Nat) "RunRowsModel") ∈ gw := gw_in (tb_at 209 (by rfl)) (by rfl)
theorem ia_X : (Jvm.Cond.instantiable "RunRows" (8 : Nat)) ∈ gw := gw_in (tb_at 18 (by rfl)) (by rfl)
theorem ia_B : (Jvm.Cond.instantiable "RunRows$Bytes" (4 : Nat)) ∈ gw := gw_in (tb_at 26 (by rfl)) (by rfl)
theorem ia_U : (Jvm.Cond.instantiable "RunRows$Runs" (1 : Nat)) ∈ gw := gw_in (tb_at 51 (by rfl)) (by rfl)
theorem ia_M : (Jvm.Cond.instantiable "RunRowsModel" (13 : Nat)) ∈ gw := gw_in (tb_at 210 (by rfl)) (by rfl)
theorem ac_byte : (Jvm.Cond.arrayClass Jvm.ClassFile.FieldType.byte) ∈ gw := gw_in (tb_at 49 (by rfl)) (by rfl)
theorem ac_int : (Jvm.Cond.arrayClass Jvm.ClassFile.FieldType.int) ∈ gw := gw_in (tb_at 60 (by rfl)) (by rfl)
theorem nat_copy : (Jvm.Cond.native ({ cls := "java/lang/System", name := "arraycopy", desc := "(Ljava/lang/Object;ILjava/lang/Object;II)V" } : Jvm.MethodName)) ∈ gw := gw_in (tb_at 100 (by rfl)) (by rfl)
theorem cd_X_init : (Jvm.Cond.code ({ cls := "RunRows", name := "<init>", desc := "()V" } : Jvm.MethodName) prog_1_method_1_code (1 : Nat) (Option.none : Option Jvm.ClassFile.FieldType)) ∈ gw := gw_in (tb_at 21 (by rfl)) (by rfl)
theorem im_X_init : (Jvm.Cond.instanceMethod ({ cls := "RunRows", name := "<init>", desc := "()V" } : Jvm.MethodName)) ∈ gw := gw_in (tb_at 20 (by rfl)) (by rfl)
theorem cd_B_init : (Jvm.Cond.code ({ cls := "RunRows$Bytes", name := "<init>", desc := "(I)V" } : Jvm.MethodName) prog_2_method_1_code (2 : Nat) (Option.none : Option Jvm.ClassFile.FieldType)) ∈ gw := gw_in (tb_at 29 (by rfl)) (by rfl)
theorem im_B_init : (Jvm.Cond.instanceMethod ({ cls := "RunRows$Bytes", name := "<init>", desc := "(I)V" } : Jvm.MethodName)) ∈ gw := gw_in (tb_at 28 (by rfl)) (by rfl)
theorem cd_U_init : (Jvm.Cond.code ({ cls := "RunRows$Runs", name := "<init>", desc := "()V" } : Jvm.MethodName) prog_3_method_1_code (1 : Nat) (Option.none : Option Jvm.ClassFile.FieldType)) ∈ gw := gw_in (tb_at 54 (by rfl)) (by rfl)
theorem im_U_init : (Jvm.Cond.instanceMethod ({ cls := "RunRows$Runs", name := "<init>", desc := "()V" } : Jvm.MethodName)) ∈ gw := gw_in (tb_at 53 (by rfl)) (by rfl)
theorem cd_X_feed : (Jvm.Cond.code ({ cls := "RunRows", name := "feed", desc := "(IIIII)Z" } : Jvm.MethodName) prog_1_method_2_code (6 : Nat) (Option.some Jvm.ClassFile.FieldType.boolean)) ∈ gw := gw_in (tb_at 89 (by rfl)) (by rfl)
theorem im_X_feed : (Jvm.Cond.instanceMethod ({ cls := "RunRows", name := "feed", desc := "(IIIII)Z" } : Jvm.MethodName)) ∈ gw := gw_in (tb_at 87 (by rfl)) (by rfl)
theorem se_X_feed : (Jvm.Cond.selects "RunRows" ({ cls := "RunRows", name := "feed", desc := "(IIIII)Z" } : Jvm.MethodName) ({ cls := "RunRows", name := "feed", desc := "(IIIII)Z" } : Jvm.MethodName)) ∈ gw := gw_in (tb_at 88 (by rfl)) (by rfl)
theorem cd_X_four : (Jvm.Cond.code ({ cls := "RunRows", name := "four", desc := "(I)V" } : Jvm.MethodName) prog_1_method_3_code (3 : Nat) (Option.none : Option Jvm.ClassFile.FieldType)) ∈ gw := gw_in (tb_at 93 (by rfl)) (by rfl)
theorem im_X_four : (Jvm.Cond.instanceMethod ({ cls := "RunRows", name := "four", desc := "(I)V" } : Jvm.MethodName)) ∈ gw := gw_in (tb_at 92 (by rfl)) (by rfl)
theorem se_X_four : Cond.selects "RunRows" y_X_four y_X_four ∈ gw := gw_in (tb_at 0 (by rfl)) (by rfl)
theorem cd_B_put : (Jvm.Cond.code ({ cls := "RunRows$Bytes", name := "put", desc := "(I)V" } : Jvm.MethodName) prog_2_method_3_code (3 : Nat) (Option.none : Option Jvm.ClassFile.FieldType)) ∈ gw := gw_in (tb_at 97 (by rfl)) (by rfl)
theorem im_B_put : (Jvm.Cond.instanceMethod ({ cls := "RunRows$Bytes", name := "put", desc := "(I)V" } : Jvm.MethodName)) ∈ gw := gw_in (tb_at 95 (by rfl)) (by rfl)
theorem se_B_put : (Jvm.Cond.selects "RunRows$Bytes" ({ cls := "RunRows$Bytes", name := "put", desc := "(I)V" } : Jvm.MethodName) ({ cls := "RunRows$Bytes", name := "put", desc := "(I)V" } : Jvm.MethodName)) ∈ gw := gw_in (tb_at 96 (by rfl)) (by rfl)
theorem cd_X_end : (Jvm.Cond.code ({ cls := "RunRows", name := "end", desc := "(I)Z" } : Jvm.MethodName) prog_1_method_4_code (3 : Nat) (Option.some Jvm.ClassFile.FieldType.boolean)) ∈ gw := gw_in (tb_at 104 (by rfl)) (by rfl)
theorem im_X_end : (Jvm.Cond.instanceMethod ({ cls := "RunRows", name := "end", desc := "(I)Z" } : Jvm.MethodName)) ∈ gw := gw_in (tb_at 102 (by rfl)) (by rfl)
theorem se_X_end : (Jvm.Cond.selects "RunRows" ({ cls := "RunRows", name := "end", desc := "(I)Z" } : Jvm.MethodName) ({ cls := "RunRows", name := "end", desc := "(I)Z" } : Jvm.MethodName)) ∈ gw := gw_in (tb_at 103 (by rfl)) (by rfl)
theorem cd_B_clear : (Jvm.Cond.code ({ cls := "RunRows$Bytes", name := "clear", desc := "()V" } : Jvm.MethodName) prog_2_method_2_code (1 : Nat) (Option.none : Option Jvm.ClassFile.FieldType)) ∈ gw := gw_in (tb_at 108 (by rfl)) (by rfl)
theorem im_B_clear : (Jvm.Cond.instanceMethod ({ cls := "RunRows$Bytes", name := "clear", desc := "()V" } : Jvm.MethodName)) ∈ gw := gw_in (tb_at 106 (by rfl)) (by rfl)
theorem se_B_clear : (Jvm.Cond.selects "RunRows$Bytes" ({ cls := "RunRows$Bytes", name := "clear", desc := "()V" } : Jvm.MethodName) ({ cls := "RunRows$Bytes", name := "clear", desc := "()V" } : Jvm.MethodName)) ∈ gw := gw_in (tb_at 107 (by rfl)) (by rfl)
theorem cd_B_get : (Jvm.Cond.code ({ cls := "RunRows$Bytes", name := "get", desc := "(I)I" } : Jvm.MethodName) prog_2_method_6_code (2 : Nat) (Option.some Jvm.ClassFile.FieldType.int)) ∈ gw := gw_in (tb_at 112 (by rfl)) (by rfl)
theorem im_B_get : (Jvm.Cond.instanceMethod ({ cls := "RunRows$Bytes", name := "get", desc := "(I)I" } : Jvm.MethodName)) ∈ gw := gw_in (tb_at 110 (by rfl)) (by rfl)
theorem se_B_get : (Jvm.Cond.selects "RunRows$Bytes" ({ cls := "RunRows$Bytes", name := "get", desc := "(I)I" } : Jvm.MethodName) ({ cls := "RunRows$Bytes", name := "get", desc := "(I)I" } : Jvm.MethodName)) ∈ gw := gw_in (tb_at 111 (by rfl)) (by rfl)
theorem cd_X_width : (Jvm.Cond.code ({ cls := "RunRows", name := "width", desc := "(I)Z" } : Jvm.MethodName) prog_1_method_5_code (2 : Nat) (Option.some Jvm.ClassFile.FieldType.boolean)) ∈ gw := gw_in (tb_at 116 (by rfl)) (by rfl)
theorem im_X_width : (Jvm.Cond.instanceMethod ({ cls := "RunRows", name := "width", desc := "(I)Z" } : Jvm.MethodName)) ∈ gw := gw_in (tb_at 114 (by rfl)) (by rfl)
theorem se_X_width : (Jvm.Cond.selects "RunRows" ({ cls := "RunRows", name := "width", desc := "(I)Z" } : Jvm.MethodName) ({ cls := "RunRows", name := "width", desc := "(I)Z" } : Jvm.MethodName)) ∈ gw := gw_in (tb_at 115 (by rfl)) (by rfl)
theorem cd_X_add : (Jvm.Cond.code ({ cls := "RunRows", name := "add", desc := "(II)Z" } : Jvm.MethodName) prog_1_method_6_code (4 : Nat) (Option.some Jvm.ClassFile.FieldType.boolean)) ∈ gw := gw_in (tb_at 120 (by rfl)) (by rfl)
theorem im_X_add : (Jvm.Cond.instanceMethod ({ cls := "RunRows", name := "add", desc := "(II)Z" } : Jvm.MethodName)) ∈ gw := gw_in (tb_at 118 (by rfl)) (by rfl)
theorem se_X_add : (Jvm.Cond.selects "RunRows" ({ cls := "RunRows", name := "add", desc := "(II)Z" } : Jvm.MethodName) ({ cls := "RunRows", name := "add", desc := "(II)Z" } : Jvm.MethodName)) ∈ gw := gw_in (tb_at 119 (by rfl)) (by rfl)
theorem cd_X_clear : (Jvm.Cond.code ({ cls := "RunRows", name := "clear", desc := "()V" } : Jvm.MethodName) prog_1_method_7_code (1 : Nat) (Option.none : Option Jvm.ClassFile.FieldType)) ∈ gw := gw_in (tb_at 124 (by rfl)) (by rfl)
theorem im_X_clear : (Jvm.Cond.instanceMethod ({ cls := "RunRows", name := "clear", desc := "()V" } : Jvm.MethodName)) ∈ gw := gw_in (tb_at 122 (by rfl)) (by rfl)
theorem se_X_clear : (Jvm.Cond.selects "RunRows" ({ cls := "RunRows", name := "clear", desc := "()V" } : Jvm.MethodName) ({ cls := "RunRows", name := "clear", desc := "()V" } : Jvm.MethodName)) ∈ gw := gw_in (tb_at 123 (by rfl)) (by rfl)
theorem cd_X_encode : (Jvm.Cond.code ({ cls := "RunRows", name := "encode", desc := "()I" } : Jvm.MethodName) prog_1_method_8_code (3 : Nat) (Option.some Jvm.ClassFile.FieldType.int)) ∈ gw := gw_in (tb_at 128 (by rfl)) (by rfl)
theorem im_X_encode : (Jvm.Cond.instanceMethod ({ cls := "RunRows", name := "encode", desc := "()I" } : Jvm.MethodName)) ∈ gw := gw_in (tb_at 126 (by rfl)) (by rfl)
theorem se_X_encode : (Jvm.Cond.selects "RunRows" ({ cls := "RunRows", name := "encode", desc := "()I" } : Jvm.MethodName) ({ cls := "RunRows", name := "encode", desc := "()I" } : Jvm.MethodName)) ∈ gw := gw_in (tb_at 127 (by rfl)) (by rfl)
theorem cd_U_fits : (Jvm.Cond.code ({ cls := "RunRows$Runs", name := "fits", desc := "(II)Z" } : Jvm.MethodName) prog_3_method_3_code (2 : Nat) (Option.some Jvm.ClassFile.FieldType.boolean)) ∈ gw := gw_in (tb_at 131 (by rfl)) (by rfl)
theorem st_U_fits : (Jvm.Cond.static ({ cls := "RunRows$Runs", name := "fits", desc := "(II)Z" } : Jvm.MethodName)) ∈ gw := gw_in (tb_at 130 (by rfl)) (by rfl)
theorem cd_U_write : (Jvm.Cond.code ({ cls := "RunRows$Runs", name := "write", desc := "([IIILRunRows$Bytes;)V" } : Jvm.MethodName) prog_3_method_4_code (8 : Nat) (Option.none : Option Jvm.ClassFile.FieldType)) ∈ gw := gw_in (tb_at 135 (by rfl)) (by rfl)
theorem im_U_write : (Jvm.Cond.instanceMethod ({ cls := "RunRows$Runs", name := "write", desc := "([IIILRunRows$Bytes;)V" } : Jvm.MethodName)) ∈ gw := gw_in (tb_at 133 (by rfl)) (by rfl)
theorem se_U_write : (Jvm.Cond.selects "RunRows$Runs" ({ cls := "RunRows$Runs", name := "write", desc := "([IIILRunRows$Bytes;)V" } : Jvm.MethodName) ({ cls := "RunRows$Runs", name := "write", desc := "([IIILRunRows$Bytes;)V" } : Jvm.MethodName)) ∈ gw := gw_in (tb_at 134 (by rfl)) (by rfl)
theorem cd_U_look : (Jvm.Cond.code ({ cls := "RunRows$Runs", name := "look", desc := "([II)V" } : Jvm.MethodName) prog_3_method_2_code (4 : Nat) (Option.none : Option Jvm.ClassFile.FieldType)) ∈ gw := gw_in (tb_at 139 (by rfl)) (by rfl)
theorem im_U_look : (Jvm.Cond.instanceMethod ({ cls := "RunRows$Runs", name := "look", desc := "([II)V" } : Jvm.MethodName)) ∈ gw := gw_in (tb_at 138 (by rfl)) (by rfl)
theorem se_U_look : Cond.selects "RunRows$Runs" y_U_look y_U_look ∈ gw := gw_in (tb_at 1 (by rfl)) (by rfl)
theorem cd_B_putVarint : (Jvm.Cond.code ({ cls := "RunRows$Bytes", name := "putVarint", desc := "(J)V" } : Jvm.MethodName) prog_2_method_5_code (5 : Nat) (Option.none : Option Jvm.ClassFile.FieldType)) ∈ gw := gw_in (tb_at 147 (by rfl)) (by rfl)
theorem im_B_putVarint : (Jvm.Cond.instanceMethod ({ cls := "RunRows$Bytes", name := "putVarint", desc := "(J)V" } : Jvm.MethodName)) ∈ gw := gw_in (tb_at 145 (by rfl)) (by rfl)
theorem se_B_putVarint : (Jvm.Cond.selects "RunRows$Bytes" ({ cls := "RunRows$Bytes", name := "putVarint", desc := "(J)V" } : Jvm.MethodName) ({ cls := "RunRows$Bytes", name := "putVarint", desc := "(J)V" } : Jvm.MethodName)) ∈ gw := gw_in (tb_at 146 (by rfl)) (by rfl)
theorem cd_B_putFixed : (Jvm.Cond.code ({ cls := "RunRows$Bytes", name := "putFixed", desc := "(JI)V" } : Jvm.MethodName) prog_2_method_4_code (5 : Nat) (Option.none : Option Jvm.ClassFile.FieldType)) ∈ gw := gw_in (tb_at 155 (by rfl)) (by rfl)
theorem im_B_putFixed : (Jvm.Cond.instanceMethod ({ cls := "RunRows$Bytes", name := "putFixed", desc := "(JI)V" } : Jvm.MethodName)) ∈ gw := gw_in (tb_at 153 (by rfl)) (by rfl)
theorem se_B_putFixed : (Jvm.Cond.selects "RunRows$Bytes" ({ cls := "RunRows$Bytes", name := "putFixed", desc := "(JI)V" } : Jvm.MethodName) ({ cls := "RunRows$Bytes", name := "putFixed", desc := "(JI)V" } : Jvm.MethodName)) ∈ gw := gw_in (tb_at 154 (by rfl)) (by rfl)
theorem cd_U_pack : (Jvm.Cond.code ({ cls := "RunRows$Runs", name := "pack", desc := "([IIIIILRunRows$Bytes;)V" } : Jvm.MethodName) prog_3_method_5_code (10 : Nat) (Option.none : Option Jvm.ClassFile.FieldType)) ∈ gw := gw_in (tb_at 158 (by rfl)) (by rfl)
theorem st_U_pack : (Jvm.Cond.static ({ cls := "RunRows$Runs", name := "pack", desc := "([IIIIILRunRows$Bytes;)V" } : Jvm.MethodName)) ∈ gw := gw_in (tb_at 157 (by rfl)) (by rfl)
theorem cd_X_decode : (Jvm.Cond.code ({ cls := "RunRows", name := "decode", desc := "(I)I" } : Jvm.MethodName) prog_1_method_9_code (2 : Nat) (Option.some Jvm.ClassFile.FieldType.int)) ∈ gw := gw_in (tb_at 163 (by rfl)) (by rfl)
theorem im_X_decode : (Jvm.Cond.instanceMethod ({ cls := "RunRows", name := "decode", desc := "(I)I" } : Jvm.MethodName)) ∈ gw := gw_in (tb_at 161 (by rfl)) (by rfl)
theorem se_X_decode : (Jvm.Cond.selects "RunRows" ({ cls := "RunRows", name := "decode", desc := "(I)I" } : Jvm.MethodName) ({ cls := "RunRows", name := "decode", desc := "(I)I" } : Jvm.MethodName)) ∈ gw := gw_in (tb_at 162 (by rfl)) (by rfl)
theorem cd_U_read : (Jvm.Cond.code ({ cls := "RunRows$Runs", name := "read", desc := "(LRunRows$Bytes;III[I)V" } : Jvm.MethodName) prog_3_method_6_code (9 : Nat) (Option.none : Option Jvm.ClassFile.FieldType)) ∈ gw := gw_in (tb_at 167 (by rfl)) (by rfl)
theorem im_U_read : (Jvm.Cond.instanceMethod ({ cls := "RunRows$Runs", name := "read", desc := "(LRunRows$Bytes;III[I)V" } : Jvm.MethodName)) ∈ gw := gw_in (tb_at 165 (by rfl)) (by rfl)
theorem se_U_read : (Jvm.Cond.selects "RunRows$Runs" ({ cls := "RunRows$Runs", name := "read", desc := "(LRunRows$Bytes;III[I)V" } : Jvm.MethodName) ({ cls := "RunRows$Runs", name := "read", desc := "(LRunRows$Bytes;III[I)V" } : Jvm.MethodName)) ∈ gw := gw_in (tb_at 166 (by rfl)) (by rfl)
theorem cd_B_takeVarint : (Jvm.Cond.code ({ cls := "RunRows$Bytes", name := "takeVarint", desc := "(I)J" } : Jvm.MethodName) prog_2_method_9_code (6 : Nat) (Option.some Jvm.ClassFile.FieldType.long)) ∈ gw := gw_in (tb_at 171 (by rfl)) (by rfl)
theorem im_B_takeVarint : (Jvm.Cond.instanceMethod ({ cls := "RunRows$Bytes", name := "takeVarint", desc := "(I)J" } : Jvm.MethodName)) ∈ gw := gw_in (tb_at 169 (by rfl)) (by rfl)
theorem se_B_takeVarint : (Jvm.Cond.selects "RunRows$Bytes" ({ cls := "RunRows$Bytes", name := "takeVarint", desc := "(I)J" } : Jvm.MethodName) ({ cls := "RunRows$Bytes", name := "takeVarint", desc := "(I)J" } : Jvm.MethodName)) ∈ gw := gw_in (tb_at 170 (by rfl)) (by rfl)
theorem cd_B_take : (Jvm.Cond.code ({ cls := "RunRows$Bytes", name := "take", desc := "(I)I" } : Jvm.MethodName) prog_2_method_7_code (2 : Nat) (Option.some Jvm.ClassFile.FieldType.int)) ∈ gw := gw_in (tb_at 175 (by rfl)) (by rfl)
theorem im_B_take : (Jvm.Cond.instanceMethod ({ cls := "RunRows$Bytes", name := "take", desc := "(I)I" } : Jvm.MethodName)) ∈ gw := gw_in (tb_at 173 (by rfl)) (by rfl)
theorem se_B_take : (Jvm.Cond.selects "RunRows$Bytes" ({ cls := "RunRows$Bytes", name := "take", desc := "(I)I" } : Jvm.MethodName) ({ cls := "RunRows$Bytes", name := "take", desc := "(I)I" } : Jvm.MethodName)) ∈ gw := gw_in (tb_at 174 (by rfl)) (by rfl)
theorem cd_B_fail : (Jvm.Cond.code ({ cls := "RunRows$Bytes", name := "fail", desc := "(I)V" } : Jvm.MethodName) prog_2_method_10_code (2 : Nat) (Option.none : Option Jvm.ClassFile.FieldType)) ∈ gw := gw_in (tb_at 179 (by rfl)) (by rfl)
theorem im_B_fail : (Jvm.Cond.instanceMethod ({ cls := "RunRows$Bytes", name := "fail", desc := "(I)V" } : Jvm.MethodName)) ∈ gw := gw_in (tb_at 177 (by rfl)) (by rfl)
theorem se_B_fail : (Jvm.Cond.selects "RunRows$Bytes" ({ cls := "RunRows$Bytes", name := "fail", desc := "(I)V" } : Jvm.MethodName) ({ cls := "RunRows$Bytes", name := "fail", desc := "(I)V" } : Jvm.MethodName)) ∈ gw := gw_in (tb_at 178 (by rfl)) (by rfl)
theorem cd_U_one : (Jvm.Cond.code ({ cls := "RunRows$Runs", name := "one", desc := "(LRunRows$Bytes;IJIII[I)I" } : Jvm.MethodName) prog_3_method_7_code (12 : Nat) (Option.some Jvm.ClassFile.FieldType.int)) ∈ gw := gw_in (tb_at 183 (by rfl)) (by rfl)
theorem st_U_one : (Jvm.Cond.static ({ cls := "RunRows$Runs", name := "one", desc := "(LRunRows$Bytes;IJIII[I)I" } : Jvm.MethodName)) ∈ gw := gw_in (tb_at 182 (by rfl)) (by rfl)
theorem cd_B_takeFixed : (Jvm.Cond.code ({ cls := "RunRows$Bytes", name := "takeFixed", desc := "(II)J" } : Jvm.MethodName) prog_2_method_8_code (6 : Nat) (Option.some Jvm.ClassFile.FieldType.long)) ∈ gw := gw_in (tb_at 187 (by rfl)) (by rfl)
theorem im_B_takeFixed : (Jvm.Cond.instanceMethod ({ cls := "RunRows$Bytes", name := "takeFixed", desc := "(II)J" } : Jvm.MethodName)) ∈ gw := gw_in (tb_at 185 (by rfl)) (by rfl)
theorem se_B_takeFixed : (Jvm.Cond.selects "RunRows$Bytes" ({ cls := "RunRows$Bytes", name := "takeFixed", desc := "(II)J" } : Jvm.MethodName) ({ cls := "RunRows$Bytes", name := "takeFixed", desc := "(II)J" } : Jvm.MethodName)) ∈ gw := gw_in (tb_at 186 (by rfl)) (by rfl)
theorem cd_U_groups : (Jvm.Cond.code ({ cls := "RunRows$Runs", name := "groups", desc := "(LRunRows$Bytes;IJIII[I)I" } : Jvm.MethodName) prog_3_method_8_code (15 : Nat) (Option.some Jvm.ClassFile.FieldType.int)) ∈ gw := gw_in (tb_at 190 (by rfl)) (by rfl)
theorem st_U_groups : (Jvm.Cond.static ({ cls := "RunRows$Runs", name := "groups", desc := "(LRunRows$Bytes;IJIII[I)I" } : Jvm.MethodName)) ∈ gw := gw_in (tb_at 189 (by rfl)) (by rfl)
theorem cd_X_turn : (Jvm.Cond.code ({ cls := "RunRows", name := "turn", desc := "()Z" } : Jvm.MethodName) prog_1_method_10_code (2 : Nat) (Option.some Jvm.ClassFile.FieldType.boolean)) ∈ gw := gw_in (tb_at 196 (by rfl)) (by rfl)
theorem im_X_turn : (Jvm.Cond.instanceMethod ({ cls := "RunRows", name := "turn", desc := "()Z" } : Jvm.MethodName)) ∈ gw := gw_in (tb_at 194 (by rfl)) (by rfl)
theorem se_X_turn : (Jvm.Cond.selects "RunRows" ({ cls := "RunRows", name := "turn", desc := "()Z" } : Jvm.MethodName) ({ cls := "RunRows", name := "turn", desc := "()Z" } : Jvm.MethodName)) ∈ gw := gw_in (tb_at 195 (by rfl)) (by rfl)
theorem cd_X_size : (Jvm.Cond.code ({ cls := "RunRows", name := "size", desc := "()I" } : Jvm.MethodName) prog_1_method_11_code (1 : Nat) (Option.some Jvm.ClassFile.FieldType.int)) ∈ gw := gw_in (tb_at 200 (by rfl)) (by rfl)
theorem im_X_size : (Jvm.Cond.instanceMethod ({ cls := "RunRows", name := "size", desc := "()I" } : Jvm.MethodName)) ∈ gw := gw_in (tb_at 198 (by rfl)) (by rfl)
theorem se_X_size : (Jvm.Cond.selects "RunRows" ({ cls := "RunRows", name := "size", desc := "()I" } : Jvm.MethodName) ({ cls := "RunRows", name := "size", desc := "()I" } : Jvm.MethodName)) ∈ gw := gw_in (tb_at 199 (by rfl)) (by rfl)
theorem cd_X_value : (Jvm.Cond.code ({ cls := "RunRows", name := "value", desc := "(I)I" } : Jvm.MethodName) prog_1_method_12_code (2 : Nat) (Option.some Jvm.ClassFile.FieldType.int)) ∈ gw := gw_in (tb_at 204 (by rfl)) (by rfl)
theorem im_X_value : (Jvm.Cond.instanceMethod ({ cls := "RunRows", name := "value", desc := "(I)I" } : Jvm.MethodName)) ∈ gw := gw_in (tb_at 202 (by rfl)) (by rfl)
theorem se_X_value : (Jvm.Cond.selects "RunRows" ({ cls := "RunRows", name := "value", desc := "(I)I" } : Jvm.MethodName) ({ cls := "RunRows", name := "value", desc := "(I)I" } : Jvm.MethodName)) ∈ gw := gw_in (tb_at 203 (by rfl)) (by rfl)
theorem cd_X_output : (Jvm.Cond.code ({ cls := "RunRows", name := "output", desc := "(I)I" } : Jvm.MethodName) prog_1_method_13_code (2 : Nat) (Option.some Jvm.ClassFile.FieldType.int)) ∈ gw := gw_in (tb_at 208 (by rfl)) (by rfl)
theorem im_X_output : (Jvm.Cond.instanceMethod ({ cls := "RunRows", name := "output", desc := "(I)I" } : Jvm.MethodName)) ∈ gw := gw_in (tb_at 206 (by rfl)) (by rfl)
theorem se_X_output : (Jvm.Cond.selects "RunRows" ({ cls := "RunRows", name := "output", desc := "(I)I" } : Jvm.MethodName) ({ cls := "RunRows", name := "output", desc := "(I)I" } : Jvm.MethodName)) ∈ gw := gw_in (tb_at 207 (by rfl)) (by rfl)
theorem cd_M_init : (Jvm.Cond.code ({ cls := "RunRowsModel", name := "<init>", desc := "()V" } : Jvm.MethodName) prog_5_method_1_code (1 : Nat) (Option.none : Option Jvm.ClassFile.FieldType)) ∈ gw := gw_in (tb_at 213 (by rfl)) (by rfl)
theorem im_M_init : (Jvm.Cond.instanceMethod ({ cls := "RunRowsModel", name := "<init>", desc := "()V" } : Jvm.MethodName)) ∈ gw := gw_in (tb_at 212 (by rfl)) (by rfl)
theorem cd_M_feed : (Jvm.Cond.code ({ cls := "RunRowsModel", name := "feed", desc := "(IIIII)Z" } : Jvm.MethodName) prog_5_method_6_code (8 : Nat) (Option.some Jvm.ClassFile.FieldType.boolean)) ∈ gw := gw_in (tb_at 258 (by rfl)) (by rfl)
theorem im_M_feed : (Jvm.Cond.instanceMethod ({ cls := "RunRowsModel", name := "feed", desc := "(IIIII)Z" } : Jvm.MethodName)) ∈ gw := gw_in (tb_at 256 (by rfl)) (by rfl)
theorem se_M_feed : (Jvm.Cond.selects "RunRowsModel" ({ cls := "RunRowsModel", name := "feed", desc := "(IIIII)Z" } : Jvm.MethodName) ({ cls := "RunRowsModel", name := "feed", desc := "(IIIII)Z" } : Jvm.MethodName)) ∈ gw := gw_in (tb_at 257 (by rfl)) (by rfl)
theorem cd_M_end : (Jvm.Cond.code ({ cls := "RunRowsModel", name := "end", desc := "(I)Z" } : Jvm.MethodName) prog_5_method_7_code (3 : Nat) (Option.some Jvm.ClassFile.FieldType.boolean)) ∈ gw := gw_in (tb_at 262 (by rfl)) (by rfl)
theorem im_M_end : (Jvm.Cond.instanceMethod ({ cls := "RunRowsModel", name := "end", desc := "(I)Z" } : Jvm.MethodName)) ∈ gw := gw_in (tb_at 260 (by rfl)) (by rfl)
theorem se_M_end : (Jvm.Cond.selects "RunRowsModel" ({ cls := "RunRowsModel", name := "end", desc := "(I)Z" } : Jvm.MethodName) ({ cls := "RunRowsModel", name := "end", desc := "(I)Z" } : Jvm.MethodName)) ∈ gw := gw_in (tb_at 261 (by rfl)) (by rfl)
theorem cd_M_width : (Jvm.Cond.code ({ cls := "RunRowsModel", name := "width", desc := "(I)Z" } : Jvm.MethodName) prog_5_method_8_code (2 : Nat) (Option.some Jvm.ClassFile.FieldType.boolean)) ∈ gw := gw_in (tb_at 266 (by rfl)) (by rfl)
theorem im_M_width : (Jvm.Cond.instanceMethod ({ cls := "RunRowsModel", name := "width", desc := "(I)Z" } : Jvm.MethodName)) ∈ gw := gw_in (tb_at 264 (by rfl)) (by rfl)
theorem se_M_width : (Jvm.Cond.selects "RunRowsModel" ({ cls := "RunRowsModel", name := "width", desc := "(I)Z" } : Jvm.MethodName) ({ cls := "RunRowsModel", name := "width", desc := "(I)Z" } : Jvm.MethodName)) ∈ gw := gw_in (tb_at 265 (by rfl)) (by rfl)
theorem cd_M_add : (Jvm.Cond.code ({ cls := "RunRowsModel", name := "add", desc := "(II)Z" } : Jvm.MethodName) prog_5_method_9_code (4 : Nat) (Option.some Jvm.ClassFile.FieldType.boolean)) ∈ gw := gw_in (tb_at 270 (by rfl)) (by rfl)
theorem im_M_add : (Jvm.Cond.instanceMethod ({ cls := "RunRowsModel", name := "add", desc := "(II)Z" } : Jvm.MethodName)) ∈ gw := gw_in (tb_at 268 (by rfl)) (by rfl)
theorem se_M_add : (Jvm.Cond.selects "RunRowsModel" ({ cls := "RunRowsModel", name := "add", desc := "(II)Z" } : Jvm.MethodName) ({ cls := "RunRowsModel", name := "add", desc := "(II)Z" } : Jvm.MethodName)) ∈ gw := gw_in (tb_at 269 (by rfl)) (by rfl)
theorem cd_M_clear : (Jvm.Cond.code ({ cls := "RunRowsModel", name := "clear", desc := "()V" } : Jvm.MethodName) prog_5_method_10_code (1 : Nat) (Option.none : Option Jvm.ClassFile.FieldType)) ∈ gw := gw_in (tb_at 274 (by rfl)) (by rfl)
theorem im_M_clear : (Jvm.Cond.instanceMethod ({ cls := "RunRowsModel", name := "clear", desc := "()V" } : Jvm.MethodName)) ∈ gw := gw_in (tb_at 272 (by rfl)) (by rfl)
theorem se_M_clear : (Jvm.Cond.selects "RunRowsModel" ({ cls := "RunRowsModel", name := "clear", desc := "()V" } : Jvm.MethodName) ({ cls := "RunRowsModel", name := "clear", desc := "()V" } : Jvm.MethodName)) ∈ gw := gw_in (tb_at 273 (by rfl)) (by rfl)
theorem cd_M_encode : (Jvm.Cond.code ({ cls := "RunRowsModel", name := "encode", desc := "()I" } : Jvm.MethodName) prog_5_method_17_code (2 : Nat) (Option.some Jvm.ClassFile.FieldType.int)) ∈ gw := gw_in (tb_at 278 (by rfl)) (by rfl)
theorem im_M_encode : (Jvm.Cond.instanceMethod ({ cls := "RunRowsModel", name := "encode", desc := "()I" } : Jvm.MethodName)) ∈ gw := gw_in (tb_at 276 (by rfl)) (by rfl)
theorem se_M_encode : (Jvm.Cond.selects "RunRowsModel" ({ cls := "RunRowsModel", name := "encode", desc := "()I" } : Jvm.MethodName) ({ cls := "RunRowsModel", name := "encode", desc := "()I" } : Jvm.MethodName)) ∈ gw := gw_in (tb_at 277 (by rfl)) (by rfl)
theorem cd_M_writeRuns : (Jvm.Cond.code ({ cls := "RunRowsModel", name := "writeRuns", desc := "([III)V" } : Jvm.MethodName) prog_5_method_12_code (11 : Nat) (Option.none : Option Jvm.ClassFile.FieldType)) ∈ gw := gw_in (tb_at 282 (by rfl)) (by rfl)
theorem im_M_writeRuns : (Jvm.Cond.instanceMethod ({ cls := "RunRowsModel", name := "writeRuns", desc := "([III)V" } : Jvm.MethodName)) ∈ gw := gw_in (tb_at 281 (by rfl)) (by rfl)
theorem se_M_writeRuns : Cond.selects "RunRowsModel" y_M_writeRuns y_M_writeRuns ∈ gw := gw_in (tb_at 2 (by rfl)) (by rfl)
theorem cd_M_alike : (Jvm.Cond.code ({ cls := "RunRowsModel", name := "alike", desc := "([III)I" } : Jvm.MethodName) prog_5_method_11_code (4 : Nat) (Option.some Jvm.ClassFile.FieldType.int)) ∈ gw := gw_in (tb_at 285 (by rfl)) (by rfl)
theorem st_M_alike : (Jvm.Cond.static ({ cls := "RunRowsModel", name := "alike", desc := "([III)I" } : Jvm.MethodName)) ∈ gw := gw_in (tb_at 284 (by rfl)) (by rfl)
theorem cd_M_putVarint : (Jvm.Cond.code ({ cls := "RunRowsModel", name := "putVarint", desc := "(J)V" } : Jvm.MethodName) prog_5_method_5_code (5 : Nat) (Option.none : Option Jvm.ClassFile.FieldType)) ∈ gw := gw_in (tb_at 290 (by rfl)) (by rfl)
theorem im_M_putVarint : (Jvm.Cond.instanceMethod ({ cls := "RunRowsModel", name := "putVarint", desc := "(J)V" } : Jvm.MethodName)) ∈ gw := gw_in (tb_at 289 (by rfl)) (by rfl)
theorem se_M_putVarint : Cond.selects "RunRowsModel" y_M_putVarint y_M_putVarint ∈ gw := gw_in (tb_at 3 (by rfl)) (by rfl)
theorem cd_M_put : (Jvm.Cond.code ({ cls := "RunRowsModel", name := "put", desc := "(I)V" } : Jvm.MethodName) prog_5_method_3_code (2 : Nat) (Option.none : Option Jvm.ClassFile.FieldType)) ∈ gw := gw_in (tb_at 295 (by rfl)) (by rfl)
theorem im_M_put : (Jvm.Cond.instanceMethod ({ cls := "RunRowsModel", name := "put", desc := "(I)V" } : Jvm.MethodName)) ∈ gw := gw_in (tb_at 294 (by rfl)) (by rfl)
theorem se_M_put : Cond.selects "RunRowsModel" y_M_put y_M_put ∈ gw := gw_in (tb_at 4 (by rfl)) (by rfl)
theorem cd_M_decode : (Jvm.Cond.code ({ cls := "RunRowsModel", name := "decode", desc := "(I)I" } : Jvm.MethodName) prog_5_method_18_code (3 : Nat) (Option.some Jvm.ClassFile.FieldType.int)) ∈ gw := gw_in (tb_at 299 (by rfl)) (by rfl)
theorem im_M_decode : (Jvm.Cond.instanceMethod ({ cls := "RunRowsModel", name := "decode", desc := "(I)I" } : Jvm.MethodName)) ∈ gw := gw_in (tb_at 297 (by rfl)) (by rfl)
theorem se_M_decode : (Jvm.Cond.selects "RunRowsModel" ({ cls := "RunRowsModel", name := "decode", desc := "(I)I" } : Jvm.MethodName) ({ cls := "RunRowsModel", name := "decode", desc := "(I)I" } : Jvm.MethodName)) ∈ gw := gw_in (tb_at 298 (by rfl)) (by rfl)
theorem cd_M_readRuns : (Jvm.Cond.code ({ cls := "RunRowsModel", name := "readRuns", desc := "([IIII)V" } : Jvm.MethodName) prog_5_method_14_code (10 : Nat) (Option.none : Option Jvm.ClassFile.FieldType)) ∈ gw := gw_in (tb_at 303 (by rfl)) (by rfl)
theorem im_M_readRuns : (Jvm.Cond.instanceMethod ({ cls := "RunRowsModel", name := "readRuns", desc := "([IIII)V" } : Jvm.MethodName)) ∈ gw := gw_in (tb_at 302 (by rfl)) (by rfl)
theorem se_M_readRuns : Cond.selects "RunRowsModel" y_M_readRuns y_M_readRuns ∈ gw := gw_in (tb_at 5 (by rfl)) (by rfl)
theorem cd_M_varint : (Jvm.Cond.code ({ cls := "RunRowsModel", name := "varint", desc := "(I)J" } : Jvm.MethodName) prog_5_method_4_code (6 : Nat) (Option.some Jvm.ClassFile.FieldType.long)) ∈ gw := gw_in (tb_at 307 (by rfl)) (by rfl)
theorem im_M_varint : (Jvm.Cond.instanceMethod ({ cls := "RunRowsModel", name := "varint", desc := "(I)J" } : Jvm.MethodName)) ∈ gw := gw_in (tb_at 306 (by rfl)) (by rfl)
theorem se_M_varint : Cond.selects "RunRowsModel" y_M_varint y_M_varint ∈ gw := gw_in (tb_at 6 (by rfl)) (by rfl)
theorem cd_M_readOne : (Jvm.Cond.code ({ cls := "RunRowsModel", name := "readOne", desc := "([IIIIIJ)I" } : Jvm.MethodName) prog_5_method_15_code (11 : Nat) (Option.some Jvm.ClassFile.FieldType.int)) ∈ gw := gw_in (tb_at 311 (by rfl)) (by rfl)
theorem im_M_readOne : (Jvm.Cond.instanceMethod ({ cls := "RunRowsModel", name := "readOne", desc := "([IIIIIJ)I" } : Jvm.MethodName)) ∈ gw := gw_in (tb_at 310 (by rfl)) (by rfl)
theorem se_M_readOne : Cond.selects "RunRowsModel" y_M_readOne y_M_readOne ∈ gw := gw_in (tb_at 7 (by rfl)) (by rfl)
theorem cd_M_bitsAt : (Jvm.Cond.code ({ cls := "RunRowsModel", name := "bitsAt", desc := "(III)I" } : Jvm.MethodName) prog_5_method_13_code (6 : Nat) (Option.some Jvm.ClassFile.FieldType.int)) ∈ gw := gw_in (tb_at 315 (by rfl)) (by rfl)
theorem im_M_bitsAt : (Jvm.Cond.instanceMethod ({ cls := "RunRowsModel", name := "bitsAt", desc := "(III)I" } : Jvm.MethodName)) ∈ gw := gw_in (tb_at 314 (by rfl)) (by rfl)
theorem se_M_bitsAt : Cond.selects "RunRowsModel" y_M_bitsAt y_M_bitsAt ∈ gw := gw_in (tb_at 8 (by rfl)) (by rfl)
theorem cd_M_readGroups : (Jvm.Cond.code ({ cls := "RunRowsModel", name := "readGroups", desc := "([IIIIIJ)I" } : Jvm.MethodName) prog_5_method_16_code (10 : Nat) (Option.some Jvm.ClassFile.FieldType.int)) ∈ gw := gw_in (tb_at 319 (by rfl)) (by rfl)
theorem im_M_readGroups : (Jvm.Cond.instanceMethod ({ cls := "RunRowsModel", name := "readGroups", desc := "([IIIIIJ)I" } : Jvm.MethodName)) ∈ gw := gw_in (tb_at 318 (by rfl)) (by rfl)
theorem se_M_readGroups : Cond.selects "RunRowsModel" y_M_readGroups y_M_readGroups ∈ gw := gw_in (tb_at 9 (by rfl)) (by rfl)
theorem cd_M_turn : (Jvm.Cond.code ({ cls := "RunRowsModel", name := "turn", desc := "()Z" } : Jvm.MethodName) prog_5_method_19_code (2 : Nat) (Option.some Jvm.ClassFile.FieldType.boolean)) ∈ gw := gw_in (tb_at 324 (by rfl)) (by rfl)
theorem im_M_turn : (Jvm.Cond.instanceMethod ({ cls := "RunRowsModel", name := "turn", desc := "()Z" } : Jvm.MethodName)) ∈ gw := gw_in (tb_at 322 (by rfl)) (by rfl)
theorem se_M_turn : (Jvm.Cond.selects "RunRowsModel" ({ cls := "RunRowsModel", name := "turn", desc := "()Z" } : Jvm.MethodName) ({ cls := "RunRowsModel", name := "turn", desc := "()Z" } : Jvm.MethodName)) ∈ gw := gw_in (tb_at 323 (by rfl)) (by rfl)
theorem cd_M_size : (Jvm.Cond.code ({ cls := "RunRowsModel", name := "size", desc := "()I" } : Jvm.MethodName) prog_5_method_20_code (1 : Nat) (Option.some Jvm.ClassFile.FieldType.int)) ∈ gw := gw_in (tb_at 328 (by rfl)) (by rfl)
theorem im_M_size : (Jvm.Cond.instanceMethod ({ cls := "RunRowsModel", name := "size", desc := "()I" } : Jvm.MethodName)) ∈ gw := gw_in (tb_at 326 (by rfl)) (by rfl)
theorem se_M_size : (Jvm.Cond.selects "RunRowsModel" ({ cls := "RunRowsModel", name := "size", desc := "()I" } : Jvm.MethodName) ({ cls := "RunRowsModel", name := "size", desc := "()I" } : Jvm.MethodName)) ∈ gw := gw_in (tb_at 327 (by rfl)) (by rfl)
theorem cd_M_value : (Jvm.Cond.code ({ cls := "RunRowsModel", name := "value", desc := "(I)I" } : Jvm.MethodName) prog_5_method_21_code (2 : Nat) (Option.some Jvm.ClassFile.FieldType.int)) ∈ gw := gw_in (tb_at 332 (by rfl)) (by rfl)
theorem im_M_value : (Jvm.Cond.instanceMethod ({ cls := "RunRowsModel", name := "value", desc := "(I)I" } : Jvm.MethodName)) ∈ gw := gw_in (tb_at 330 (by rfl)) (by rfl)
theorem se_M_value : (Jvm.Cond.selects "RunRowsModel" ({ cls := "RunRowsModel", name := "value", desc := "(I)I" } : Jvm.MethodName) ({ cls := "RunRowsModel", name := "value", desc := "(I)I" } : Jvm.MethodName)) ∈ gw := gw_in (tb_at 331 (by rfl)) (by rfl)
theorem cd_M_output : (Jvm.Cond.code ({ cls := "RunRowsModel", name := "output", desc := "(I)I" } : Jvm.MethodName) prog_5_method_22_code (2 : Nat) (Option.some Jvm.ClassFile.FieldType.int)) ∈ gw := gw_in (tb_at 336 (by rfl)) (by rfl)
theorem im_M_output : (Jvm.Cond.instanceMethod ({ cls := "RunRowsModel", name := "output", desc := "(I)I" } : Jvm.MethodName)) ∈ gw := gw_in (tb_at 334 (by rfl)) (by rfl)
theorem se_M_output : (Jvm.Cond.selects "RunRowsModel" ({ cls := "RunRowsModel", name := "output", desc := "(I)I" } : Jvm.MethodName) ({ cls := "RunRowsModel", name := "output", desc := "(I)I" } : Jvm.MethodName)) ∈ gw := gw_in (tb_at 335 (by rfl)) (by rfl)
theorem im_obj : (Jvm.Cond.instanceMethod ({ cls := "java/lang/Object", name := "<init>", desc := "()V" } : Jvm.MethodName)) ∈ gw := gw_in (tb_at 23 (by rfl)) (by rfl)
theorem cd_obj : Cond.code objectInit ⟨#[0xb1]⟩ 1 none ∈ gw := gw_in (tb_at 24 (by rfl)) (by rfl)
theorem st_copy : (Jvm.Cond.static ({ cls := "java/lang/System", name := "arraycopy", desc := "(Ljava/lang/Object;ILjava/lang/Object;II)V" } : Jvm.MethodName)) ∈ gw := gw_in (tb_at 99 (by rfl)) (by rfl)
theorem ml_L_9 : (Jvm.Cond.methodLink "RunRowsLaw" (9 : Nat) ({ cls := "RunRows", name := "<init>", desc := "()V" } : Jvm.MethodName)) ∈ gw := gw_in (tb_at 19 (by rfl)) (by rfl)
theorem ml_X_1 : (Jvm.Cond.methodLink "RunRows" (1 : Nat) ({ cls := "java/lang/Object", name := "<init>", desc := "()V" } : Jvm.MethodName)) ∈ gw := gw_in (tb_at 22 (by rfl)) (by rfl)
theorem ml_X_11 : (Jvm.Cond.methodLink "RunRows" (11 : Nat) ({ cls := "RunRows$Bytes", name := "<init>", desc := "(I)V" } : Jvm.MethodName)) ∈ gw := gw_in (tb_at 27 (by rfl)) (by rfl)
theorem ml_B_3 : (Jvm.Cond.methodLink "RunRows$Bytes" (3 : Nat) ({ cls := "java/lang/Object", name := "<init>", desc := "()V" } : Jvm.MethodName)) ∈ gw := gw_in (tb_at 30 (by rfl)) (by rfl)
theorem ml_U_3 : (Jvm.Cond.methodLink "RunRows$Runs" (3 : Nat) ({ cls := "java/lang/Object", name := "<init>", desc := "()V" } : Jvm.MethodName)) ∈ gw := gw_in (tb_at 55 (by rfl)) (by rfl)
theorem ml_L_13 : (Jvm.Cond.methodLink "RunRowsLaw" (13 : Nat) ({ cls := "RunRows", name := "feed", desc := "(IIIII)Z" } : Jvm.MethodName)) ∈ gw := gw_in (tb_at 86 (by rfl)) (by rfl)
theorem ml_X_42 : (Jvm.Cond.methodLink "RunRows" (42 : Nat) ({ cls := "RunRows", name := "four", desc := "(I)V" } : Jvm.MethodName)) ∈ gw := gw_in (tb_at 90 (by rfl)) (by rfl)
theorem ml_X_45 : (Jvm.Cond.methodLink "RunRows" (45 : Nat) ({ cls := "RunRows$Bytes", name := "put", desc := "(I)V" } : Jvm.MethodName)) ∈ gw := gw_in (tb_at 94 (by rfl)) (by rfl)
theorem ml_B_25 : (Jvm.Cond.methodLink "RunRows$Bytes" (25 : Nat) ({ cls := "java/lang/System", name := "arraycopy", desc := "(Ljava/lang/Object;ILjava/lang/Object;II)V" } : Jvm.MethodName)) ∈ gw := gw_in (tb_at 98 (by rfl)) (by rfl)
theorem ml_L_18 : (Jvm.Cond.methodLink "RunRowsLaw" (18 : Nat) ({ cls := "RunRows", name := "end", desc := "(I)Z" } : Jvm.MethodName)) ∈ gw := gw_in (tb_at 101 (by rfl)) (by rfl)
theorem ml_X_48 : (Jvm.Cond.methodLink "RunRows" (48 : Nat) ({ cls := "RunRows$Bytes", name := "clear", desc := "()V" } : Jvm.MethodName)) ∈ gw := gw_in (tb_at 105 (by rfl)) (by rfl)
theorem ml_X_51 : (Jvm.Cond.methodLink "RunRows" (51 : Nat) ({ cls := "RunRows$Bytes", name := "get", desc := "(I)I" } : Jvm.MethodName)) ∈ gw := gw_in (tb_at 109 (by rfl)) (by rfl)
theorem ml_L_23 : (Jvm.Cond.methodLink "RunRowsLaw" (23 : Nat) ({ cls := "RunRows", name := "width", desc := "(I)Z" } : Jvm.MethodName)) ∈ gw := gw_in (tb_at 113 (by rfl)) (by rfl)
theorem ml_L_27 : (Jvm.Cond.methodLink "RunRowsLaw" (27 : Nat) ({ cls := "RunRows", name := "add", desc := "(II)Z" } : Jvm.MethodName)) ∈ gw := gw_in (tb_at 117 (by rfl)) (by rfl)
theorem ml_L_32 : (Jvm.Cond.methodLink "RunRowsLaw" (32 : Nat) ({ cls := "RunRows", name := "clear", desc := "()V" } : Jvm.MethodName)) ∈ gw := gw_in (tb_at 121 (by rfl)) (by rfl)
theorem ml_L_36 : (Jvm.Cond.methodLink "RunRowsLaw" (36 : Nat) ({ cls := "RunRows", name := "encode", desc := "()I" } : Jvm.MethodName)) ∈ gw := gw_in (tb_at 125 (by rfl)) (by rfl)
theorem ml_X_59 : (Jvm.Cond.methodLink "RunRows" (59 : Nat) ({ cls := "RunRows$Runs", name := "fits", desc := "(II)Z" } : Jvm.MethodName)) ∈ gw := gw_in (tb_at 129 (by rfl)) (by rfl)
theorem ml_X_63 : (Jvm.Cond.methodLink "RunRows" (63 : Nat) ({ cls := "RunRows$Runs", name := "write", desc := "([IIILRunRows$Bytes;)V" } : Jvm.MethodName)) ∈ gw := gw_in (tb_at 132 (by rfl)) (by rfl)
theorem ml_U_21 : (Jvm.Cond.methodLink "RunRows$Runs" (21 : Nat) ({ cls := "RunRows$Runs", name := "look", desc := "([II)V" } : Jvm.MethodName)) ∈ gw := gw_in (tb_at 136 (by rfl)) (by rfl)
theorem ml_U_15 : (Jvm.Cond.methodLink "RunRows$Runs" (15 : Nat) ({ cls := "java/lang/Math", name := "max", desc := "(II)I" } : Jvm.MethodName)) ∈ gw := gw_in (tb_at 140 (by rfl)) (by rfl)
theorem ml_U_27 : (Jvm.Cond.methodLink "RunRows$Runs" (27 : Nat) ({ cls := "RunRows$Bytes", name := "putVarint", desc := "(J)V" } : Jvm.MethodName)) ∈ gw := gw_in (tb_at 144 (by rfl)) (by rfl)
theorem ml_B_31 : (Jvm.Cond.methodLink "RunRows$Bytes" (31 : Nat) ({ cls := "RunRows$Bytes", name := "put", desc := "(I)V" } : Jvm.MethodName)) ∈ gw := gw_in (tb_at 150 (by rfl)) (by rfl)
theorem ml_U_35 : (Jvm.Cond.methodLink "RunRows$Runs" (35 : Nat) ({ cls := "RunRows$Bytes", name := "putFixed", desc := "(JI)V" } : Jvm.MethodName)) ∈ gw := gw_in (tb_at 152 (by rfl)) (by rfl)
theorem ml_U_39 : (Jvm.Cond.methodLink "RunRows$Runs" (39 : Nat) ({ cls := "RunRows$Runs", name := "pack", desc := "([IIIIILRunRows$Bytes;)V" } : Jvm.MethodName)) ∈ gw := gw_in (tb_at 156 (by rfl)) (by rfl)
theorem ml_U_43 : (Jvm.Cond.methodLink "RunRows$Runs" (43 : Nat) ({ cls := "RunRows$Bytes", name := "put", desc := "(I)V" } : Jvm.MethodName)) ∈ gw := gw_in (tb_at 159 (by rfl)) (by rfl)
theorem ml_L_41 : (Jvm.Cond.methodLink "RunRowsLaw" (41 : Nat) ({ cls := "RunRows", name := "decode", desc := "(I)I" } : Jvm.MethodName)) ∈ gw := gw_in (tb_at 160 (by rfl)) (by rfl)
theorem ml_X_73 : (Jvm.Cond.methodLink "RunRows" (73 : Nat) ({ cls := "RunRows$Runs", name := "read", desc := "(LRunRows$Bytes;III[I)V" } : Jvm.MethodName)) ∈ gw := gw_in (tb_at 164 (by rfl)) (by rfl)
theorem ml_U_51 : (Jvm.Cond.methodLink "RunRows$Runs" (51 : Nat) ({ cls := "RunRows$Bytes", name := "takeVarint", desc := "(I)J" } : Jvm.MethodName)) ∈ gw := gw_in (tb_at 168 (by rfl)) (by rfl)
theorem ml_B_42 : (Jvm.Cond.methodLink "RunRows$Bytes" (42 : Nat) ({ cls := "RunRows$Bytes", name := "take", desc := "(I)I" } : Jvm.MethodName)) ∈ gw := gw_in (tb_at 172 (by rfl)) (by rfl)
theorem ml_B_39 : (Jvm.Cond.methodLink "RunRows$Bytes" (39 : Nat) ({ cls := "RunRows$Bytes", name := "fail", desc := "(I)V" } : Jvm.MethodName)) ∈ gw := gw_in (tb_at 176 (by rfl)) (by rfl)
theorem ml_U_55 : (Jvm.Cond.methodLink "RunRows$Runs" (55 : Nat) ({ cls := "RunRows$Bytes", name := "fail", desc := "(I)V" } : Jvm.MethodName)) ∈ gw := gw_in (tb_at 180 (by rfl)) (by rfl)
theorem ml_U_58 : (Jvm.Cond.methodLink "RunRows$Runs" (58 : Nat) ({ cls := "RunRows$Runs", name := "one", desc := "(LRunRows$Bytes;IJIII[I)I" } : Jvm.MethodName)) ∈ gw := gw_in (tb_at 181 (by rfl)) (by rfl)
theorem ml_U_68 : (Jvm.Cond.methodLink "RunRows$Runs" (68 : Nat) ({ cls := "RunRows$Bytes", name := "takeFixed", desc := "(II)J" } : Jvm.MethodName)) ∈ gw := gw_in (tb_at 184 (by rfl)) (by rfl)
theorem ml_U_62 : (Jvm.Cond.methodLink "RunRows$Runs" (62 : Nat) ({ cls := "RunRows$Runs", name := "groups", desc := "(LRunRows$Bytes;IJIII[I)I" } : Jvm.MethodName)) ∈ gw := gw_in (tb_at 188 (by rfl)) (by rfl)
theorem ml_U_72 : (Jvm.Cond.methodLink "RunRows$Runs" (72 : Nat) ({ cls := "RunRows$Bytes", name := "take", desc := "(I)I" } : Jvm.MethodName)) ∈ gw := gw_in (tb_at 191 (by rfl)) (by rfl)
theorem ml_X_77 : (Jvm.Cond.methodLink "RunRows" (77 : Nat) ({ cls := "java/lang/System", name := "arraycopy", desc := "(Ljava/lang/Object;ILjava/lang/Object;II)V" } : Jvm.MethodName)) ∈ gw := gw_in (tb_at 192 (by rfl)) (by rfl)
theorem ml_L_46 : (Jvm.Cond.methodLink "RunRowsLaw" (46 : Nat) ({ cls := "RunRows", name := "turn", desc := "()Z" } : Jvm.MethodName)) ∈ gw := gw_in (tb_at 193 (by rfl)) (by rfl)
theorem ml_L_51 : (Jvm.Cond.methodLink "RunRowsLaw" (51 : Nat) ({ cls := "RunRows", name := "size", desc := "()I" } : Jvm.MethodName)) ∈ gw := gw_in (tb_at 197 (by rfl)) (by rfl)
theorem ml_L_55 : (Jvm.Cond.methodLink "RunRowsLaw" (55 : Nat) ({ cls := "RunRows", name := "value", desc := "(I)I" } : Jvm.MethodName)) ∈ gw := gw_in (tb_at 201 (by rfl)) (by rfl)
theorem ml_L_59 : (Jvm.Cond.methodLink "RunRowsLaw" (59 : Nat) ({ cls := "RunRows", name := "output", desc := "(I)I" } : Jvm.MethodName)) ∈ gw := gw_in (tb_at 205 (by rfl)) (by rfl)
theorem ml_L_12 : (Jvm.Cond.methodLink "RunRowsLaw" (12 : Nat) ({ cls := "RunRowsModel", name := "<init>", desc := "()V" } : Jvm.MethodName)) ∈ gw := gw_in (tb_at 211 (by rfl)) (by rfl)
theorem ml_M_1 : (Jvm.Cond.methodLink "RunRowsModel" (1 : Nat) ({ cls := "java/lang/Object", name := "<init>", desc := "()V" } : Jvm.MethodName)) ∈ gw := gw_in (tb_at 214 (by rfl)) (by rfl)
theorem ml_L_17 : (Jvm.Cond.methodLink "RunRowsLaw" (17 : Nat) ({ cls := "RunRowsModel", name := "feed", desc := "(IIIII)Z" } : Jvm.MethodName)) ∈ gw := gw_in (tb_at 255 (by rfl)) (by rfl)
theorem ml_L_22 : (Jvm.Cond.methodLink "RunRowsLaw" (22 : Nat) ({ cls := "RunRowsModel", name := "end", desc := "(I)Z" } : Jvm.MethodName)) ∈ gw := gw_in (tb_at 259 (by rfl)) (by rfl)
theorem ml_L_26 : (Jvm.Cond.methodLink "RunRowsLaw" (26 : Nat) ({ cls := "RunRowsModel", name := "width", desc := "(I)Z" } : Jvm.MethodName)) ∈ gw := gw_in (tb_at 263 (by rfl)) (by rfl)
theorem ml_L_31 : (Jvm.Cond.methodLink "RunRowsLaw" (31 : Nat) ({ cls := "RunRowsModel", name := "add", desc := "(II)Z" } : Jvm.MethodName)) ∈ gw := gw_in (tb_at 267 (by rfl)) (by rfl)
theorem ml_L_35 : (Jvm.Cond.methodLink "RunRowsLaw" (35 : Nat) ({ cls := "RunRowsModel", name := "clear", desc := "()V" } : Jvm.MethodName)) ∈ gw := gw_in (tb_at 271 (by rfl)) (by rfl)
theorem ml_L_40 : (Jvm.Cond.methodLink "RunRowsLaw" (40 : Nat) ({ cls := "RunRowsModel", name := "encode", desc := "()I" } : Jvm.MethodName)) ∈ gw := gw_in (tb_at 275 (by rfl)) (by rfl)
theorem ml_M_83 : (Jvm.Cond.methodLink "RunRowsModel" (83 : Nat) ({ cls := "RunRowsModel", name := "writeRuns", desc := "([III)V" } : Jvm.MethodName)) ∈ gw := gw_in (tb_at 279 (by rfl)) (by rfl)
theorem ml_M_56 : (Jvm.Cond.methodLink "RunRowsModel" (56 : Nat) ({ cls := "RunRowsModel", name := "alike", desc := "([III)I" } : Jvm.MethodName)) ∈ gw := gw_in (tb_at 283 (by rfl)) (by rfl)
theorem ml_M_62 : (Jvm.Cond.methodLink "RunRowsModel" (62 : Nat) ({ cls := "RunRowsModel", name := "putVarint", desc := "(J)V" } : Jvm.MethodName)) ∈ gw := gw_in (tb_at 287 (by rfl)) (by rfl)
theorem ml_M_40 : (Jvm.Cond.methodLink "RunRowsModel" (40 : Nat) ({ cls := "RunRowsModel", name := "put", desc := "(I)V" } : Jvm.MethodName)) ∈ gw := gw_in (tb_at 292 (by rfl)) (by rfl)
theorem ml_L_45 : (Jvm.Cond.methodLink "RunRowsLaw" (45 : Nat) ({ cls := "RunRowsModel", name := "decode", desc := "(I)I" } : Jvm.MethodName)) ∈ gw := gw_in (tb_at 296 (by rfl)) (by rfl)
theorem ml_M_87 : (Jvm.Cond.methodLink "RunRowsModel" (87 : Nat) ({ cls := "RunRowsModel", name := "readRuns", desc := "([IIII)V" } : Jvm.MethodName)) ∈ gw := gw_in (tb_at 300 (by rfl)) (by rfl)
theorem ml_M_66 : (Jvm.Cond.methodLink "RunRowsModel" (66 : Nat) ({ cls := "RunRowsModel", name := "varint", desc := "(I)J" } : Jvm.MethodName)) ∈ gw := gw_in (tb_at 304 (by rfl)) (by rfl)
theorem ml_M_70 : (Jvm.Cond.methodLink "RunRowsModel" (70 : Nat) ({ cls := "RunRowsModel", name := "readOne", desc := "([IIIIIJ)I" } : Jvm.MethodName)) ∈ gw := gw_in (tb_at 308 (by rfl)) (by rfl)
theorem ml_M_77 : (Jvm.Cond.methodLink "RunRowsModel" (77 : Nat) ({ cls := "RunRowsModel", name := "bitsAt", desc := "(III)I" } : Jvm.MethodName)) ∈ gw := gw_in (tb_at 312 (by rfl)) (by rfl)
theorem ml_M_74 : (Jvm.Cond.methodLink "RunRowsModel" (74 : Nat) ({ cls := "RunRowsModel", name := "readGroups", desc := "([IIIIIJ)I" } : Jvm.MethodName)) ∈ gw := gw_in (tb_at 316 (by rfl)) (by rfl)
theorem ml_L_50 : (Jvm.Cond.methodLink "RunRowsLaw" (50 : Nat) ({ cls := "RunRowsModel", name := "turn", desc := "()Z" } : Jvm.MethodName)) ∈ gw := gw_in (tb_at 321 (by rfl)) (by rfl)
theorem ml_L_54 : (Jvm.Cond.methodLink "RunRowsLaw" (54 : Nat) ({ cls := "RunRowsModel", name := "size", desc := "()I" } : Jvm.MethodName)) ∈ gw := gw_in (tb_at 325 (by rfl)) (by rfl)
theorem ml_L_58 : (Jvm.Cond.methodLink "RunRowsLaw" (58 : Nat) ({ cls := "RunRowsModel", name := "value", desc := "(I)I" } : Jvm.MethodName)) ∈ gw := gw_in (tb_at 329 (by rfl)) (by rfl)
theorem ml_L_62 : (Jvm.Cond.methodLink "RunRowsLaw" (62 : Nat) ({ cls := "RunRowsModel", name := "output", desc := "(I)I" } : Jvm.MethodName)) ∈ gw := gw_in (tb_at 333 (by rfl)) (by rfl)
/-- a virtual call that the tables know -/
def okV (own : String) (idx : Nat) (y : MethodName) (b : ByteArray) (n : Nat) (r : Option FieldType) (na : Nat) : Prop := Cond.methodLink own idx y ∈ gw ∧ Cond.instanceMethod y ∈ gw ∧ Cond.selects y.cls y y ∈ gw ∧ Cond.initialized y.cls ∈ gw ∧ Cond.code y b n r ∈ gw ∧ (y.cls ≠ "java/lang/invoke/MethodHandle" ∧ y.cls ≠ "java/lang/invoke/VarHandle" ∧ (parseMethodDescriptor y.desc).map (fun d => d.parameters.length) = some na)
def okS (own : String) (idx : Nat) (y : MethodName) (b : ByteArray) (n : Nat) (r : Option FieldType) (na : Nat) : Prop := Cond.methodLink own idx y ∈ gw ∧ Cond.static y ∈ gw ∧ Cond.initialized y.cls ∈ gw ∧ Cond.code y b n r ∈ gw ∧ (y.cls ≠ "java/lang/invoke/MethodHandle" ∧ y.cls ≠ "java/lang/invoke/VarHandle" ∧ (parseMethodDescriptor y.desc).map (fun d => d.parameters.length) = some na)
def okI (own : String) (idx : Nat) (y : MethodName) (b : ByteArray) (n : Nat) (na : Nat) : Prop := Cond.methodLink own idx y ∈ gw ∧ Cond.instanceMethod y ∈ gw ∧ Cond.initialized y.cls ∈ gw ∧ Cond.code y b n none ∈ gw ∧ y.name = "<init>" ∧ (y.cls ≠ "java/lang/invoke/MethodHandle" ∧ y.cls ≠ "java/lang/invoke/VarHandle" ∧ (parseMethodDescriptor y.desc).map (fun d => d.parameters.length) = some na)
theorem ok_L_9 : okI R_L 9 y_X_init b_X_init 1 0 := ⟨ml_L_9, im_X_init, in_X, cd_X_init, rfl, by decide +kernel⟩
theorem ok_X_11 : okI R_X 11 y_B_init b_B_init 2 1 := ⟨ml_X_11, im_B_init, in_B, cd_B_init, rfl, by decide +kernel⟩
theorem ok_L_13 : okV R_L 13 y_X_feed b_X_feed 6 (some .boolean) 5 := ⟨ml_L_13, im_X_feed, se_X_feed, in_X, cd_X_feed, by decide +kernel⟩
theorem ok_X_42 : okV R_X 42 y_X_four b_X_four 3 none 1 := ⟨ml_X_42, im_X_four, se_X_four, in_X, cd_X_four, by decide +kernel⟩
theorem ok_X_45 : okV R_X 45 y_B_put b_B_put 3 none 1 := ⟨ml_X_45, im_B_put, se_B_put, in_B, cd_B_put, by decide +kernel⟩
theorem ok_L_18 : okV R_L 18 y_X_end b_X_end 3 (some .boolean) 1 := ⟨ml_L_18, im_X_end, se_X_end, in_X, cd_X_end, by decide +kernel⟩
theorem ok_X_48 : okV R_X 48 y_B_clear b_B_clear 1 none 0 := ⟨ml_X_48, im_B_clear, se_B_clear, in_B, cd_B_clear, by decide +kernel⟩
theorem ok_X_51 : okV R_X 51 y_B_get b_B_get 2 (some .int) 1 := ⟨ml_X_51, im_B_get, se_B_get, in_B, cd_B_get, by decide +kernel⟩
theorem ok_L_23 : okV R_L 23 y_X_width b_X_width 2 (some .boolean) 1 := ⟨ml_L_23, im_X_width, se_X_width, in_X, cd_X_width, by decide +kernel⟩
theorem ok_L_27 : okV R_L 27 y_X_add b_X_add 4 (some .boolean) 2 := ⟨ml_L_27, im_X_add, se_X_add, in_X, cd_X_add, by decide +kernel⟩
theorem ok_L_32 : okV R_L 32 y_X_clear b_X_clear 1 none 0 := ⟨ml_L_32, im_X_clear, se_X_clear, in_X, cd_X_clear, by decide +kernel⟩
theorem ok_L_36 : okV R_L 36 y_X_encode b_X_encode 3 (some .int) 0 := ⟨ml_L_36, im_X_encode, se_X_encode, in_X, cd_X_encode, by decide +kernel⟩
theorem ok_X_59 : okS R_X 59 y_U_fits b_U_fits 2 (some .boolean) 2 := ⟨ml_X_59, st_U_fits, in_U, cd_U_fits, by decide +kernel⟩
theorem ok_X_63 : okV R_X 63 y_U_write b_U_write 8 none 4 := ⟨ml_X_63, im_U_write, se_U_write, in_U, cd_U_write, by decide +kernel⟩
theorem ok_U_21 : okV R_U 21 y_U_look b_U_look 4 none 2 := ⟨ml_U_21, im_U_look, se_U_look, in_U, cd_U_look, by decide +kernel⟩
theorem ok_U_27 : okV R_U 27 y_B_putVarint b_B_putVarint 5 none 1 := ⟨ml_U_27, im_B_putVarint, se_B_putVarint, in_B, cd_B_putVarint, by decide +kernel⟩
theorem ok_B_31 : okV R_B 31 y_B_put b_B_put 3 none 1 := ⟨ml_B_31, im_B_put, se_B_put, in_B, cd_B_put, by decide +kernel⟩
theorem ok_U_35 : okV R_U 35 y_B_putFixed b_B_putFixed 5 none 2 := ⟨ml_U_35, im_B_putFixed, se_B_putFixed, in_B, cd_B_putFixed, by decide +kernel⟩
theorem ok_U_39 : okS R_U 39 y_U_pack b_U_pack 10 none 6 := ⟨ml_U_39, st_U_pack, in_U, cd_U_pack, by decide +kernel⟩
theorem ok_U_43 : okV R_U 43 y_B_put b_B_put 3 none 1 := ⟨ml_U_43, im_B_put, se_B_put, in_B, cd_B_put, by decide +kernel⟩
theorem ok_L_41 : okV R_L 41 y_X_decode b_X_decode 2 (some .int) 1 := ⟨ml_L_41, im_X_decode, se_X_decode, in_X, cd_X_decode, by decide +kernel⟩
theorem ok_X_73 : okV R_X 73 y_U_read b_U_read 9 none 5 := ⟨ml_X_73, im_U_read, se_U_read, in_U, cd_U_read, by decide +kernel⟩
theorem ok_U_51 : okV R_U 51 y_B_takeVarint b_B_takeVarint 6 (some .long) 1 := ⟨ml_U_51, im_B_takeVarint, se_B_takeVarint, in_B, cd_B_takeVarint, by decide +kernel⟩
theorem ok_B_42 : okV R_B 42 y_B_take b_B_take 2 (some .int) 1 := ⟨ml_B_42, im_B_take, se_B_take, in_B, cd_B_take, by decide +kernel⟩
theorem ok_B_39 : okV R_B 39 y_B_fail b_B_fail 2 none 1 := ⟨ml_B_39, im_B_fail, se_B_fail, in_B, cd_B_fail, by decide +kernel⟩
theorem ok_U_55 : okV R_U 55 y_B_fail b_B_fail 2 none 1 := ⟨ml_U_55, im_B_fail, se_B_fail, in_B, cd_B_fail, by decide +kernel⟩
theorem ok_U_58 : okS R_U 58 y_U_one b_U_one 12 (some .int) 7 := ⟨ml_U_58, st_U_one, in_U, cd_U_one, by decide +kernel⟩
theorem ok_U_68 : okV R_U 68 y_B_takeFixed b_B_takeFixed 6 (some .long) 2 := ⟨ml_U_68, im_B_takeFixed, se_B_takeFixed, in_B, cd_B_takeFixed, by decide +kernel⟩
theorem ok_U_62 : okS R_U 62 y_U_groups b_U_groups 15 (some .int) 7 := ⟨ml_U_62, st_U_groups, in_U, cd_U_groups, by decide +kernel⟩
theorem ok_U_72 : okV R_U 72 y_B_take b_B_take 2 (some .int) 1 := ⟨ml_U_72, im_B_take, se_B_take, in_B, cd_B_take, by decide +kernel⟩
theorem ok_L_46 : okV R_L 46 y_X_turn b_X_turn 2 (some .boolean) 0 := ⟨ml_L_46, im_X_turn, se_X_turn, in_X, cd_X_turn, by decide +kernel⟩
theorem ok_L_51 : okV R_L 51 y_X_size b_X_size 1 (some .int) 0 := ⟨ml_L_51, im_X_size, se_X_size, in_X, cd_X_size, by decide +kernel⟩
theorem ok_L_55 : okV R_L 55 y_X_value b_X_value 2 (some .int) 1 := ⟨ml_L_55, im_X_value, se_X_value, in_X, cd_X_value, by decide +kernel⟩
theorem ok_L_59 : okV R_L 59 y_X_output b_X_output 2 (some .int) 1 := ⟨ml_L_59, im_X_output, se_X_output, in_X, cd_X_output, by decide +kernel⟩
theorem ok_L_12 : okI R_L 12 y_M_init b_M_init 1 0 := ⟨ml_L_12, im_M_init, in_M, cd_M_init, rfl, by decide +kernel⟩
theorem ok_L_17 : okV R_L 17 y_M_feed b_M_feed 8 (some .boolean) 5 := ⟨ml_L_17, im_M_feed, se_M_feed, in_M, cd_M_feed, by decide +kernel⟩
theorem ok_L_22 : okV R_L 22 y_M_end b_M_end 3 (some .boolean) 1 := ⟨ml_L_22, im_M_end, se_M_end, in_M, cd_M_end, by decide +kernel⟩
theorem ok_L_26 : okV R_L 26 y_M_width b_M_width 2 (some .boolean) 1 := ⟨ml_L_26, im_M_width, se_M_width, in_M, cd_M_width, by decide +kernel⟩
theorem ok_L_31 : okV R_L 31 y_M_add b_M_add 4 (some .boolean) 2 := ⟨ml_L_31, im_M_add, se_M_add, in_M, cd_M_add, by decide +kernel⟩
theorem ok_L_35 : okV R_L 35 y_M_clear b_M_clear 1 none 0 := ⟨ml_L_35, im_M_clear, se_M_clear, in_M, cd_M_clear, by decide +kernel⟩
theorem ok_L_40 : okV R_L 40 y_M_encode b_M_encode 2 (some .int) 0 := ⟨ml_L_40, im_M_encode, se_M_encode, in_M, cd_M_encode, by decide +kernel⟩
theorem ok_M_83 : okV R_M 83 y_M_writeRuns b_M_writeRuns 11 none 3 := ⟨ml_M_83, im_M_writeRuns, se_M_writeRuns, in_M, cd_M_writeRuns, by decide +kernel⟩
theorem ok_M_56 : okS R_M 56 y_M_alike b_M_alike 4 (some .int) 3 := ⟨ml_M_56, st_M_alike, in_M, cd_M_alike, by decide +kernel⟩
theorem ok_M_62 : okV R_M 62 y_M_putVarint b_M_putVarint 5 none 1 := ⟨ml_M_62, im_M_putVarint, se_M_putVarint, in_M, cd_M_putVarint, by decide +kernel⟩
theorem ok_M_40 : okV R_M 40 y_M_put b_M_put 2 none 1 := ⟨ml_M_40, im_M_put, se_M_put, in_M, cd_M_put, by decide +kernel⟩
theorem ok_L_45 : okV R_L 45 y_M_decode b_M_decode 3 (some .int) 1 := ⟨ml_L_45, im_M_decode, se_M_decode, in_M, cd_M_decode, by decide +kernel⟩
theorem ok_M_87 : okV R_M 87 y_M_readRuns b_M_readRuns 10 none 4 := ⟨ml_M_87, im_M_readRuns, se_M_readRuns, in_M, cd_M_readRuns, by decide +kernel⟩
theorem ok_M_66 : okV R_M 66 y_M_varint b_M_varint 6 (some .long) 1 := ⟨ml_M_66, im_M_varint, se_M_varint, in_M, cd_M_varint, by decide +kernel⟩
theorem ok_M_70 : okV R_M 70 y_M_readOne b_M_readOne 11 (some .int) 6 := ⟨ml_M_70, im_M_readOne, se_M_readOne, in_M, cd_M_readOne, by decide +kernel⟩
theorem ok_M_77 : okV R_M 77 y_M_bitsAt b_M_bitsAt 6 (some .int) 3 := ⟨ml_M_77, im_M_bitsAt, se_M_bitsAt, in_M, cd_M_bitsAt, by decide +kernel⟩
theorem ok_M_74 : okV R_M 74 y_M_readGroups b_M_readGroups 10 (some .int) 6 := ⟨ml_M_74, im_M_readGroups, se_M_readGroups, in_M, cd_M_readGroups, by decide +kernel⟩
theorem ok_L_50 : okV R_L 50 y_M_turn b_M_turn 2 (some .boolean) 0 := ⟨ml_L_50, im_M_turn, se_M_turn, in_M, cd_M_turn, by decide +kernel⟩
theorem ok_L_54 : okV R_L 54 y_M_size b_M_size 1 (some .int) 0 := ⟨ml_L_54, im_M_size, se_M_size, in_M, cd_M_size, by decide +kernel⟩
theorem ok_L_58 : okV R_L 58 y_M_value b_M_value 2 (some .int) 1 := ⟨ml_L_58, im_M_value, se_M_value, in_M, cd_M_value, by decide +kernel⟩
theorem ok_L_62 : okV R_L 62 y_M_output b_M_output 2 (some .int) 1 := ⟨ml_L_62, im_M_output, se_M_output, in_M, cd_M_output, by decide +kernel⟩
/-- the words of nest mates: carried by hand -/
def nst (U : State) : Prop := va_Nw (Jvm.Cond.fieldLinkNest "RunRows" (38 : Nat) "RunRows$Bytes" "size" "I" "RunRows") U ∧ va_Nw (Jvm.Cond.fieldLinkNest "RunRows$Runs" (65 : Nat) "RunRows$Bytes" "at" "I" "RunRows") U ∧ va_Nw (Jvm.Cond.fieldLinkNest "RunRows" (67 : Nat) "RunRows$Bytes" "at" "I" "RunRows") U ∧ va_Nw (Jvm.Cond.fieldLinkNest "RunRows$Runs" (47 : Nat) "RunRows$Bytes" "fault" "I" "RunRows") U ∧ va_Nw (Jvm.Cond.fieldLinkNest "RunRows" (70 : Nat) "RunRows$Bytes" "fault" "I" "RunRows") U ∧ va_Nw (Jvm.Cond.methodLinkNest "RunRows" (26 : Nat) ({ cls := "RunRows$Runs", name := "<init>", desc := "()V" } : Jvm.MethodName) "RunRows") U
theorem nt_0 : (Jvm.Cond.fieldLinkNest "RunRows" (38 : Nat) "RunRows$Bytes" "size" "I" "RunRows") ∈ lw_tbl := tb_at 33 (by rfl)
theorem nt_1 : (Jvm.Cond.fieldLinkNest "RunRows$Runs" (65 : Nat) "RunRows$Bytes" "at" "I" "RunRows") ∈ lw_tbl := tb_at 35 (by rfl)
theorem nt_2 : (Jvm.Cond.fieldLinkNest "RunRows" (67 : Nat) "RunRows$Bytes" "at" "I" "RunRows") ∈ lw_tbl := tb_at 36 (by rfl)
theorem nt_3 : (Jvm.Cond.fieldLinkNest "RunRows$Runs" (47 : Nat) "RunRows$Bytes" "fault" "I" "RunRows") ∈ lw_tbl := tb_at 38 (by rfl)
theorem nt_4 : (Jvm.Cond.fieldLinkNest "RunRows" (70 : Nat) "RunRows$Bytes" "fault" "I" "RunRows") ∈ lw_tbl := tb_at 39 (by rfl)
theorem nt_5 : (Jvm.Cond.methodLinkNest "RunRows" (26 : Nat) ({ cls := "RunRows$Runs", name := "<init>", desc := "()V" } : Jvm.MethodName) "RunRows") ∈ lw_tbl := tb_at 52 (by rfl)
end
section
/-! decode rows, printed by gen/names.py -/
theorem d_X_init_0 : decode b_X_init 0 = .ok (.aload_n 0, 1) := by decide +kernel
theorem d_X_init_1 : decode b_X_init 1 = .ok (.invokespecial 1, 3) := by decide +kernel
theorem d_X_init_4 : decode b_X_init 4 = .ok (.aload_n 0, 1) := by decide +kernel
theorem d_X_init_5 : decode b_X_init 5 = .ok (.new 7, 3) := by decide +kernel
theorem d_X_init_8 : decode b_X_init 8 = .ok (.dup, 1) := by decide +kernel
theorem d_X_init_9 : decode b_X_init 9 = .ok (.sipush 8192, 3) := by decide +kernel
theorem d_X_init_12 : decode b_X_init 12 = .ok (.invokespecial 11, 3) := by decide +kernel
theorem d_X_init_15 : decode b_X_init 15 = .ok (.putfield 14, 3) := by decide +kernel
theorem d_X_init_18 : decode b_X_init 18 = .ok (.aload_n 0, 1) := by decide +kernel
theorem d_X_init_19 : decode b_X_init 19 = .ok (.new 7, 3) := by decide +kernel
theorem d_X_init_22 : decode b_X_init 22 = .ok (.dup, 1) := by decide +kernel
theorem d_X_init_23 : decode b_X_init 23 = .ok (.sipush 8192, 3) := by decide +kernel
theorem d_X_init_26 : decode b_X_init 26 = .ok (.invokespecial 11, 3) := by decide +kernel
theorem d_X_init_29 : decode b_X_init 29 = .ok (.putfield 18, 3) := by decide +kernel
theorem d_X_init_32 : decode b_X_init 32 = .ok (.aload_n 0, 1) := by decide +kernel
theorem d_X_init_33 : decode b_X_init 33 = .ok (.new 7, 3) := by decide +kernel
theorem d_X_init_36 : decode b_X_init 36 = .ok (.dup, 1) := by decide +kernel
theorem d_X_init_37 : decode b_X_init 37 = .ok (.sipush 8192, 3) := by decide +kernel
theorem d_X_init_40 : decode b_X_init 40 = .ok (.invokespecial 11, 3) := by decide +kernel
theorem d_X_init_43 : decode b_X_init 43 = .ok (.putfield 21, 3) := by decide +kernel
theorem d_X_init_46 : decode b_X_init 46 = .ok (.aload_n 0, 1) := by decide +kernel
theorem d_X_init_47 : decode b_X_init 47 = .ok (.new 24, 3) := by decide +kernel
theorem d_X_init_50 : decode b_X_init 50 = .ok (.dup, 1) := by decide +kernel
theorem d_X_init_51 : decode b_X_init 51 = .ok (.invokespecial 26, 3) := by decide +kernel
theorem d_X_init_54 : decode b_X_init 54 = .ok (.putfield 27, 3) := by decide +kernel
theorem d_X_init_57 : decode b_X_init 57 = .ok (.aload_n 0, 1) := by decide +kernel
theorem d_X_init_58 : decode b_X_init 58 = .ok (.sipush 4096, 3) := by decide +kernel
theorem d_X_init_61 : decode b_X_init 61 = .ok (.newarray .int, 2) := by decide +kernel
theorem d_X_init_63 : decode b_X_init 63 = .ok (.putfield 31, 3) := by decide +kernel
theorem d_X_init_66 : decode b_X_init 66 = .ok (.aload_n 0, 1) := by decide +kernel
theorem d_X_init_67 : decode b_X_init 67 = .ok (.sipush 4096, 3) := by decide +kernel
theorem d_X_init_70 : decode b_X_init 70 = .ok (.newarray .int, 2) := by decide +kernel
theorem d_X_init_72 : decode b_X_init 72 = .ok (.putfield 35, 3) := by decide +kernel
theorem d_X_init_75 : decode b_X_init 75 = .ok (.return_, 1) := by decide +kernel
theorem d_B_init_0 : decode b_B_init 0 = .ok (.aload_n 0, 1) := by decide +kernel
theorem d_B_init_1 : decode b_B_init 1 = .ok (.invokespecial 3, 3) := by decide +kernel
theorem d_B_init_4 : decode b_B_init 4 = .ok (.aload_n 0, 1) := by decide +kernel
theorem d_B_init_5 : decode b_B_init 5 = .ok (.iload_n 1, 1) := by decide +kernel
theorem d_B_init_6 : decode b_B_init 6 = .ok (.newarray .byte, 2) := by decide +kernel
theorem d_B_init_8 : decode b_B_init 8 = .ok (.putfield 9, 3) := by decide +kernel
theorem d_B_init_11 : decode b_B_init 11 = .ok (.return_, 1) := by decide +kernel
theorem d_U_init_0 : decode b_U_init 0 = .ok (.aload_n 0, 1) := by decide +kernel
theorem d_U_init_1 : decode b_U_init 1 = .ok (.invokespecial 3, 3) := by decide +kernel
theorem d_U_init_4 : decode b_U_init 4 = .ok (.aload_n 0, 1) := by decide +kernel
theorem d_U_init_5 : decode b_U_init 5 = .ok (.sipush 4096, 3) := by decide +kernel
theorem d_U_init_8 : decode b_U_init 8 = .ok (.newarray .int, 2) := by decide +kernel
theorem d_U_init_10 : decode b_U_init 10 = .ok (.putfield 9, 3) := by decide +kernel
theorem d_U_init_13 : decode b_U_init 13 = .ok (.return_, 1) := by decide +kernel
theorem d_X_feed_0 : decode b_X_feed 0 = .ok (.aload_n 0, 1) := by decide +kernel
theorem d_X_feed_1 : decode b_X_feed 1 = .ok (.getfield 14, 3) := by decide +kernel
theorem d_X_feed_4 : decode b_X_feed 4 = .ok (.getfield 38, 3) := by decide +kernel
theorem d_X_feed_7 : decode b_X_feed 7 = .ok (.bipush 20, 2) := by decide +kernel
theorem d_X_feed_9 : decode b_X_feed 9 = .ok (.iadd, 1) := by decide +kernel
theorem d_X_feed_10 : decode b_X_feed 10 = .ok (.sipush 8192, 3) := by decide +kernel
theorem d_X_feed_13 : decode b_X_feed 13 = .ok (.if_icmp .le 5, 3) := by decide +kernel
theorem d_X_feed_16 : decode b_X_feed 16 = .ok (.iconst 0, 1) := by decide +kernel
theorem d_X_feed_17 : decode b_X_feed 17 = .ok (.ireturn, 1) := by decide +kernel
theorem d_X_feed_18 : decode b_X_feed 18 = .ok (.aload_n 0, 1) := by decide +kernel
theorem d_X_feed_19 : decode b_X_feed 19 = .ok (.iload_n 1, 1) := by decide +kernel
theorem d_X_feed_20 : decode b_X_feed 20 = .ok (.invokevirtual 42, 3) := by decide +kernel
theorem d_X_feed_23 : decode b_X_feed 23 = .ok (.aload_n 0, 1) := by decide +kernel
theorem d_X_feed_24 : decode b_X_feed 24 = .ok (.iload_n 2, 1) := by decide +kernel
theorem d_X_feed_25 : decode b_X_feed 25 = .ok (.invokevirtual 42, 3) := by decide +kernel
theorem d_X_feed_28 : decode b_X_feed 28 = .ok (.aload_n 0, 1) := by decide +kernel
theorem d_X_feed_29 : decode b_X_feed 29 = .ok (.iload_n 3, 1) := by decide +kernel
theorem d_X_feed_30 : decode b_X_feed 30 = .ok (.invokevirtual 42, 3) := by decide +kernel
theorem d_X_feed_33 : decode b_X_feed 33 = .ok (.aload_n 0, 1) := by decide +kernel
theorem d_X_feed_34 : decode b_X_feed 34 = .ok (.iload 4, 2) := by decide +kernel
theorem d_X_feed_36 : decode b_X_feed 36 = .ok (.invokevirtual 42, 3) := by decide +kernel
theorem d_X_feed_39 : decode b_X_feed 39 = .ok (.aload_n 0, 1) := by decide +kernel
theorem d_X_feed_40 : decode b_X_feed 40 = .ok (.iload 5, 2) := by decide +kernel
theorem d_X_feed_42 : decode b_X_feed 42 = .ok (.invokevirtual 42, 3) := by decide +kernel
theorem d_X_feed_45 : decode b_X_feed 45 = .ok (.iconst 1, 1) := by decide +kernel
theorem d_X_feed_46 : decode b_X_feed 46 = .ok (.ireturn, 1) := by decide +kernel
theorem d_X_four_0 : decode b_X_four 0 = .ok (.bipush 24, 2) := by decide +kernel
theorem d_X_four_2 : decode b_X_four 2 = .ok (.istore_n 2, 1) := by decide +kernel
theorem d_X_four_3 : decode b_X_four 3 = .ok (.iload_n 2, 1) := by decide +kernel
theorem d_X_four_4 : decode b_X_four 4 = .ok (.ifCond .lt 19, 3) := by decide +kernel
theorem d_X_four_7 : decode b_X_four 7 = .ok (.aload_n 0, 1) := by decide +kernel
theorem d_X_four_8 : decode b_X_four 8 = .ok (.getfield 14, 3) := by decide +kernel
theorem d_X_four_11 : decode b_X_four 11 = .ok (.iload_n 1, 1) := by decide +kernel
theorem d_X_four_12 : decode b_X_four 12 = .ok (.iload_n 2, 1) := by decide +kernel
theorem d_X_four_13 : decode b_X_four 13 = .ok (.ishr, 1) := by decide +kernel
theorem d_X_four_14 : decode b_X_four 14 = .ok (.invokevirtual 45, 3) := by decide +kernel
theorem d_X_four_17 : decode b_X_four 17 = .ok (.iinc 2 (-8), 3) := by decide +kernel
theorem d_X_four_20 : decode b_X_four 20 = .ok (.goto (-17), 3) := by decide +kernel
theorem d_X_four_23 : decode b_X_four 23 = .ok (.return_, 1) := by decide +kernel
theorem d_B_put_0 : decode b_B_put 0 = .ok (.aload_n 0, 1) := by decide +kernel
theorem d_B_put_1 : decode b_B_put 1 = .ok (.getfield 15, 3) := by decide +kernel
theorem d_B_put_4 : decode b_B_put 4 = .ok (.aload_n 0, 1) := by decide +kernel
theorem d_B_put_5 : decode b_B_put 5 = .ok (.getfield 9, 3) := by decide +kernel
theorem d_B_put_8 : decode b_B_put 8 = .ok (.arraylength, 1) := by decide +kernel
theorem d_B_put_9 : decode b_B_put 9 = .ok (.if_icmp .ne 31, 3) := by decide +kernel
theorem d_B_put_12 : decode b_B_put 12 = .ok (.iconst 2, 1) := by decide +kernel
theorem d_B_put_13 : decode b_B_put 13 = .ok (.aload_n 0, 1) := by decide +kernel
theorem d_B_put_14 : decode b_B_put 14 = .ok (.getfield 15, 3) := by decide +kernel
theorem d_B_put_17 : decode b_B_put 17 = .ok (.imul, 1) := by decide +kernel
theorem d_B_put_18 : decode b_B_put 18 = .ok (.newarray .byte, 2) := by decide +kernel
theorem d_B_put_20 : decode b_B_put 20 = .ok (.astore_n 2, 1) := by decide +kernel
theorem d_B_put_21 : decode b_B_put 21 = .ok (.aload_n 0, 1) := by decide +kernel
theorem d_B_put_22 : decode b_B_put 22 = .ok (.getfield 9, 3) := by decide +kernel
theorem d_B_put_25 : decode b_B_put 25 = .ok (.iconst 0, 1) := by decide +kernel
theorem d_B_put_26 : decode b_B_put 26 = .ok (.aload_n 2, 1) := by decide +kernel
theorem d_B_put_27 : decode b_B_put 27 = .ok (.iconst 0, 1) := by decide +kernel
theorem d_B_put_28 : decode b_B_put 28 = .ok (.aload_n 0, 1) := by decide +kernel
theorem d_B_put_29 : decode b_B_put 29 = .ok (.getfield 15, 3) := by decide +kernel
theorem d_B_put_32 : decode b_B_put 32 = .ok (.invokestatic 25, 3) := by decide +kernel
theorem d_B_put_35 : decode b_B_put 35 = .ok (.aload_n 0, 1) := by decide +kernel
theorem d_B_put_36 : decode b_B_put 36 = .ok (.aload_n 2, 1) := by decide +kernel
theorem d_B_put_37 : decode b_B_put 37 = .ok (.putfield 9, 3) := by decide +kernel
theorem d_B_put_40 : decode b_B_put 40 = .ok (.aload_n 0, 1) := by decide +kernel
theorem d_B_put_41 : decode b_B_put 41 = .ok (.getfield 9, 3) := by decide +kernel
theorem d_B_put_44 : decode b_B_put 44 = .ok (.aload_n 0, 1) := by decide +kernel
theorem d_B_put_45 : decode b_B_put 45 = .ok (.getfield 15, 3) := by decide +kernel
theorem d_B_put_48 : decode b_B_put 48 = .ok (.iload_n 1, 1) := by decide +kernel
theorem d_B_put_49 : decode b_B_put 49 = .ok (.i2b, 1) := by decide +kernel
theorem d_B_put_50 : decode b_B_put 50 = .ok (.bastore, 1) := by decide +kernel
theorem d_B_put_51 : decode b_B_put 51 = .ok (.aload_n 0, 1) := by decide +kernel
theorem d_B_put_52 : decode b_B_put 52 = .ok (.dup, 1) := by decide +kernel
theorem d_B_put_53 : decode b_B_put 53 = .ok (.getfield 15, 3) := by decide +kernel
theorem d_B_put_56 : decode b_B_put 56 = .ok (.iconst 1, 1) := by decide +kernel
theorem d_B_put_57 : decode b_B_put 57 = .ok (.iadd, 1) := by decide +kernel
theorem d_B_put_58 : decode b_B_put 58 = .ok (.putfield 15, 3) := by decide +kernel
theorem d_B_put_61 : decode b_B_put 61 = .ok (.return_, 1) := by decide +kernel
theorem d_X_end_0 : decode b_X_end 0 = .ok (.iload_n 1, 1) := by decide +kernel
theorem d_X_end_1 : decode b_X_end 1 = .ok (.ifCond .lt 14, 3) := by decide +kernel
theorem d_X_end_4 : decode b_X_end 4 = .ok (.iload_n 1, 1) := by decide +kernel
theorem d_X_end_5 : decode b_X_end 5 = .ok (.aload_n 0, 1) := by decide +kernel
theorem d_X_end_6 : decode b_X_end 6 = .ok (.getfield 14, 3) := by decide +kernel
theorem d_X_end_9 : decode b_X_end 9 = .ok (.getfield 38, 3) := by decide +kernel
theorem d_X_end_12 : decode b_X_end 12 = .ok (.if_icmp .le 5, 3) := by decide +kernel
theorem d_X_end_15 : decode b_X_end 15 = .ok (.iconst 0, 1) := by decide +kernel
theorem d_X_end_16 : decode b_X_end 16 = .ok (.ireturn, 1) := by decide +kernel
theorem d_X_end_17 : decode b_X_end 17 = .ok (.aload_n 0, 1) := by decide +kernel
theorem d_X_end_18 : decode b_X_end 18 = .ok (.getfield 18, 3) := by decide +kernel
theorem d_X_end_21 : decode b_X_end 21 = .ok (.invokevirtual 48, 3) := by decide +kernel
theorem d_X_end_24 : decode b_X_end 24 = .ok (.iconst 0, 1) := by decide +kernel
theorem d_X_end_25 : decode b_X_end 25 = .ok (.istore_n 2, 1) := by decide +kernel
theorem d_X_end_26 : decode b_X_end 26 = .ok (.iload_n 2, 1) := by decide +kernel
theorem d_X_end_27 : decode b_X_end 27 = .ok (.iload_n 1, 1) := by decide +kernel
theorem d_X_end_28 : decode b_X_end 28 = .ok (.if_icmp .ge 24, 3) := by decide +kernel
theorem d_X_end_31 : decode b_X_end 31 = .ok (.aload_n 0, 1) := by decide +kernel
theorem d_X_end_32 : decode b_X_end 32 = .ok (.getfield 18, 3) := by decide +kernel
theorem d_X_end_35 : decode b_X_end 35 = .ok (.aload_n 0, 1) := by decide +kernel
theorem d_X_end_36 : decode b_X_end 36 = .ok (.getfield 14, 3) := by decide +kernel
theorem d_X_end_39 : decode b_X_end 39 = .ok (.iload_n 2, 1) := by decide +kernel
theorem d_X_end_40 : decode b_X_end 40 = .ok (.invokevirtual 51, 3) := by decide +kernel
theorem d_X_end_43 : decode b_X_end 43 = .ok (.invokevirtual 45, 3) := by decide +kernel
theorem d_X_end_46 : decode b_X_end 46 = .ok (.iinc 2 1, 3) := by decide +kernel
theorem d_X_end_49 : decode b_X_end 49 = .ok (.goto (-23), 3) := by decide +kernel
theorem d_X_end_52 : decode b_X_end 52 = .ok (.aload_n 0, 1) := by decide +kernel
theorem d_X_end_53 : decode b_X_end 53 = .ok (.getfield 14, 3) := by decide +kernel
theorem d_X_end_56 : decode b_X_end 56 = .ok (.invokevirtual 48, 3) := by decide +kernel
theorem d_X_end_59 : decode b_X_end 59 = .ok (.iconst 1, 1) := by decide +kernel
theorem d_X_end_60 : decode b_X_end 60 = .ok (.ireturn, 1) := by decide +kernel
theorem d_B_clear_0 : decode b_B_clear 0 = .ok (.aload_n 0, 1) := by decide +kernel
theorem d_B_clear_1 : decode b_B_clear 1 = .ok (.iconst 0, 1) := by decide +kernel
theorem d_B_clear_2 : decode b_B_clear 2 = .ok (.putfield 15, 3) := by decide +kernel
theorem d_B_clear_5 : decode b_B_clear 5 = .ok (.aload_n 0, 1) := by decide +kernel
theorem d_B_clear_6 : decode b_B_clear 6 = .ok (.iconst 0, 1) := by decide +kernel
theorem d_B_clear_7 : decode b_B_clear 7 = .ok (.putfield 19, 3) := by decide +kernel
theorem d_B_clear_10 : decode b_B_clear 10 = .ok (.aload_n 0, 1) := by decide +kernel
theorem d_B_clear_11 : decode b_B_clear 11 = .ok (.iconst 0, 1) := by decide +kernel
theorem d_B_clear_12 : decode b_B_clear 12 = .ok (.putfield 22, 3) := by decide +kernel
theorem d_B_clear_15 : decode b_B_clear 15 = .ok (.return_, 1) := by decide +kernel
theorem d_B_get_0 : decode b_B_get 0 = .ok (.aload_n 0, 1) := by decide +kernel
theorem d_B_get_1 : decode b_B_get 1 = .ok (.getfield 9, 3) := by decide +kernel
theorem d_B_get_4 : decode b_B_get 4 = .ok (.iload_n 1, 1) := by decide +kernel
theorem d_B_get_5 : decode b_B_get 5 = .ok (.baload, 1) := by decide +kernel
theorem d_B_get_6 : decode b_B_get 6 = .ok (.sipush 255, 3) := by decide +kernel
theorem d_B_get_9 : decode b_B_get 9 = .ok (.iand, 1) := by decide +kernel
theorem d_B_get_10 : decode b_B_get 10 = .ok (.ireturn, 1) := by decide +kernel
theorem d_X_width_0 : decode b_X_width 0 = .ok (.iload_n 1, 1) := by decide +kernel
theorem d_X_width_1 : decode b_X_width 1 = .ok (.ifCond .lt 9, 3) := by decide +kernel
theorem d_X_width_4 : decode b_X_width 4 = .ok (.iload_n 1, 1) := by decide +kernel
theorem d_X_width_5 : decode b_X_width 5 = .ok (.bipush 32, 2) := by decide +kernel
theorem d_X_width_7 : decode b_X_width 7 = .ok (.if_icmp .le 5, 3) := by decide +kernel
theorem d_X_width_10 : decode b_X_width 10 = .ok (.iconst 0, 1) := by decide +kernel
theorem d_X_width_11 : decode b_X_width 11 = .ok (.ireturn, 1) := by decide +kernel
theorem d_X_width_12 : decode b_X_width 12 = .ok (.aload_n 0, 1) := by decide +kernel
theorem d_X_width_13 : decode b_X_width 13 = .ok (.iload_n 1, 1) := by decide +kernel
theorem d_X_width_14 : decode b_X_width 14 = .ok (.putfield 55, 3) := by decide +kernel
theorem d_X_width_17 : decode b_X_width 17 = .ok (.iconst 1, 1) := by decide +kernel
theorem d_X_width_18 : decode b_X_width 18 = .ok (.ireturn, 1) := by decide +kernel
theorem d_X_add_0 : decode b_X_add 0 = .ok (.iload_n 2, 1) := by decide +kernel
theorem d_X_add_1 : decode b_X_add 1 = .ok (.iconst 1, 1) := by decide +kernel
theorem d_X_add_2 : decode b_X_add 2 = .ok (.if_icmp .lt 15, 3) := by decide +kernel
theorem d_X_add_5 : decode b_X_add 5 = .ok (.iload_n 2, 1) := by decide +kernel
theorem d_X_add_6 : decode b_X_add 6 = .ok (.sipush 4096, 3) := by decide +kernel
theorem d_X_add_9 : decode b_X_add 9 = .ok (.aload_n 0, 1) := by decide +kernel
theorem d_X_add_10 : decode b_X_add 10 = .ok (.getfield 58, 3) := by decide +kernel
theorem d_X_add_13 : decode b_X_add 13 = .ok (.isub, 1) := by decide +kernel
theorem d_X_add_14 : decode b_X_add 14 = .ok (.if_icmp .le 5, 3) := by decide +kernel
theorem d_X_add_17 : decode b_X_add 17 = .ok (.iconst 0, 1) := by decide +kernel
theorem d_X_add_18 : decode b_X_add 18 = .ok (.ireturn, 1) := by decide +kernel
theorem d_X_add_19 : decode b_X_add 19 = .ok (.iconst 0, 1) := by decide +kernel
theorem d_X_add_20 : decode b_X_add 20 = .ok (.istore_n 3, 1) := by decide +kernel
theorem d_X_add_21 : decode b_X_add 21 = .ok (.iload_n 3, 1) := by decide +kernel
theorem d_X_add_22 : decode b_X_add 22 = .ok (.iload_n 2, 1) := by decide +kernel
theorem d_X_add_23 : decode b_X_add 23 = .ok (.if_icmp .ge 21, 3) := by decide +kernel
theorem d_X_add_26 : decode b_X_add 26 = .ok (.aload_n 0, 1) := by decide +kernel
theorem d_X_add_27 : decode b_X_add 27 = .ok (.getfield 31, 3) := by decide +kernel
theorem d_X_add_30 : decode b_X_add 30 = .ok (.aload_n 0, 1) := by decide +kernel
theorem d_X_add_31 : decode b_X_add 31 = .ok (.getfield 58, 3) := by decide +kernel
theorem d_X_add_34 : decode b_X_add 34 = .ok (.iload_n 3, 1) := by decide +kernel
theorem d_X_add_35 : decode b_X_add 35 = .ok (.iadd, 1) := by decide +kernel
theorem d_X_add_36 : decode b_X_add 36 = .ok (.iload_n 1, 1) := by decide +kernel
theorem d_X_add_37 : decode b_X_add 37 = .ok (.iastore, 1) := by decide +kernel
theorem d_X_add_38 : decode b_X_add 38 = .ok (.iinc 3 1, 3) := by decide +kernel
theorem d_X_add_41 : decode b_X_add 41 = .ok (.goto (-20), 3) := by decide +kernel
theorem d_X_add_44 : decode b_X_add 44 = .ok (.aload_n 0, 1) := by decide +kernel
theorem d_X_add_45 : decode b_X_add 45 = .ok (.dup, 1) := by decide +kernel
theorem d_X_add_46 : decode b_X_add 46 = .ok (.getfield 58, 3) := by decide +kernel
theorem d_X_add_49 : decode b_X_add 49 = .ok (.iload_n 2, 1) := by decide +kernel
theorem d_X_add_50 : decode b_X_add 50 = .ok (.iadd, 1) := by decide +kernel
theorem d_X_add_51 : decode b_X_add 51 = .ok (.putfield 58, 3) := by decide +kernel
theorem d_X_add_54 : decode b_X_add 54 = .ok (.iconst 1, 1) := by decide +kernel
theorem d_X_add_55 : decode b_X_add 55 = .ok (.ireturn, 1) := by decide +kernel
theorem d_X_clear_0 : decode b_X_clear 0 = .ok (.aload_n 0, 1) := by decide +kernel
theorem d_X_clear_1 : decode b_X_clear 1 = .ok (.iconst 0, 1) := by decide +kernel
theorem d_X_clear_2 : decode b_X_clear 2 = .ok (.putfield 58, 3) := by decide +kernel
theorem d_X_clear_5 : decode b_X_clear 5 = .ok (.return_, 1) := by decide +kernel
theorem d_X_encode_0 : decode b_X_encode 0 = .ok (.aload_n 0, 1) := by decide +kernel
theorem d_X_encode_1 : decode b_X_encode 1 = .ok (.getfield 21, 3) := by decide +kernel
theorem d_X_encode_4 : decode b_X_encode 4 = .ok (.invokevirtual 48, 3) := by decide +kernel
theorem d_X_encode_7 : decode b_X_encode 7 = .ok (.iconst 1, 1) := by decide +kernel
theorem d_X_encode_8 : decode b_X_encode 8 = .ok (.istore_n 1, 1) := by decide +kernel
theorem d_X_encode_9 : decode b_X_encode 9 = .ok (.iconst 0, 1) := by decide +kernel
theorem d_X_encode_10 : decode b_X_encode 10 = .ok (.istore_n 2, 1) := by decide +kernel
theorem d_X_encode_11 : decode b_X_encode 11 = .ok (.iload_n 2, 1) := by decide +kernel
theorem d_X_encode_12 : decode b_X_encode 12 = .ok (.aload_n 0, 1) := by decide +kernel
theorem d_X_encode_13 : decode b_X_encode 13 = .ok (.getfield 58, 3) := by decide +kernel
theorem d_X_encode_16 : decode b_X_encode 16 = .ok (.if_icmp .ge 25, 3) := by decide +kernel
theorem d_X_encode_19 : decode b_X_encode 19 = .ok (.iload_n 1, 1) := by decide +kernel
theorem d_X_encode_20 : decode b_X_encode 20 = .ok (.aload_n 0, 1) := by decide +kernel
theorem d_X_encode_21 : decode b_X_encode 21 = .ok (.getfield 31, 3) := by decide +kernel
theorem d_X_encode_24 : decode b_X_encode 24 = .ok (.iload_n 2, 1) := by decide +kernel
theorem d_X_encode_25 : decode b_X_encode 25 = .ok (.iaload, 1) := by decide +kernel
theorem d_X_encode_26 : decode b_X_encode 26 = .ok (.aload_n 0, 1) := by decide +kernel
theorem d_X_encode_27 : decode b_X_encode 27 = .ok (.getfield 55, 3) := by decide +kernel
theorem d_X_encode_30 : decode b_X_encode 30 = .ok (.invokestatic 59, 3) := by decide +kernel
theorem d_X_encode_33 : decode b_X_encode 33 = .ok (.iand, 1) := by decide +kernel
theorem d_X_encode_34 : decode b_X_encode 34 = .ok (.istore_n 1, 1) := by decide +kernel
theorem d_X_encode_35 : decode b_X_encode 35 = .ok (.iinc 2 1, 3) := by decide +kernel
theorem d_X_encode_38 : decode b_X_encode 38 = .ok (.goto (-27), 3) := by decide +kernel
theorem d_X_encode_41 : decode b_X_encode 41 = .ok (.iload_n 1, 1) := by decide +kernel
theorem d_X_encode_42 : decode b_X_encode 42 = .ok (.ifCond .ne 5, 3) := by decide +kernel
theorem d_X_encode_45 : decode b_X_encode 45 = .ok (.iconst (-1), 1) := by decide +kernel
theorem d_X_encode_46 : decode b_X_encode 46 = .ok (.ireturn, 1) := by decide +kernel
theorem d_X_encode_47 : decode b_X_encode 47 = .ok (.aload_n 0, 1) := by decide +kernel
theorem d_X_encode_48 : decode b_X_encode 48 = .ok (.getfield 27, 3) := by decide +kernel
theorem d_X_encode_51 : decode b_X_encode 51 = .ok (.aload_n 0, 1) := by decide +kernel
theorem d_X_encode_52 : decode b_X_encode 52 = .ok (.getfield 31, 3) := by decide +kernel
theorem d_X_encode_55 : decode b_X_encode 55 = .ok (.aload_n 0, 1) := by decide +kernel
theorem d_X_encode_56 : decode b_X_encode 56 = .ok (.getfield 58, 3) := by decide +kernel
theorem d_X_encode_59 : decode b_X_encode 59 = .ok (.aload_n 0, 1) := by decide +kernel
theorem d_X_encode_60 : decode b_X_encode 60 = .ok (.getfield 55, 3) := by decide +kernel
theorem d_X_encode_63 : decode b_X_encode 63 = .ok (.aload_n 0, 1) := by decide +kernel
theorem d_X_encode_64 : decode b_X_encode 64 = .ok (.getfield 21, 3) := by decide +kernel
theorem d_X_encode_67 : decode b_X_encode 67 = .ok (.invokevirtual 63, 3) := by decide +kernel
theorem d_X_encode_70 : decode b_X_encode 70 = .ok (.aload_n 0, 1) := by decide +kernel
theorem d_X_encode_71 : decode b_X_encode 71 = .ok (.getfield 21, 3) := by decide +kernel
theorem d_X_encode_74 : decode b_X_encode 74 = .ok (.getfield 38, 3) := by decide +kernel
theorem d_X_encode_77 : decode b_X_encode 77 = .ok (.ireturn, 1) := by decide +kernel
theorem d_U_fits_0 : decode b_U_fits 0 = .ok (.iload_n 1, 1) := by decide +kernel
theorem d_U_fits_1 : decode b_U_fits 1 = .ok (.bipush 32, 2) := by decide +kernel
theorem d_U_fits_3 : decode b_U_fits 3 = .ok (.if_icmp .eq 9, 3) := by decide +kernel
theorem d_U_fits_6 : decode b_U_fits 6 = .ok (.iload_n 0, 1) := by decide +kernel
theorem d_U_fits_7 : decode b_U_fits 7 = .ok (.iload_n 1, 1) := by decide +kernel
theorem d_U_fits_8 : decode b_U_fits 8 = .ok (.iushr, 1) := by decide +kernel
theorem d_U_fits_9 : decode b_U_fits 9 = .ok (.ifCond .ne 7, 3) := by decide +kernel
theorem d_U_fits_12 : decode b_U_fits 12 = .ok (.iconst 1, 1) := by decide +kernel
theorem d_U_fits_13 : decode b_U_fits 13 = .ok (.goto 4, 3) := by decide +kernel
theorem d_U_fits_16 : decode b_U_fits 16 = .ok (.iconst 0, 1) := by decide +kernel
theorem d_U_fits_17 : decode b_U_fits 17 = .ok (.ireturn, 1) := by decide +kernel
theorem d_U_write_0 : decode b_U_write 0 = .ok (.aload_n 0, 1) := by decide +kernel
theorem d_U_write_1 : decode b_U_write 1 = .ok (.aload_n 1, 1) := by decide +kernel
theorem d_U_write_2 : decode b_U_write 2 = .ok (.iload_n 2, 1) := by decide +kernel
theorem d_U_write_3 : decode b_U_write 3 = .ok (.invokevirtual 21, 3) := by decide +kernel
theorem d_U_write_6 : decode b_U_write 6 = .ok (.iconst 0, 1) := by decide +kernel
theorem d_U_write_7 : decode b_U_write 7 = .ok (.istore 5, 2) := by decide +kernel
theorem d_U_write_9 : decode b_U_write 9 = .ok (.iload 5, 2) := by decide +kernel
theorem d_U_write_11 : decode b_U_write 11 = .ok (.iload_n 2, 1) := by decide +kernel
theorem d_U_write_12 : decode b_U_write 12 = .ok (.if_icmp .ge 153, 3) := by decide +kernel
theorem d_U_write_15 : decode b_U_write 15 = .ok (.aload_n 0, 1) := by decide +kernel
theorem d_U_write_16 : decode b_U_write 16 = .ok (.getfield 9, 3) := by decide +kernel
theorem d_U_write_19 : decode b_U_write 19 = .ok (.iload 5, 2) := by decide +kernel
theorem d_U_write_21 : decode b_U_write 21 = .ok (.iaload, 1) := by decide +kernel
theorem d_U_write_22 : decode b_U_write 22 = .ok (.bipush 8, 2) := by decide +kernel
theorem d_U_write_24 : decode b_U_write 24 = .ok (.if_icmp .lt 56, 3) := by decide +kernel
theorem d_U_write_27 : decode b_U_write 27 = .ok (.aload 4, 2) := by decide +kernel
theorem d_U_write_29 : decode b_U_write 29 = .ok (.ldc2_w 25, 3) := by decide +kernel
theorem d_U_write_32 : decode b_U_write 32 = .ok (.aload_n 0, 1) := by decide +kernel
theorem d_U_write_33 : decode b_U_write 33 = .ok (.getfield 9, 3) := by decide +kernel
theorem d_U_write_36 : decode b_U_write 36 = .ok (.iload 5, 2) := by decide +kernel
theorem d_U_write_38 : decode b_U_write 38 = .ok (.iaload, 1) := by decide +kernel
theorem d_U_write_39 : decode b_U_write 39 = .ok (.i2l, 1) := by decide +kernel
theorem d_U_write_40 : decode b_U_write 40 = .ok (.lmul, 1) := by decide +kernel
theorem d_U_write_41 : decode b_U_write 41 = .ok (.invokevirtual 27, 3) := by decide +kernel
theorem d_U_write_44 : decode b_U_write 44 = .ok (.aload 4, 2) := by decide +kernel
theorem d_U_write_46 : decode b_U_write 46 = .ok (.aload_n 1, 1) := by decide +kernel
theorem d_U_write_47 : decode b_U_write 47 = .ok (.iload 5, 2) := by decide +kernel
theorem d_U_write_49 : decode b_U_write 49 = .ok (.iaload, 1) := by decide +kernel
theorem d_U_write_50 : decode b_U_write 50 = .ok (.i2l, 1) := by decide +kernel
theorem d_U_write_51 : decode b_U_write 51 = .ok (.ldc2_w 33, 3) := by decide +kernel
theorem d_U_write_54 : decode b_U_write 54 = .ok (.land, 1) := by decide +kernel
theorem d_U_write_55 : decode b_U_write 55 = .ok (.iload_n 3, 1) := by decide +kernel
theorem d_U_write_56 : decode b_U_write 56 = .ok (.bipush 7, 2) := by decide +kernel
theorem d_U_write_58 : decode b_U_write 58 = .ok (.iadd, 1) := by decide +kernel
theorem d_U_write_59 : decode b_U_write 59 = .ok (.bipush 8, 2) := by decide +kernel
theorem d_U_write_61 : decode b_U_write 61 = .ok (.idiv, 1) := by decide +kernel
theorem d_U_write_62 : decode b_U_write 62 = .ok (.invokevirtual 35, 3) := by decide +kernel
theorem d_U_write_65 : decode b_U_write 65 = .ok (.iload 5, 2) := by decide +kernel
theorem d_U_write_67 : decode b_U_write 67 = .ok (.aload_n 0, 1) := by decide +kernel
theorem d_U_write_68 : decode b_U_write 68 = .ok (.getfield 9, 3) := by decide +kernel
theorem d_U_write_71 : decode b_U_write 71 = .ok (.iload 5, 2) := by decide +kernel
theorem d_U_write_73 : decode b_U_write 73 = .ok (.iaload, 1) := by decide +kernel
theorem d_U_write_74 : decode b_U_write 74 = .ok (.iadd, 1) := by decide +kernel
theorem d_U_write_75 : decode b_U_write 75 = .ok (.istore 5, 2) := by decide +kernel
theorem d_U_write_77 : decode b_U_write 77 = .ok (.goto (-68), 3) := by decide +kernel
theorem d_U_write_80 : decode b_U_write 80 = .ok (.iload 5, 2) := by decide +kernel
theorem d_U_write_82 : decode b_U_write 82 = .ok (.bipush 8, 2) := by decide +kernel
theorem d_U_write_84 : decode b_U_write 84 = .ok (.iadd, 1) := by decide +kernel
theorem d_U_write_85 : decode b_U_write 85 = .ok (.istore 6, 2) := by decide +kernel
theorem d_U_write_87 : decode b_U_write 87 = .ok (.iload 6, 2) := by decide +kernel
theorem d_U_write_89 : decode b_U_write 89 = .ok (.iload_n 2, 1) := by decide +kernel
theorem d_U_write_90 : decode b_U_write 90 = .ok (.if_icmp .ge 21, 3) := by decide +kernel
theorem d_U_write_93 : decode b_U_write 93 = .ok (.aload_n 0, 1) := by decide +kernel
theorem d_U_write_94 : decode b_U_write 94 = .ok (.getfield 9, 3) := by decide +kernel
theorem d_U_write_97 : decode b_U_write 97 = .ok (.iload 6, 2) := by decide +kernel
theorem d_U_write_99 : decode b_U_write 99 = .ok (.iaload, 1) := by decide +kernel
theorem d_U_write_100 : decode b_U_write 100 = .ok (.bipush 8, 2) := by decide +kernel
theorem d_U_write_102 : decode b_U_write 102 = .ok (.if_icmp .ge 9, 3) := by decide +kernel
theorem d_U_write_105 : decode b_U_write 105 = .ok (.iinc 6 8, 3) := by decide +kernel
theorem d_U_write_108 : decode b_U_write 108 = .ok (.goto (-21), 3) := by decide +kernel
theorem d_U_write_111 : decode b_U_write 111 = .ok (.iload 6, 2) := by decide +kernel
theorem d_U_write_113 : decode b_U_write 113 = .ok (.iload 5, 2) := by decide +kernel
theorem d_U_write_115 : decode b_U_write 115 = .ok (.isub, 1) := by decide +kernel
theorem d_U_write_116 : decode b_U_write 116 = .ok (.bipush 8, 2) := by decide +kernel
theorem d_U_write_118 : decode b_U_write 118 = .ok (.idiv, 1) := by decide +kernel
theorem d_U_write_119 : decode b_U_write 119 = .ok (.istore 7, 2) := by decide +kernel
theorem d_U_write_121 : decode b_U_write 121 = .ok (.aload 4, 2) := by decide +kernel
theorem d_U_write_123 : decode b_U_write 123 = .ok (.ldc2_w 25, 3) := by decide +kernel
theorem d_U_write_126 : decode b_U_write 126 = .ok (.iload 7, 2) := by decide +kernel
theorem d_U_write_128 : decode b_U_write 128 = .ok (.i2l, 1) := by decide +kernel
theorem d_U_write_129 : decode b_U_write 129 = .ok (.lmul, 1) := by decide +kernel
theorem d_U_write_130 : decode b_U_write 130 = .ok (.lconst 1, 1) := by decide +kernel
theorem d_U_write_131 : decode b_U_write 131 = .ok (.ladd, 1) := by decide +kernel
theorem d_U_write_132 : decode b_U_write 132 = .ok (.invokevirtual 27, 3) := by decide +kernel
theorem d_U_write_135 : decode b_U_write 135 = .ok (.aload_n 1, 1) := by decide +kernel
theorem d_U_write_136 : decode b_U_write 136 = .ok (.iload 5, 2) := by decide +kernel
theorem d_U_write_138 : decode b_U_write 138 = .ok (.iload_n 2, 1) := by decide +kernel
theorem d_U_write_139 : decode b_U_write 139 = .ok (.iload 6, 2) := by decide +kernel
theorem d_U_write_141 : decode b_U_write 141 = .ok (.if_icmp .ge 7, 3) := by decide +kernel
theorem d_U_write_144 : decode b_U_write 144 = .ok (.iload_n 2, 1) := by decide +kernel
theorem d_U_write_145 : decode b_U_write 145 = .ok (.goto 5, 3) := by decide +kernel
theorem d_U_write_148 : decode b_U_write 148 = .ok (.iload 6, 2) := by decide +kernel
theorem d_U_write_150 : decode b_U_write 150 = .ok (.iload 6, 2) := by decide +kernel
theorem d_U_write_152 : decode b_U_write 152 = .ok (.iload_n 3, 1) := by decide +kernel
theorem d_U_write_153 : decode b_U_write 153 = .ok (.aload 4, 2) := by decide +kernel
theorem d_U_write_155 : decode b_U_write 155 = .ok (.invokestatic 39, 3) := by decide +kernel
theorem d_U_write_158 : decode b_U_write 158 = .ok (.iload 6, 2) := by decide +kernel
theorem d_U_write_160 : decode b_U_write 160 = .ok (.istore 5, 2) := by decide +kernel
theorem d_U_write_162 : decode b_U_write 162 = .ok (.goto (-153), 3) := by decide +kernel
theorem d_U_write_165 : decode b_U_write 165 = .ok (.return_, 1) := by decide +kernel
theorem d_U_look_0 : decode b_U_look 0 = .ok (.aload_n 0, 1) := by decide +kernel
theorem d_U_look_1 : decode b_U_look 1 = .ok (.getfield 9, 3) := by decide +kernel
theorem d_U_look_4 : decode b_U_look 4 = .ok (.arraylength, 1) := by decide +kernel
theorem d_U_look_5 : decode b_U_look 5 = .ok (.iload_n 2, 1) := by decide +kernel
theorem d_U_look_6 : decode b_U_look 6 = .ok (.if_icmp .ge 20, 3) := by decide +kernel
theorem d_U_look_9 : decode b_U_look 9 = .ok (.aload_n 0, 1) := by decide +kernel
theorem d_U_look_10 : decode b_U_look 10 = .ok (.iload_n 2, 1) := by decide +kernel
theorem d_U_look_11 : decode b_U_look 11 = .ok (.iconst 2, 1) := by decide +kernel
theorem d_U_look_12 : decode b_U_look 12 = .ok (.aload_n 0, 1) := by decide +kernel
theorem d_U_look_13 : decode b_U_look 13 = .ok (.getfield 9, 3) := by decide +kernel
theorem d_U_look_16 : decode b_U_look 16 = .ok (.arraylength, 1) := by decide +kernel
theorem d_U_look_17 : decode b_U_look 17 = .ok (.imul, 1) := by decide +kernel
theorem d_U_look_18 : decode b_U_look 18 = .ok (.invokestatic 15, 3) := by decide +kernel
theorem d_U_look_21 : decode b_U_look 21 = .ok (.newarray .int, 2) := by decide +kernel
theorem d_U_look_23 : decode b_U_look 23 = .ok (.putfield 9, 3) := by decide +kernel
theorem d_U_look_26 : decode b_U_look 26 = .ok (.iload_n 2, 1) := by decide +kernel
theorem d_U_look_27 : decode b_U_look 27 = .ok (.iconst 1, 1) := by decide +kernel
theorem d_U_look_28 : decode b_U_look 28 = .ok (.isub, 1) := by decide +kernel
theorem d_U_look_29 : decode b_U_look 29 = .ok (.istore_n 3, 1) := by decide +kernel
theorem d_U_look_30 : decode b_U_look 30 = .ok (.iload_n 3, 1) := by decide +kernel
theorem d_U_look_31 : decode b_U_look 31 = .ok (.ifCond .lt 47, 3) := by decide +kernel
theorem d_U_look_34 : decode b_U_look 34 = .ok (.aload_n 0, 1) := by decide +kernel
theorem d_U_look_35 : decode b_U_look 35 = .ok (.getfield 9, 3) := by decide +kernel
theorem d_U_look_38 : decode b_U_look 38 = .ok (.iload_n 3, 1) := by decide +kernel
theorem d_U_look_39 : decode b_U_look 39 = .ok (.iload_n 3, 1) := by decide +kernel
theorem d_U_look_40 : decode b_U_look 40 = .ok (.iconst 1, 1) := by decide +kernel
theorem d_U_look_41 : decode b_U_look 41 = .ok (.iadd, 1) := by decide +kernel
theorem d_U_look_42 : decode b_U_look 42 = .ok (.iload_n 2, 1) := by decide +kernel
theorem d_U_look_43 : decode b_U_look 43 = .ok (.if_icmp .ge 27, 3) := by decide +kernel
theorem d_U_look_46 : decode b_U_look 46 = .ok (.aload_n 1, 1) := by decide +kernel
theorem d_U_look_47 : decode b_U_look 47 = .ok (.iload_n 3, 1) := by decide +kernel
theorem d_U_look_48 : decode b_U_look 48 = .ok (.iaload, 1) := by decide +kernel
theorem d_U_look_49 : decode b_U_look 49 = .ok (.aload_n 1, 1) := by decide +kernel
theorem d_U_look_50 : decode b_U_look 50 = .ok (.iload_n 3, 1) := by decide +kernel
theorem d_U_look_51 : decode b_U_look 51 = .ok (.iconst 1, 1) := by decide +kernel
theorem d_U_look_52 : decode b_U_look 52 = .ok (.iadd, 1) := by decide +kernel
theorem d_U_look_53 : decode b_U_look 53 = .ok (.iaload, 1) := by decide +kernel
theorem d_U_look_54 : decode b_U_look 54 = .ok (.if_icmp .ne 16, 3) := by decide +kernel
theorem d_U_look_57 : decode b_U_look 57 = .ok (.aload_n 0, 1) := by decide +kernel
theorem d_U_look_58 : decode b_U_look 58 = .ok (.getfield 9, 3) := by decide +kernel
theorem d_U_look_61 : decode b_U_look 61 = .ok (.iload_n 3, 1) := by decide +kernel
theorem d_U_look_62 : decode b_U_look 62 = .ok (.iconst 1, 1) := by decide +kernel
theorem d_U_look_63 : decode b_U_look 63 = .ok (.iadd, 1) := by decide +kernel
theorem d_U_look_64 : decode b_U_look 64 = .ok (.iaload, 1) := by decide +kernel
theorem d_U_look_65 : decode b_U_look 65 = .ok (.iconst 1, 1) := by decide +kernel
theorem d_U_look_66 : decode b_U_look 66 = .ok (.iadd, 1) := by decide +kernel
theorem d_U_look_67 : decode b_U_look 67 = .ok (.goto 4, 3) := by decide +kernel
theorem d_U_look_70 : decode b_U_look 70 = .ok (.iconst 1, 1) := by decide +kernel
theorem d_U_look_71 : decode b_U_look 71 = .ok (.iastore, 1) := by decide +kernel
theorem d_U_look_72 : decode b_U_look 72 = .ok (.iinc 3 (-1), 3) := by decide +kernel
theorem d_U_look_75 : decode b_U_look 75 = .ok (.goto (-45), 3) := by decide +kernel
theorem d_U_look_78 : decode b_U_look 78 = .ok (.return_, 1) := by decide +kernel
theorem d_B_putVarint_0 : decode b_B_putVarint 0 = .ok (.lload_n 1, 1) := by decide +kernel
theorem d_B_putVarint_1 : decode b_B_putVarint 1 = .ok (.lstore_n 3, 1) := by decide +kernel
theorem d_B_putVarint_2 : decode b_B_putVarint 2 = .ok (.lload_n 3, 1) := by decide +kernel
theorem d_B_putVarint_3 : decode b_B_putVarint 3 = .ok (.ldc2_w 35, 3) := by decide +kernel
theorem d_B_putVarint_6 : decode b_B_putVarint 6 = .ok (.land, 1) := by decide +kernel
theorem d_B_putVarint_7 : decode b_B_putVarint 7 = .ok (.lconst 0, 1) := by decide +kernel
theorem d_B_putVarint_8 : decode b_B_putVarint 8 = .ok (.lcmp, 1) := by decide +kernel
theorem d_B_putVarint_9 : decode b_B_putVarint 9 = .ok (.ifCond .eq 25, 3) := by decide +kernel
theorem d_B_putVarint_12 : decode b_B_putVarint 12 = .ok (.aload_n 0, 1) := by decide +kernel
theorem d_B_putVarint_13 : decode b_B_putVarint 13 = .ok (.lload_n 3, 1) := by decide +kernel
theorem d_B_putVarint_14 : decode b_B_putVarint 14 = .ok (.ldc2_w 37, 3) := by decide +kernel
theorem d_B_putVarint_17 : decode b_B_putVarint 17 = .ok (.land, 1) := by decide +kernel
theorem d_B_putVarint_18 : decode b_B_putVarint 18 = .ok (.l2i, 1) := by decide +kernel
theorem d_B_putVarint_19 : decode b_B_putVarint 19 = .ok (.sipush 128, 3) := by decide +kernel
theorem d_B_putVarint_22 : decode b_B_putVarint 22 = .ok (.ior, 1) := by decide +kernel
theorem d_B_putVarint_23 : decode b_B_putVarint 23 = .ok (.invokevirtual 31, 3) := by decide +kernel
theorem d_B_putVarint_26 : decode b_B_putVarint 26 = .ok (.lload_n 3, 1) := by decide +kernel
theorem d_B_putVarint_27 : decode b_B_putVarint 27 = .ok (.bipush 7, 2) := by decide +kernel
theorem d_B_putVarint_29 : decode b_B_putVarint 29 = .ok (.lushr, 1) := by decide +kernel
theorem d_B_putVarint_30 : decode b_B_putVarint 30 = .ok (.lstore_n 3, 1) := by decide +kernel
theorem d_B_putVarint_31 : decode b_B_putVarint 31 = .ok (.goto (-29), 3) := by decide +kernel
theorem d_B_putVarint_34 : decode b_B_putVarint 34 = .ok (.aload_n 0, 1) := by decide +kernel
theorem d_B_putVarint_35 : decode b_B_putVarint 35 = .ok (.lload_n 3, 1) := by decide +kernel
theorem d_B_putVarint_36 : decode b_B_putVarint 36 = .ok (.l2i, 1) := by decide +kernel
theorem d_B_putVarint_37 : decode b_B_putVarint 37 = .ok (.invokevirtual 31, 3) := by decide +kernel
theorem d_B_putVarint_40 : decode b_B_putVarint 40 = .ok (.return_, 1) := by decide +kernel
theorem d_B_putFixed_0 : decode b_B_putFixed 0 = .ok (.iconst 0, 1) := by decide +kernel
theorem d_B_putFixed_1 : decode b_B_putFixed 1 = .ok (.istore 4, 2) := by decide +kernel
theorem d_B_putFixed_3 : decode b_B_putFixed 3 = .ok (.iload 4, 2) := by decide +kernel
theorem d_B_putFixed_5 : decode b_B_putFixed 5 = .ok (.iload_n 3, 1) := by decide +kernel
theorem d_B_putFixed_6 : decode b_B_putFixed 6 = .ok (.if_icmp .ge 21, 3) := by decide +kernel
theorem d_B_putFixed_9 : decode b_B_putFixed 9 = .ok (.aload_n 0, 1) := by decide +kernel
theorem d_B_putFixed_10 : decode b_B_putFixed 10 = .ok (.lload_n 1, 1) := by decide +kernel
theorem d_B_putFixed_11 : decode b_B_putFixed 11 = .ok (.bipush 8, 2) := by decide +kernel
theorem d_B_putFixed_13 : decode b_B_putFixed 13 = .ok (.iload 4, 2) := by decide +kernel
theorem d_B_putFixed_15 : decode b_B_putFixed 15 = .ok (.imul, 1) := by decide +kernel
theorem d_B_putFixed_16 : decode b_B_putFixed 16 = .ok (.lushr, 1) := by decide +kernel
theorem d_B_putFixed_17 : decode b_B_putFixed 17 = .ok (.l2i, 1) := by decide +kernel
theorem d_B_putFixed_18 : decode b_B_putFixed 18 = .ok (.invokevirtual 31, 3) := by decide +kernel
theorem d_B_putFixed_21 : decode b_B_putFixed 21 = .ok (.iinc 4 1, 3) := by decide +kernel
theorem d_B_putFixed_24 : decode b_B_putFixed 24 = .ok (.goto (-21), 3) := by decide +kernel
theorem d_B_putFixed_27 : decode b_B_putFixed 27 = .ok (.return_, 1) := by decide +kernel
theorem d_U_pack_0 : decode b_U_pack 0 = .ok (.lconst 0, 1) := by decide +kernel
theorem d_U_pack_1 : decode b_U_pack 1 = .ok (.lstore 6, 2) := by decide +kernel
theorem d_U_pack_3 : decode b_U_pack 3 = .ok (.iconst 0, 1) := by decide +kernel
theorem d_U_pack_4 : decode b_U_pack 4 = .ok (.istore 8, 2) := by decide +kernel
theorem d_U_pack_6 : decode b_U_pack 6 = .ok (.iload_n 1, 1) := by decide +kernel
theorem d_U_pack_7 : decode b_U_pack 7 = .ok (.istore 9, 2) := by decide +kernel
theorem d_U_pack_9 : decode b_U_pack 9 = .ok (.iload 9, 2) := by decide +kernel
theorem d_U_pack_11 : decode b_U_pack 11 = .ok (.iload_n 3, 1) := by decide +kernel
theorem d_U_pack_12 : decode b_U_pack 12 = .ok (.if_icmp .ge 71, 3) := by decide +kernel
theorem d_U_pack_15 : decode b_U_pack 15 = .ok (.lload 6, 2) := by decide +kernel
theorem d_U_pack_17 : decode b_U_pack 17 = .ok (.iload 9, 2) := by decide +kernel
theorem d_U_pack_19 : decode b_U_pack 19 = .ok (.iload_n 2, 1) := by decide +kernel
theorem d_U_pack_20 : decode b_U_pack 20 = .ok (.if_icmp .ge 15, 3) := by decide +kernel
theorem d_U_pack_23 : decode b_U_pack 23 = .ok (.aload_n 0, 1) := by decide +kernel
theorem d_U_pack_24 : decode b_U_pack 24 = .ok (.iload 9, 2) := by decide +kernel
theorem d_U_pack_26 : decode b_U_pack 26 = .ok (.iaload, 1) := by decide +kernel
theorem d_U_pack_27 : decode b_U_pack 27 = .ok (.i2l, 1) := by decide +kernel
theorem d_U_pack_28 : decode b_U_pack 28 = .ok (.ldc2_w 33, 3) := by decide +kernel
theorem d_U_pack_31 : decode b_U_pack 31 = .ok (.land, 1) := by decide +kernel
theorem d_U_pack_32 : decode b_U_pack 32 = .ok (.goto 4, 3) := by decide +kernel
theorem d_U_pack_35 : decode b_U_pack 35 = .ok (.lconst 0, 1) := by decide +kernel
theorem d_U_pack_36 : decode b_U_pack 36 = .ok (.iload 8, 2) := by decide +kernel
theorem d_U_pack_38 : decode b_U_pack 38 = .ok (.lshl, 1) := by decide +kernel
theorem d_U_pack_39 : decode b_U_pack 39 = .ok (.lor, 1) := by decide +kernel
theorem d_U_pack_40 : decode b_U_pack 40 = .ok (.lstore 6, 2) := by decide +kernel
theorem d_U_pack_42 : decode b_U_pack 42 = .ok (.iload 8, 2) := by decide +kernel
theorem d_U_pack_44 : decode b_U_pack 44 = .ok (.iload 4, 2) := by decide +kernel
theorem d_U_pack_46 : decode b_U_pack 46 = .ok (.iadd, 1) := by decide +kernel
theorem d_U_pack_47 : decode b_U_pack 47 = .ok (.istore 8, 2) := by decide +kernel
theorem d_U_pack_49 : decode b_U_pack 49 = .ok (.iload 8, 2) := by decide +kernel
theorem d_U_pack_51 : decode b_U_pack 51 = .ok (.bipush 8, 2) := by decide +kernel
theorem d_U_pack_53 : decode b_U_pack 53 = .ok (.if_icmp .lt 24, 3) := by decide +kernel
theorem d_U_pack_56 : decode b_U_pack 56 = .ok (.aload 5, 2) := by decide +kernel
theorem d_U_pack_58 : decode b_U_pack 58 = .ok (.lload 6, 2) := by decide +kernel
theorem d_U_pack_60 : decode b_U_pack 60 = .ok (.l2i, 1) := by decide +kernel
theorem d_U_pack_61 : decode b_U_pack 61 = .ok (.invokevirtual 43, 3) := by decide +kernel
theorem d_U_pack_64 : decode b_U_pack 64 = .ok (.lload 6, 2) := by decide +kernel
theorem d_U_pack_66 : decode b_U_pack 66 = .ok (.bipush 8, 2) := by decide +kernel
theorem d_U_pack_68 : decode b_U_pack 68 = .ok (.lushr, 1) := by decide +kernel
theorem d_U_pack_69 : decode b_U_pack 69 = .ok (.lstore 6, 2) := by decide +kernel
theorem d_U_pack_71 : decode b_U_pack 71 = .ok (.iinc 8 (-8), 3) := by decide +kernel
theorem d_U_pack_74 : decode b_U_pack 74 = .ok (.goto (-25), 3) := by decide +kernel
theorem d_U_pack_77 : decode b_U_pack 77 = .ok (.iinc 9 1, 3) := by decide +kernel
theorem d_U_pack_80 : decode b_U_pack 80 = .ok (.goto (-71), 3) := by decide +kernel
theorem d_U_pack_83 : decode b_U_pack 83 = .ok (.return_, 1) := by decide +kernel
theorem d_X_decode_0 : decode b_X_decode 0 = .ok (.iload_n 1, 1) := by decide +kernel
theorem d_X_decode_1 : decode b_X_decode 1 = .ok (.ifCond .lt 10, 3) := by decide +kernel
theorem d_X_decode_4 : decode b_X_decode 4 = .ok (.iload_n 1, 1) := by decide +kernel
theorem d_X_decode_5 : decode b_X_decode 5 = .ok (.sipush 4096, 3) := by decide +kernel
theorem d_X_decode_8 : decode b_X_decode 8 = .ok (.if_icmp .le 5, 3) := by decide +kernel
theorem d_X_decode_11 : decode b_X_decode 11 = .ok (.iconst (-1), 1) := by decide +kernel
theorem d_X_decode_12 : decode b_X_decode 12 = .ok (.ireturn, 1) := by decide +kernel
theorem d_X_decode_13 : decode b_X_decode 13 = .ok (.aload_n 0, 1) := by decide +kernel
theorem d_X_decode_14 : decode b_X_decode 14 = .ok (.getfield 18, 3) := by decide +kernel
theorem d_X_decode_17 : decode b_X_decode 17 = .ok (.iconst 0, 1) := by decide +kernel
theorem d_X_decode_18 : decode b_X_decode 18 = .ok (.putfield 67, 3) := by decide +kernel
theorem d_X_decode_21 : decode b_X_decode 21 = .ok (.aload_n 0, 1) := by decide +kernel
theorem d_X_decode_22 : decode b_X_decode 22 = .ok (.getfield 18, 3) := by decide +kernel
theorem d_X_decode_25 : decode b_X_decode 25 = .ok (.iconst 0, 1) := by decide +kernel
theorem d_X_decode_26 : decode b_X_decode 26 = .ok (.putfield 70, 3) := by decide +kernel
theorem d_X_decode_29 : decode b_X_decode 29 = .ok (.aload_n 0, 1) := by decide +kernel
theorem d_X_decode_30 : decode b_X_decode 30 = .ok (.getfield 27, 3) := by decide +kernel
theorem d_X_decode_33 : decode b_X_decode 33 = .ok (.aload_n 0, 1) := by decide +kernel
theorem d_X_decode_34 : decode b_X_decode 34 = .ok (.getfield 18, 3) := by decide +kernel
theorem d_X_decode_37 : decode b_X_decode 37 = .ok (.aload_n 0, 1) := by decide +kernel
theorem d_X_decode_38 : decode b_X_decode 38 = .ok (.getfield 18, 3) := by decide +kernel
theorem d_X_decode_41 : decode b_X_decode 41 = .ok (.getfield 38, 3) := by decide +kernel
theorem d_X_decode_44 : decode b_X_decode 44 = .ok (.iload_n 1, 1) := by decide +kernel
theorem d_X_decode_45 : decode b_X_decode 45 = .ok (.aload_n 0, 1) := by decide +kernel
theorem d_X_decode_46 : decode b_X_decode 46 = .ok (.getfield 55, 3) := by decide +kernel
theorem d_X_decode_49 : decode b_X_decode 49 = .ok (.aload_n 0, 1) := by decide +kernel
theorem d_X_decode_50 : decode b_X_decode 50 = .ok (.getfield 35, 3) := by decide +kernel
theorem d_X_decode_53 : decode b_X_decode 53 = .ok (.invokevirtual 73, 3) := by decide +kernel
theorem d_X_decode_56 : decode b_X_decode 56 = .ok (.aload_n 0, 1) := by decide +kernel
theorem d_X_decode_57 : decode b_X_decode 57 = .ok (.getfield 18, 3) := by decide +kernel
theorem d_X_decode_60 : decode b_X_decode 60 = .ok (.getfield 70, 3) := by decide +kernel
theorem d_X_decode_63 : decode b_X_decode 63 = .ok (.ifCond .eq 11, 3) := by decide +kernel
theorem d_X_decode_66 : decode b_X_decode 66 = .ok (.aload_n 0, 1) := by decide +kernel
theorem d_X_decode_67 : decode b_X_decode 67 = .ok (.getfield 18, 3) := by decide +kernel
theorem d_X_decode_70 : decode b_X_decode 70 = .ok (.getfield 70, 3) := by decide +kernel
theorem d_X_decode_73 : decode b_X_decode 73 = .ok (.ireturn, 1) := by decide +kernel
theorem d_X_decode_74 : decode b_X_decode 74 = .ok (.aload_n 0, 1) := by decide +kernel
theorem d_X_decode_75 : decode b_X_decode 75 = .ok (.getfield 35, 3) := by decide +kernel
theorem d_X_decode_78 : decode b_X_decode 78 = .ok (.iconst 0, 1) := by decide +kernel
theorem d_X_decode_79 : decode b_X_decode 79 = .ok (.aload_n 0, 1) := by decide +kernel
theorem d_X_decode_80 : decode b_X_decode 80 = .ok (.getfield 31, 3) := by decide +kernel
theorem d_X_decode_83 : decode b_X_decode 83 = .ok (.iconst 0, 1) := by decide +kernel
theorem d_X_decode_84 : decode b_X_decode 84 = .ok (.iload_n 1, 1) := by decide +kernel
theorem d_X_decode_85 : decode b_X_decode 85 = .ok (.invokestatic 77, 3) := by decide +kernel
theorem d_X_decode_88 : decode b_X_decode 88 = .ok (.aload_n 0, 1) := by decide +kernel
theorem d_X_decode_89 : decode b_X_decode 89 = .ok (.iload_n 1, 1) := by decide +kernel
theorem d_X_decode_90 : decode b_X_decode 90 = .ok (.putfield 58, 3) := by decide +kernel
theorem d_X_decode_93 : decode b_X_decode 93 = .ok (.iconst 0, 1) := by decide +kernel
theorem d_X_decode_94 : decode b_X_decode 94 = .ok (.ireturn, 1) := by decide +kernel
theorem d_U_read_0 : decode b_U_read 0 = .ok (.iconst 0, 1) := by decide +kernel
theorem d_U_read_1 : decode b_U_read 1 = .ok (.istore 6, 2) := by decide +kernel
theorem d_U_read_3 : decode b_U_read 3 = .ok (.iload 6, 2) := by decide +kernel
theorem d_U_read_5 : decode b_U_read 5 = .ok (.iload_n 3, 1) := by decide +kernel
theorem d_U_read_6 : decode b_U_read 6 = .ok (.if_icmp .ge 93, 3) := by decide +kernel
theorem d_U_read_9 : decode b_U_read 9 = .ok (.aload_n 1, 1) := by decide +kernel
theorem d_U_read_10 : decode b_U_read 10 = .ok (.getfield 47, 3) := by decide +kernel
theorem d_U_read_13 : decode b_U_read 13 = .ok (.ifCond .ne 86, 3) := by decide +kernel
theorem d_U_read_16 : decode b_U_read 16 = .ok (.aload_n 1, 1) := by decide +kernel
theorem d_U_read_17 : decode b_U_read 17 = .ok (.iload_n 2, 1) := by decide +kernel
theorem d_U_read_18 : decode b_U_read 18 = .ok (.invokevirtual 51, 3) := by decide +kernel
theorem d_U_read_21 : decode b_U_read 21 = .ok (.lstore 7, 2) := by decide +kernel
theorem d_U_read_23 : decode b_U_read 23 = .ok (.aload_n 1, 1) := by decide +kernel
theorem d_U_read_24 : decode b_U_read 24 = .ok (.getfield 47, 3) := by decide +kernel
theorem d_U_read_27 : decode b_U_read 27 = .ok (.ifCond .eq 4, 3) := by decide +kernel
theorem d_U_read_30 : decode b_U_read 30 = .ok (.return_, 1) := by decide +kernel
theorem d_U_read_31 : decode b_U_read 31 = .ok (.lload 7, 2) := by decide +kernel
theorem d_U_read_33 : decode b_U_read 33 = .ok (.iconst 1, 1) := by decide +kernel
theorem d_U_read_34 : decode b_U_read 34 = .ok (.lushr, 1) := by decide +kernel
theorem d_U_read_35 : decode b_U_read 35 = .ok (.lconst 0, 1) := by decide +kernel
theorem d_U_read_36 : decode b_U_read 36 = .ok (.lcmp, 1) := by decide +kernel
theorem d_U_read_37 : decode b_U_read 37 = .ok (.ifCond .ne 11, 3) := by decide +kernel
theorem d_U_read_40 : decode b_U_read 40 = .ok (.aload_n 1, 1) := by decide +kernel
theorem d_U_read_41 : decode b_U_read 41 = .ok (.iconst 3, 1) := by decide +kernel
theorem d_U_read_42 : decode b_U_read 42 = .ok (.invokevirtual 55, 3) := by decide +kernel
theorem d_U_read_45 : decode b_U_read 45 = .ok (.goto 51, 3) := by decide +kernel
theorem d_U_read_48 : decode b_U_read 48 = .ok (.lload 7, 2) := by decide +kernel
theorem d_U_read_50 : decode b_U_read 50 = .ok (.lconst 1, 1) := by decide +kernel
theorem d_U_read_51 : decode b_U_read 51 = .ok (.land, 1) := by decide +kernel
theorem d_U_read_52 : decode b_U_read 52 = .ok (.lconst 0, 1) := by decide +kernel
theorem d_U_read_53 : decode b_U_read 53 = .ok (.lcmp, 1) := by decide +kernel
theorem d_U_read_54 : decode b_U_read 54 = .ok (.ifCond .ne 24, 3) := by decide +kernel
theorem d_U_read_57 : decode b_U_read 57 = .ok (.aload_n 1, 1) := by decide +kernel
theorem d_U_read_58 : decode b_U_read 58 = .ok (.iload_n 2, 1) := by decide +kernel
theorem d_U_read_59 : decode b_U_read 59 = .ok (.lload 7, 2) := by decide +kernel
theorem d_U_read_61 : decode b_U_read 61 = .ok (.iconst 1, 1) := by decide +kernel
theorem d_U_read_62 : decode b_U_read 62 = .ok (.lushr, 1) := by decide +kernel
theorem d_U_read_63 : decode b_U_read 63 = .ok (.iload 6, 2) := by decide +kernel
theorem d_U_read_65 : decode b_U_read 65 = .ok (.iload_n 3, 1) := by decide +kernel
theorem d_U_read_66 : decode b_U_read 66 = .ok (.iload 4, 2) := by decide +kernel
theorem d_U_read_68 : decode b_U_read 68 = .ok (.aload 5, 2) := by decide +kernel
theorem d_U_read_70 : decode b_U_read 70 = .ok (.invokestatic 58, 3) := by decide +kernel
theorem d_U_read_73 : decode b_U_read 73 = .ok (.istore 6, 2) := by decide +kernel
theorem d_U_read_75 : decode b_U_read 75 = .ok (.goto 21, 3) := by decide +kernel
theorem d_U_read_78 : decode b_U_read 78 = .ok (.aload_n 1, 1) := by decide +kernel
theorem d_U_read_79 : decode b_U_read 79 = .ok (.iload_n 2, 1) := by decide +kernel
theorem d_U_read_80 : decode b_U_read 80 = .ok (.lload 7, 2) := by decide +kernel
theorem d_U_read_82 : decode b_U_read 82 = .ok (.iconst 1, 1) := by decide +kernel
theorem d_U_read_83 : decode b_U_read 83 = .ok (.lushr, 1) := by decide +kernel
theorem d_U_read_84 : decode b_U_read 84 = .ok (.iload 6, 2) := by decide +kernel
theorem d_U_read_86 : decode b_U_read 86 = .ok (.iload_n 3, 1) := by decide +kernel
theorem d_U_read_87 : decode b_U_read 87 = .ok (.iload 4, 2) := by decide +kernel
theorem d_U_read_89 : decode b_U_read 89 = .ok (.aload 5, 2) := by decide +kernel
theorem d_U_read_91 : decode b_U_read 91 = .ok (.invokestatic 62, 3) := by decide +kernel
theorem d_U_read_94 : decode b_U_read 94 = .ok (.istore 6, 2) := by decide +kernel
theorem d_U_read_96 : decode b_U_read 96 = .ok (.goto (-93), 3) := by decide +kernel
theorem d_U_read_99 : decode b_U_read 99 = .ok (.aload_n 1, 1) := by decide +kernel
theorem d_U_read_100 : decode b_U_read 100 = .ok (.getfield 65, 3) := by decide +kernel
theorem d_U_read_103 : decode b_U_read 103 = .ok (.iload_n 2, 1) := by decide +kernel
theorem d_U_read_104 : decode b_U_read 104 = .ok (.if_icmp .ge 9, 3) := by decide +kernel
theorem d_U_read_107 : decode b_U_read 107 = .ok (.aload_n 1, 1) := by decide +kernel
theorem d_U_read_108 : decode b_U_read 108 = .ok (.bipush 6, 2) := by decide +kernel
theorem d_U_read_110 : decode b_U_read 110 = .ok (.invokevirtual 55, 3) := by decide +kernel
theorem d_U_read_113 : decode b_U_read 113 = .ok (.return_, 1) := by decide +kernel
theorem d_B_takeVarint_0 : decode b_B_takeVarint 0 = .ok (.lconst 0, 1) := by decide +kernel
theorem d_B_takeVarint_1 : decode b_B_takeVarint 1 = .ok (.lstore_n 2, 1) := by decide +kernel
theorem d_B_takeVarint_2 : decode b_B_takeVarint 2 = .ok (.iconst 0, 1) := by decide +kernel
theorem d_B_takeVarint_3 : decode b_B_takeVarint 3 = .ok (.istore 4, 2) := by decide +kernel
theorem d_B_takeVarint_5 : decode b_B_takeVarint 5 = .ok (.iload 4, 2) := by decide +kernel
theorem d_B_takeVarint_7 : decode b_B_takeVarint 7 = .ok (.bipush 10, 2) := by decide +kernel
theorem d_B_takeVarint_9 : decode b_B_takeVarint 9 = .ok (.if_icmp .ge 80, 3) := by decide +kernel
theorem d_B_takeVarint_12 : decode b_B_takeVarint 12 = .ok (.aload_n 0, 1) := by decide +kernel
theorem d_B_takeVarint_13 : decode b_B_takeVarint 13 = .ok (.iload_n 1, 1) := by decide +kernel
theorem d_B_takeVarint_14 : decode b_B_takeVarint 14 = .ok (.invokevirtual 42, 3) := by decide +kernel
theorem d_B_takeVarint_17 : decode b_B_takeVarint 17 = .ok (.istore 5, 2) := by decide +kernel
theorem d_B_takeVarint_19 : decode b_B_takeVarint 19 = .ok (.aload_n 0, 1) := by decide +kernel
theorem d_B_takeVarint_20 : decode b_B_takeVarint 20 = .ok (.getfield 22, 3) := by decide +kernel
theorem d_B_takeVarint_23 : decode b_B_takeVarint 23 = .ok (.ifCond .eq 5, 3) := by decide +kernel
theorem d_B_takeVarint_26 : decode b_B_takeVarint 26 = .ok (.lconst 0, 1) := by decide +kernel
theorem d_B_takeVarint_27 : decode b_B_takeVarint 27 = .ok (.lreturn, 1) := by decide +kernel
theorem d_B_takeVarint_28 : decode b_B_takeVarint 28 = .ok (.iload 4, 2) := by decide +kernel
theorem d_B_takeVarint_30 : decode b_B_takeVarint 30 = .ok (.bipush 9, 2) := by decide +kernel
theorem d_B_takeVarint_32 : decode b_B_takeVarint 32 = .ok (.if_icmp .ne 9, 3) := by decide +kernel
theorem d_B_takeVarint_35 : decode b_B_takeVarint 35 = .ok (.iload 5, 2) := by decide +kernel
theorem d_B_takeVarint_37 : decode b_B_takeVarint 37 = .ok (.iconst 1, 1) := by decide +kernel
theorem d_B_takeVarint_38 : decode b_B_takeVarint 38 = .ok (.if_icmp .gt 13, 3) := by decide +kernel
theorem d_B_takeVarint_41 : decode b_B_takeVarint 41 = .ok (.iload 4, 2) := by decide +kernel
theorem d_B_takeVarint_43 : decode b_B_takeVarint 43 = .ok (.ifCond .le 15, 3) := by decide +kernel
theorem d_B_takeVarint_46 : decode b_B_takeVarint 46 = .ok (.iload 5, 2) := by decide +kernel
theorem d_B_takeVarint_48 : decode b_B_takeVarint 48 = .ok (.ifCond .ne 10, 3) := by decide +kernel
theorem d_B_takeVarint_51 : decode b_B_takeVarint 51 = .ok (.aload_n 0, 1) := by decide +kernel
theorem d_B_takeVarint_52 : decode b_B_takeVarint 52 = .ok (.iconst 2, 1) := by decide +kernel
theorem d_B_takeVarint_53 : decode b_B_takeVarint 53 = .ok (.invokevirtual 39, 3) := by decide +kernel
theorem d_B_takeVarint_56 : decode b_B_takeVarint 56 = .ok (.lconst 0, 1) := by decide +kernel
theorem d_B_takeVarint_57 : decode b_B_takeVarint 57 = .ok (.lreturn, 1) := by decide +kernel
theorem d_B_takeVarint_58 : decode b_B_takeVarint 58 = .ok (.lload_n 2, 1) := by decide +kernel
theorem d_B_takeVarint_59 : decode b_B_takeVarint 59 = .ok (.iload 5, 2) := by decide +kernel
theorem d_B_takeVarint_61 : decode b_B_takeVarint 61 = .ok (.bipush 127, 2) := by decide +kernel
theorem d_B_takeVarint_63 : decode b_B_takeVarint 63 = .ok (.iand, 1) := by decide +kernel
theorem d_B_takeVarint_64 : decode b_B_takeVarint 64 = .ok (.i2l, 1) := by decide +kernel
theorem d_B_takeVarint_65 : decode b_B_takeVarint 65 = .ok (.bipush 7, 2) := by decide +kernel
theorem d_B_takeVarint_67 : decode b_B_takeVarint 67 = .ok (.iload 4, 2) := by decide +kernel
theorem d_B_takeVarint_69 : decode b_B_takeVarint 69 = .ok (.imul, 1) := by decide +kernel
theorem d_B_takeVarint_70 : decode b_B_takeVarint 70 = .ok (.lshl, 1) := by decide +kernel
theorem d_B_takeVarint_71 : decode b_B_takeVarint 71 = .ok (.lor, 1) := by decide +kernel
theorem d_B_takeVarint_72 : decode b_B_takeVarint 72 = .ok (.lstore_n 2, 1) := by decide +kernel
theorem d_B_takeVarint_73 : decode b_B_takeVarint 73 = .ok (.iload 5, 2) := by decide +kernel
theorem d_B_takeVarint_75 : decode b_B_takeVarint 75 = .ok (.sipush 128, 3) := by decide +kernel
theorem d_B_takeVarint_78 : decode b_B_takeVarint 78 = .ok (.if_icmp .ge 5, 3) := by decide +kernel
theorem d_B_takeVarint_81 : decode b_B_takeVarint 81 = .ok (.lload_n 2, 1) := by decide +kernel
theorem d_B_takeVarint_82 : decode b_B_takeVarint 82 = .ok (.lreturn, 1) := by decide +kernel
theorem d_B_takeVarint_83 : decode b_B_takeVarint 83 = .ok (.iinc 4 1, 3) := by decide +kernel
theorem d_B_takeVarint_86 : decode b_B_takeVarint 86 = .ok (.goto (-81), 3) := by decide +kernel
theorem d_B_takeVarint_89 : decode b_B_takeVarint 89 = .ok (.lload_n 2, 1) := by decide +kernel
theorem d_B_takeVarint_90 : decode b_B_takeVarint 90 = .ok (.lreturn, 1) := by decide +kernel
theorem d_B_take_0 : decode b_B_take 0 = .ok (.aload_n 0, 1) := by decide +kernel
theorem d_B_take_1 : decode b_B_take 1 = .ok (.getfield 19, 3) := by decide +kernel
theorem d_B_take_4 : decode b_B_take 4 = .ok (.iload_n 1, 1) := by decide +kernel
theorem d_B_take_5 : decode b_B_take 5 = .ok (.if_icmp .lt 10, 3) := by decide +kernel
theorem d_B_take_8 : decode b_B_take 8 = .ok (.aload_n 0, 1) := by decide +kernel
theorem d_B_take_9 : decode b_B_take 9 = .ok (.iconst 1, 1) := by decide +kernel
theorem d_B_take_10 : decode b_B_take 10 = .ok (.invokevirtual 39, 3) := by decide +kernel
theorem d_B_take_13 : decode b_B_take 13 = .ok (.iconst 0, 1) := by decide +kernel
theorem d_B_take_14 : decode b_B_take 14 = .ok (.ireturn, 1) := by decide +kernel
theorem d_B_take_15 : decode b_B_take 15 = .ok (.aload_n 0, 1) := by decide +kernel
theorem d_B_take_16 : decode b_B_take 16 = .ok (.dup, 1) := by decide +kernel
theorem d_B_take_17 : decode b_B_take 17 = .ok (.getfield 19, 3) := by decide +kernel
theorem d_B_take_20 : decode b_B_take 20 = .ok (.iconst 1, 1) := by decide +kernel
theorem d_B_take_21 : decode b_B_take 21 = .ok (.iadd, 1) := by decide +kernel
theorem d_B_take_22 : decode b_B_take 22 = .ok (.putfield 19, 3) := by decide +kernel
theorem d_B_take_25 : decode b_B_take 25 = .ok (.aload_n 0, 1) := by decide +kernel
theorem d_B_take_26 : decode b_B_take 26 = .ok (.getfield 9, 3) := by decide +kernel
theorem d_B_take_29 : decode b_B_take 29 = .ok (.aload_n 0, 1) := by decide +kernel
theorem d_B_take_30 : decode b_B_take 30 = .ok (.getfield 19, 3) := by decide +kernel
theorem d_B_take_33 : decode b_B_take 33 = .ok (.iconst 1, 1) := by decide +kernel
theorem d_B_take_34 : decode b_B_take 34 = .ok (.isub, 1) := by decide +kernel
theorem d_B_take_35 : decode b_B_take 35 = .ok (.baload, 1) := by decide +kernel
theorem d_B_take_36 : decode b_B_take 36 = .ok (.sipush 255, 3) := by decide +kernel
theorem d_B_take_39 : decode b_B_take 39 = .ok (.iand, 1) := by decide +kernel
theorem d_B_take_40 : decode b_B_take 40 = .ok (.ireturn, 1) := by decide +kernel
theorem d_B_fail_0 : decode b_B_fail 0 = .ok (.aload_n 0, 1) := by decide +kernel
theorem d_B_fail_1 : decode b_B_fail 1 = .ok (.getfield 22, 3) := by decide +kernel
theorem d_B_fail_4 : decode b_B_fail 4 = .ok (.ifCond .ne 8, 3) := by decide +kernel
theorem d_B_fail_7 : decode b_B_fail 7 = .ok (.aload_n 0, 1) := by decide +kernel
theorem d_B_fail_8 : decode b_B_fail 8 = .ok (.iload_n 1, 1) := by decide +kernel
theorem d_B_fail_9 : decode b_B_fail 9 = .ok (.putfield 22, 3) := by decide +kernel
theorem d_B_fail_12 : decode b_B_fail 12 = .ok (.return_, 1) := by decide +kernel
theorem d_U_one_0 : decode b_U_one 0 = .ok (.lload_n 2, 1) := by decide +kernel
theorem d_U_one_1 : decode b_U_one 1 = .ok (.lconst 0, 1) := by decide +kernel
theorem d_U_one_2 : decode b_U_one 2 = .ok (.lcmp, 1) := by decide +kernel
theorem d_U_one_3 : decode b_U_one 3 = .ok (.ifCond .lt 14, 3) := by decide +kernel
theorem d_U_one_6 : decode b_U_one 6 = .ok (.lload_n 2, 1) := by decide +kernel
theorem d_U_one_7 : decode b_U_one 7 = .ok (.iload 5, 2) := by decide +kernel
theorem d_U_one_9 : decode b_U_one 9 = .ok (.iload 4, 2) := by decide +kernel
theorem d_U_one_11 : decode b_U_one 11 = .ok (.isub, 1) := by decide +kernel
theorem d_U_one_12 : decode b_U_one 12 = .ok (.i2l, 1) := by decide +kernel
theorem d_U_one_13 : decode b_U_one 13 = .ok (.lcmp, 1) := by decide +kernel
theorem d_U_one_14 : decode b_U_one 14 = .ok (.ifCond .le 11, 3) := by decide +kernel
theorem d_U_one_17 : decode b_U_one 17 = .ok (.aload_n 0, 1) := by decide +kernel
theorem d_U_one_18 : decode b_U_one 18 = .ok (.iconst 4, 1) := by decide +kernel
theorem d_U_one_19 : decode b_U_one 19 = .ok (.invokevirtual 55, 3) := by decide +kernel
theorem d_U_one_22 : decode b_U_one 22 = .ok (.iload 4, 2) := by decide +kernel
theorem d_U_one_24 : decode b_U_one 24 = .ok (.ireturn, 1) := by decide +kernel
theorem d_U_one_25 : decode b_U_one 25 = .ok (.aload_n 0, 1) := by decide +kernel
theorem d_U_one_26 : decode b_U_one 26 = .ok (.iload 6, 2) := by decide +kernel
theorem d_U_one_28 : decode b_U_one 28 = .ok (.bipush 7, 2) := by decide +kernel
theorem d_U_one_30 : decode b_U_one 30 = .ok (.iadd, 1) := by decide +kernel
theorem d_U_one_31 : decode b_U_one 31 = .ok (.bipush 8, 2) := by decide +kernel
theorem d_U_one_33 : decode b_U_one 33 = .ok (.idiv, 1) := by decide +kernel
theorem d_U_one_34 : decode b_U_one 34 = .ok (.iload_n 1, 1) := by decide +kernel
theorem d_U_one_35 : decode b_U_one 35 = .ok (.invokevirtual 68, 3) := by decide +kernel
theorem d_U_one_38 : decode b_U_one 38 = .ok (.lstore 8, 2) := by decide +kernel
theorem d_U_one_40 : decode b_U_one 40 = .ok (.aload_n 0, 1) := by decide +kernel
theorem d_U_one_41 : decode b_U_one 41 = .ok (.getfield 47, 3) := by decide +kernel
theorem d_U_one_44 : decode b_U_one 44 = .ok (.ifCond .ne 18, 3) := by decide +kernel
theorem d_U_one_47 : decode b_U_one 47 = .ok (.lload 8, 2) := by decide +kernel
theorem d_U_one_49 : decode b_U_one 49 = .ok (.iload 6, 2) := by decide +kernel
theorem d_U_one_51 : decode b_U_one 51 = .ok (.lushr, 1) := by decide +kernel
theorem d_U_one_52 : decode b_U_one 52 = .ok (.lconst 0, 1) := by decide +kernel
theorem d_U_one_53 : decode b_U_one 53 = .ok (.lcmp, 1) := by decide +kernel
theorem d_U_one_54 : decode b_U_one 54 = .ok (.ifCond .eq 8, 3) := by decide +kernel
theorem d_U_one_57 : decode b_U_one 57 = .ok (.aload_n 0, 1) := by decide +kernel
theorem d_U_one_58 : decode b_U_one 58 = .ok (.iconst 5, 1) := by decide +kernel
theorem d_U_one_59 : decode b_U_one 59 = .ok (.invokevirtual 55, 3) := by decide +kernel
theorem d_U_one_62 : decode b_U_one 62 = .ok (.iload 4, 2) := by decide +kernel
theorem d_U_one_64 : decode b_U_one 64 = .ok (.lload_n 2, 1) := by decide +kernel
theorem d_U_one_65 : decode b_U_one 65 = .ok (.l2i, 1) := by decide +kernel
theorem d_U_one_66 : decode b_U_one 66 = .ok (.iadd, 1) := by decide +kernel
theorem d_U_one_67 : decode b_U_one 67 = .ok (.istore 10, 2) := by decide +kernel
theorem d_U_one_69 : decode b_U_one 69 = .ok (.iload 4, 2) := by decide +kernel
theorem d_U_one_71 : decode b_U_one 71 = .ok (.istore 11, 2) := by decide +kernel
theorem d_U_one_73 : decode b_U_one 73 = .ok (.iload 11, 2) := by decide +kernel
theorem d_U_one_75 : decode b_U_one 75 = .ok (.iload 10, 2) := by decide +kernel
theorem d_U_one_77 : decode b_U_one 77 = .ok (.if_icmp .ge 24, 3) := by decide +kernel
theorem d_U_one_80 : decode b_U_one 80 = .ok (.aload_n 0, 1) := by decide +kernel
theorem d_U_one_81 : decode b_U_one 81 = .ok (.getfield 47, 3) := by decide +kernel
theorem d_U_one_84 : decode b_U_one 84 = .ok (.ifCond .ne 17, 3) := by decide +kernel
theorem d_U_one_87 : decode b_U_one 87 = .ok (.aload 7, 2) := by decide +kernel
theorem d_U_one_89 : decode b_U_one 89 = .ok (.iload 11, 2) := by decide +kernel
theorem d_U_one_91 : decode b_U_one 91 = .ok (.lload 8, 2) := by decide +kernel
theorem d_U_one_93 : decode b_U_one 93 = .ok (.l2i, 1) := by decide +kernel
theorem d_U_one_94 : decode b_U_one 94 = .ok (.iastore, 1) := by decide +kernel
theorem d_U_one_95 : decode b_U_one 95 = .ok (.iinc 11 1, 3) := by decide +kernel
theorem d_U_one_98 : decode b_U_one 98 = .ok (.goto (-25), 3) := by decide +kernel
theorem d_U_one_101 : decode b_U_one 101 = .ok (.iload 10, 2) := by decide +kernel
theorem d_U_one_103 : decode b_U_one 103 = .ok (.ireturn, 1) := by decide +kernel
theorem d_B_takeFixed_0 : decode b_B_takeFixed 0 = .ok (.lconst 0, 1) := by decide +kernel
theorem d_B_takeFixed_1 : decode b_B_takeFixed 1 = .ok (.lstore_n 3, 1) := by decide +kernel
theorem d_B_takeFixed_2 : decode b_B_takeFixed 2 = .ok (.iconst 0, 1) := by decide +kernel
theorem d_B_takeFixed_3 : decode b_B_takeFixed 3 = .ok (.istore 5, 2) := by decide +kernel
theorem d_B_takeFixed_5 : decode b_B_takeFixed 5 = .ok (.iload 5, 2) := by decide +kernel
theorem d_B_takeFixed_7 : decode b_B_takeFixed 7 = .ok (.iload_n 1, 1) := by decide +kernel
theorem d_B_takeFixed_8 : decode b_B_takeFixed 8 = .ok (.if_icmp .ge 24, 3) := by decide +kernel
theorem d_B_takeFixed_11 : decode b_B_takeFixed 11 = .ok (.lload_n 3, 1) := by decide +kernel
theorem d_B_takeFixed_12 : decode b_B_takeFixed 12 = .ok (.aload_n 0, 1) := by decide +kernel
theorem d_B_takeFixed_13 : decode b_B_takeFixed 13 = .ok (.iload_n 2, 1) := by decide +kernel
theorem d_B_takeFixed_14 : decode b_B_takeFixed 14 = .ok (.invokevirtual 42, 3) := by decide +kernel
theorem d_B_takeFixed_17 : decode b_B_takeFixed 17 = .ok (.i2l, 1) := by decide +kernel
theorem d_B_takeFixed_18 : decode b_B_takeFixed 18 = .ok (.bipush 8, 2) := by decide +kernel
theorem d_B_takeFixed_20 : decode b_B_takeFixed 20 = .ok (.iload 5, 2) := by decide +kernel
theorem d_B_takeFixed_22 : decode b_B_takeFixed 22 = .ok (.imul, 1) := by decide +kernel
theorem d_B_takeFixed_23 : decode b_B_takeFixed 23 = .ok (.lshl, 1) := by decide +kernel
theorem d_B_takeFixed_24 : decode b_B_takeFixed 24 = .ok (.lor, 1) := by decide +kernel
theorem d_B_takeFixed_25 : decode b_B_takeFixed 25 = .ok (.lstore_n 3, 1) := by decide +kernel
theorem d_B_takeFixed_26 : decode b_B_takeFixed 26 = .ok (.iinc 5 1, 3) := by decide +kernel
theorem d_B_takeFixed_29 : decode b_B_takeFixed 29 = .ok (.goto (-24), 3) := by decide +kernel
theorem d_B_takeFixed_32 : decode b_B_takeFixed 32 = .ok (.lload_n 3, 1) := by decide +kernel
theorem d_B_takeFixed_33 : decode b_B_takeFixed 33 = .ok (.lreturn, 1) := by decide +kernel
theorem d_U_groups_0 : decode b_U_groups 0 = .ok (.lload_n 2, 1) := by decide +kernel
theorem d_U_groups_1 : decode b_U_groups 1 = .ok (.lconst 0, 1) := by decide +kernel
theorem d_U_groups_2 : decode b_U_groups 2 = .ok (.lcmp, 1) := by decide +kernel
theorem d_U_groups_3 : decode b_U_groups 3 = .ok (.ifCond .lt 22, 3) := by decide +kernel
theorem d_U_groups_6 : decode b_U_groups 6 = .ok (.lload_n 2, 1) := by decide +kernel
theorem d_U_groups_7 : decode b_U_groups 7 = .ok (.iload 5, 2) := by decide +kernel
theorem d_U_groups_9 : decode b_U_groups 9 = .ok (.iload 4, 2) := by decide +kernel
theorem d_U_groups_11 : decode b_U_groups 11 = .ok (.isub, 1) := by decide +kernel
theorem d_U_groups_12 : decode b_U_groups 12 = .ok (.bipush 8, 2) := by decide +kernel
theorem d_U_groups_14 : decode b_U_groups 14 = .ok (.iadd, 1) := by decide +kernel
theorem d_U_groups_15 : decode b_U_groups 15 = .ok (.iconst 1, 1) := by decide +kernel
theorem d_U_groups_16 : decode b_U_groups 16 = .ok (.isub, 1) := by decide +kernel
theorem d_U_groups_17 : decode b_U_groups 17 = .ok (.bipush 8, 2) := by decide +kernel
theorem d_U_groups_19 : decode b_U_groups 19 = .ok (.idiv, 1) := by decide +kernel
theorem d_U_groups_20 : decode b_U_groups 20 = .ok (.i2l, 1) := by decide +kernel
theorem d_U_groups_21 : decode b_U_groups 21 = .ok (.lcmp, 1) := by decide +kernel
theorem d_U_groups_22 : decode b_U_groups 22 = .ok (.ifCond .le 11, 3) := by decide +kernel
theorem d_U_groups_25 : decode b_U_groups 25 = .ok (.aload_n 0, 1) := by decide +kernel
theorem d_U_groups_26 : decode b_U_groups 26 = .ok (.iconst 4, 1) := by decide +kernel
theorem d_U_groups_27 : decode b_U_groups 27 = .ok (.invokevirtual 55, 3) := by decide +kernel
theorem d_U_groups_30 : decode b_U_groups 30 = .ok (.iload 4, 2) := by decide +kernel
theorem d_U_groups_32 : decode b_U_groups 32 = .ok (.ireturn, 1) := by decide +kernel
theorem d_U_groups_33 : decode b_U_groups 33 = .ok (.iload 4, 2) := by decide +kernel
theorem d_U_groups_35 : decode b_U_groups 35 = .ok (.bipush 8, 2) := by decide +kernel
theorem d_U_groups_37 : decode b_U_groups 37 = .ok (.lload_n 2, 1) := by decide +kernel
theorem d_U_groups_38 : decode b_U_groups 38 = .ok (.l2i, 1) := by decide +kernel
theorem d_U_groups_39 : decode b_U_groups 39 = .ok (.imul, 1) := by decide +kernel
theorem d_U_groups_40 : decode b_U_groups 40 = .ok (.iadd, 1) := by decide +kernel
theorem d_U_groups_41 : decode b_U_groups 41 = .ok (.istore 8, 2) := by decide +kernel
theorem d_U_groups_43 : decode b_U_groups 43 = .ok (.iload_n 1, 1) := by decide +kernel
theorem d_U_groups_44 : decode b_U_groups 44 = .ok (.aload_n 0, 1) := by decide +kernel
theorem d_U_groups_45 : decode b_U_groups 45 = .ok (.getfield 65, 3) := by decide +kernel
theorem d_U_groups_48 : decode b_U_groups 48 = .ok (.isub, 1) := by decide +kernel
theorem d_U_groups_49 : decode b_U_groups 49 = .ok (.i2l, 1) := by decide +kernel
theorem d_U_groups_50 : decode b_U_groups 50 = .ok (.lload_n 2, 1) := by decide +kernel
theorem d_U_groups_51 : decode b_U_groups 51 = .ok (.iload 6, 2) := by decide +kernel
theorem d_U_groups_53 : decode b_U_groups 53 = .ok (.i2l, 1) := by decide +kernel
theorem d_U_groups_54 : decode b_U_groups 54 = .ok (.lmul, 1) := by decide +kernel
theorem d_U_groups_55 : decode b_U_groups 55 = .ok (.lcmp, 1) := by decide +kernel
theorem d_U_groups_56 : decode b_U_groups 56 = .ok (.ifCond .ge 11, 3) := by decide +kernel
theorem d_U_groups_59 : decode b_U_groups 59 = .ok (.aload_n 0, 1) := by decide +kernel
theorem d_U_groups_60 : decode b_U_groups 60 = .ok (.iconst 1, 1) := by decide +kernel
theorem d_U_groups_61 : decode b_U_groups 61 = .ok (.invokevirtual 55, 3) := by decide +kernel
theorem d_U_groups_64 : decode b_U_groups 64 = .ok (.iload 4, 2) := by decide +kernel
theorem d_U_groups_66 : decode b_U_groups 66 = .ok (.ireturn, 1) := by decide +kernel
theorem d_U_groups_67 : decode b_U_groups 67 = .ok (.lconst 0, 1) := by decide +kernel
theorem d_U_groups_68 : decode b_U_groups 68 = .ok (.lstore 9, 2) := by decide +kernel
theorem d_U_groups_70 : decode b_U_groups 70 = .ok (.iconst 0, 1) := by decide +kernel
theorem d_U_groups_71 : decode b_U_groups 71 = .ok (.istore 11, 2) := by decide +kernel
theorem d_U_groups_73 : decode b_U_groups 73 = .ok (.iload 4, 2) := by decide +kernel
theorem d_U_groups_75 : decode b_U_groups 75 = .ok (.istore 12, 2) := by decide +kernel
theorem d_U_groups_77 : decode b_U_groups 77 = .ok (.iload 12, 2) := by decide +kernel
theorem d_U_groups_79 : decode b_U_groups 79 = .ok (.iload 8, 2) := by decide +kernel
theorem d_U_groups_81 : decode b_U_groups 81 = .ok (.if_icmp .ge 91, 3) := by decide +kernel
theorem d_U_groups_84 : decode b_U_groups 84 = .ok (.iload 11, 2) := by decide +kernel
theorem d_U_groups_86 : decode b_U_groups 86 = .ok (.iload 6, 2) := by decide +kernel
theorem d_U_groups_88 : decode b_U_groups 88 = .ok (.if_icmp .ge 23, 3) := by decide +kernel
theorem d_U_groups_91 : decode b_U_groups 91 = .ok (.lload 9, 2) := by decide +kernel
theorem d_U_groups_93 : decode b_U_groups 93 = .ok (.aload_n 0, 1) := by decide +kernel
theorem d_U_groups_94 : decode b_U_groups 94 = .ok (.iload_n 1, 1) := by decide +kernel
theorem d_U_groups_95 : decode b_U_groups 95 = .ok (.invokevirtual 72, 3) := by decide +kernel
theorem d_U_groups_98 : decode b_U_groups 98 = .ok (.i2l, 1) := by decide +kernel
theorem d_U_groups_99 : decode b_U_groups 99 = .ok (.iload 11, 2) := by decide +kernel
theorem d_U_groups_101 : decode b_U_groups 101 = .ok (.lshl, 1) := by decide +kernel
theorem d_U_groups_102 : decode b_U_groups 102 = .ok (.lor, 1) := by decide +kernel
theorem d_U_groups_103 : decode b_U_groups 103 = .ok (.lstore 9, 2) := by decide +kernel
theorem d_U_groups_105 : decode b_U_groups 105 = .ok (.iinc 11 8, 3) := by decide +kernel
theorem d_U_groups_108 : decode b_U_groups 108 = .ok (.goto (-24), 3) := by decide +kernel
theorem d_U_groups_111 : decode b_U_groups 111 = .ok (.lload 9, 2) := by decide +kernel
theorem d_U_groups_113 : decode b_U_groups 113 = .ok (.lconst 1, 1) := by decide +kernel
theorem d_U_groups_114 : decode b_U_groups 114 = .ok (.iload 6, 2) := by decide +kernel
theorem d_U_groups_116 : decode b_U_groups 116 = .ok (.lshl, 1) := by decide +kernel
theorem d_U_groups_117 : decode b_U_groups 117 = .ok (.lconst 1, 1) := by decide +kernel
theorem d_U_groups_118 : decode b_U_groups 118 = .ok (.lsub, 1) := by decide +kernel
theorem d_U_groups_119 : decode b_U_groups 119 = .ok (.land, 1) := by decide +kernel
theorem d_U_groups_120 : decode b_U_groups 120 = .ok (.lstore 13, 2) := by decide +kernel
theorem d_U_groups_122 : decode b_U_groups 122 = .ok (.lload 9, 2) := by decide +kernel
theorem d_U_groups_124 : decode b_U_groups 124 = .ok (.iload 6, 2) := by decide +kernel
theorem d_U_groups_126 : decode b_U_groups 126 = .ok (.lushr, 1) := by decide +kernel
theorem d_U_groups_127 : decode b_U_groups 127 = .ok (.lstore 9, 2) := by decide +kernel
theorem d_U_groups_129 : decode b_U_groups 129 = .ok (.iload 11, 2) := by decide +kernel
theorem d_U_groups_131 : decode b_U_groups 131 = .ok (.iload 6, 2) := by decide +kernel
theorem d_U_groups_133 : decode b_U_groups 133 = .ok (.isub, 1) := by decide +kernel
theorem d_U_groups_134 : decode b_U_groups 134 = .ok (.istore 11, 2) := by decide +kernel
theorem d_U_groups_136 : decode b_U_groups 136 = .ok (.iload 12, 2) := by decide +kernel
theorem d_U_groups_138 : decode b_U_groups 138 = .ok (.iload 5, 2) := by decide +kernel
theorem d_U_groups_140 : decode b_U_groups 140 = .ok (.if_icmp .ge 14, 3) := by decide +kernel
theorem d_U_groups_143 : decode b_U_groups 143 = .ok (.aload 7, 2) := by decide +kernel
theorem d_U_groups_145 : decode b_U_groups 145 = .ok (.iload 12, 2) := by decide +kernel
theorem d_U_groups_147 : decode b_U_groups 147 = .ok (.lload 13, 2) := by decide +kernel
theorem d_U_groups_149 : decode b_U_groups 149 = .ok (.l2i, 1) := by decide +kernel
theorem d_U_groups_150 : decode b_U_groups 150 = .ok (.iastore, 1) := by decide +kernel
theorem d_U_groups_151 : decode b_U_groups 151 = .ok (.goto 15, 3) := by decide +kernel
theorem d_U_groups_154 : decode b_U_groups 154 = .ok (.lload 13, 2) := by decide +kernel
theorem d_U_groups_156 : decode b_U_groups 156 = .ok (.lconst 0, 1) := by decide +kernel
theorem d_U_groups_157 : decode b_U_groups 157 = .ok (.lcmp, 1) := by decide +kernel
theorem d_U_groups_158 : decode b_U_groups 158 = .ok (.ifCond .eq 8, 3) := by decide +kernel
theorem d_U_groups_161 : decode b_U_groups 161 = .ok (.aload_n 0, 1) := by decide +kernel
theorem d_U_groups_162 : decode b_U_groups 162 = .ok (.iconst 5, 1) := by decide +kernel
theorem d_U_groups_163 : decode b_U_groups 163 = .ok (.invokevirtual 55, 3) := by decide +kernel
theorem d_U_groups_166 : decode b_U_groups 166 = .ok (.iinc 12 1, 3) := by decide +kernel
theorem d_U_groups_169 : decode b_U_groups 169 = .ok (.goto (-92), 3) := by decide +kernel
theorem d_U_groups_172 : decode b_U_groups 172 = .ok (.iload 8, 2) := by decide +kernel
theorem d_U_groups_174 : decode b_U_groups 174 = .ok (.iload 5, 2) := by decide +kernel
theorem d_U_groups_176 : decode b_U_groups 176 = .ok (.if_icmp .ge 8, 3) := by decide +kernel
theorem d_U_groups_179 : decode b_U_groups 179 = .ok (.iload 8, 2) := by decide +kernel
theorem d_U_groups_181 : decode b_U_groups 181 = .ok (.goto 5, 3) := by decide +kernel
theorem d_U_groups_184 : decode b_U_groups 184 = .ok (.iload 5, 2) := by decide +kernel
theorem d_U_groups_186 : decode b_U_groups 186 = .ok (.ireturn, 1) := by decide +kernel
theorem d_X_turn_0 : decode b_X_turn 0 = .ok (.aload_n 0, 1) := by decide +kernel
theorem d_X_turn_1 : decode b_X_turn 1 = .ok (.getfield 21, 3) := by decide +kernel
theorem d_X_turn_4 : decode b_X_turn 4 = .ok (.getfield 38, 3) := by decide +kernel
theorem d_X_turn_7 : decode b_X_turn 7 = .ok (.sipush 8192, 3) := by decide +kernel
theorem d_X_turn_10 : decode b_X_turn 10 = .ok (.if_icmp .le 5, 3) := by decide +kernel
theorem d_X_turn_13 : decode b_X_turn 13 = .ok (.iconst 0, 1) := by decide +kernel
theorem d_X_turn_14 : decode b_X_turn 14 = .ok (.ireturn, 1) := by decide +kernel
theorem d_X_turn_15 : decode b_X_turn 15 = .ok (.aload_n 0, 1) := by decide +kernel
theorem d_X_turn_16 : decode b_X_turn 16 = .ok (.getfield 18, 3) := by decide +kernel
theorem d_X_turn_19 : decode b_X_turn 19 = .ok (.invokevirtual 48, 3) := by decide +kernel
theorem d_X_turn_22 : decode b_X_turn 22 = .ok (.iconst 0, 1) := by decide +kernel
theorem d_X_turn_23 : decode b_X_turn 23 = .ok (.istore_n 1, 1) := by decide +kernel
theorem d_X_turn_24 : decode b_X_turn 24 = .ok (.iload_n 1, 1) := by decide +kernel
theorem d_X_turn_25 : decode b_X_turn 25 = .ok (.aload_n 0, 1) := by decide +kernel
theorem d_X_turn_26 : decode b_X_turn 26 = .ok (.getfield 21, 3) := by decide +kernel
theorem d_X_turn_29 : decode b_X_turn 29 = .ok (.getfield 38, 3) := by decide +kernel
theorem d_X_turn_32 : decode b_X_turn 32 = .ok (.if_icmp .ge 24, 3) := by decide +kernel
theorem d_X_turn_35 : decode b_X_turn 35 = .ok (.aload_n 0, 1) := by decide +kernel
theorem d_X_turn_36 : decode b_X_turn 36 = .ok (.getfield 18, 3) := by decide +kernel
theorem d_X_turn_39 : decode b_X_turn 39 = .ok (.aload_n 0, 1) := by decide +kernel
theorem d_X_turn_40 : decode b_X_turn 40 = .ok (.getfield 21, 3) := by decide +kernel
theorem d_X_turn_43 : decode b_X_turn 43 = .ok (.iload_n 1, 1) := by decide +kernel
theorem d_X_turn_44 : decode b_X_turn 44 = .ok (.invokevirtual 51, 3) := by decide +kernel
theorem d_X_turn_47 : decode b_X_turn 47 = .ok (.invokevirtual 45, 3) := by decide +kernel
theorem d_X_turn_50 : decode b_X_turn 50 = .ok (.iinc 1 1, 3) := by decide +kernel
theorem d_X_turn_53 : decode b_X_turn 53 = .ok (.goto (-29), 3) := by decide +kernel
theorem d_X_turn_56 : decode b_X_turn 56 = .ok (.iconst 1, 1) := by decide +kernel
theorem d_X_turn_57 : decode b_X_turn 57 = .ok (.ireturn, 1) := by decide +kernel
theorem d_X_size_0 : decode b_X_size 0 = .ok (.aload_n 0, 1) := by decide +kernel
theorem d_X_size_1 : decode b_X_size 1 = .ok (.getfield 58, 3) := by decide +kernel
theorem d_X_size_4 : decode b_X_size 4 = .ok (.ireturn, 1) := by decide +kernel
theorem d_X_value_0 : decode b_X_value 0 = .ok (.iload_n 1, 1) := by decide +kernel
theorem d_X_value_1 : decode b_X_value 1 = .ok (.ifCond .lt 11, 3) := by decide +kernel
theorem d_X_value_4 : decode b_X_value 4 = .ok (.iload_n 1, 1) := by decide +kernel
theorem d_X_value_5 : decode b_X_value 5 = .ok (.aload_n 0, 1) := by decide +kernel
theorem d_X_value_6 : decode b_X_value 6 = .ok (.getfield 58, 3) := by decide +kernel
theorem d_X_value_9 : decode b_X_value 9 = .ok (.if_icmp .lt 7, 3) := by decide +kernel
theorem d_X_value_12 : decode b_X_value 12 = .ok (.iconst 0, 1) := by decide +kernel
theorem d_X_value_13 : decode b_X_value 13 = .ok (.goto 9, 3) := by decide +kernel
theorem d_X_value_16 : decode b_X_value 16 = .ok (.aload_n 0, 1) := by decide +kernel
theorem d_X_value_17 : decode b_X_value 17 = .ok (.getfield 31, 3) := by decide +kernel
theorem d_X_value_20 : decode b_X_value 20 = .ok (.iload_n 1, 1) := by decide +kernel
theorem d_X_value_21 : decode b_X_value 21 = .ok (.iaload, 1) := by decide +kernel
theorem d_X_value_22 : decode b_X_value 22 = .ok (.ireturn, 1) := by decide +kernel
theorem d_X_output_0 : decode b_X_output 0 = .ok (.iload_n 1, 1) := by decide +kernel
theorem d_X_output_1 : decode b_X_output 1 = .ok (.ifCond .lt 14, 3) := by decide +kernel
theorem d_X_output_4 : decode b_X_output 4 = .ok (.iload_n 1, 1) := by decide +kernel
theorem d_X_output_5 : decode b_X_output 5 = .ok (.aload_n 0, 1) := by decide +kernel
theorem d_X_output_6 : decode b_X_output 6 = .ok (.getfield 21, 3) := by decide +kernel
theorem d_X_output_9 : decode b_X_output 9 = .ok (.getfield 38, 3) := by decide +kernel
theorem d_X_output_12 : decode b_X_output 12 = .ok (.if_icmp .lt 7, 3) := by decide +kernel
theorem d_X_output_15 : decode b_X_output 15 = .ok (.iconst (-1), 1) := by decide +kernel
theorem d_X_output_16 : decode b_X_output 16 = .ok (.goto 11, 3) := by decide +kernel
theorem d_X_output_19 : decode b_X_output 19 = .ok (.aload_n 0, 1) := by decide +kernel
theorem d_X_output_20 : decode b_X_output 20 = .ok (.getfield 21, 3) := by decide +kernel
theorem d_X_output_23 : decode b_X_output 23 = .ok (.iload_n 1, 1) := by decide +kernel
theorem d_X_output_24 : decode b_X_output 24 = .ok (.invokevirtual 51, 3) := by decide +kernel
theorem d_X_output_27 : decode b_X_output 27 = .ok (.ireturn, 1) := by decide +kernel
end
section
/-! decode rows, printed by gen/names.py -/
theorem d_M_init_0 : decode b_M_init 0 = .ok (.aload_n 0, 1) := by decide +kernel
theorem d_M_init_1 : decode b_M_init 1 = .ok (.invokespecial 1, 3) := by decide +kernel
theorem d_M_init_4 : decode b_M_init 4 = .ok (.aload_n 0, 1) := by decide +kernel
theorem d_M_init_5 : decode b_M_init 5 = .ok (.sipush 4096, 3) := by decide +kernel
theorem d_M_init_8 : decode b_M_init 8 = .ok (.newarray .int, 2) := by decide +kernel
theorem d_M_init_10 : decode b_M_init 10 = .ok (.putfield 7, 3) := by decide +kernel
theorem d_M_init_13 : decode b_M_init 13 = .ok (.aload_n 0, 1) := by decide +kernel
theorem d_M_init_14 : decode b_M_init 14 = .ok (.sipush 4104, 3) := by decide +kernel
theorem d_M_init_17 : decode b_M_init 17 = .ok (.newarray .int, 2) := by decide +kernel
theorem d_M_init_19 : decode b_M_init 19 = .ok (.putfield 13, 3) := by decide +kernel
theorem d_M_init_22 : decode b_M_init 22 = .ok (.aload_n 0, 1) := by decide +kernel
theorem d_M_init_23 : decode b_M_init 23 = .ok (.sipush 8192, 3) := by decide +kernel
theorem d_M_init_26 : decode b_M_init 26 = .ok (.newarray .int, 2) := by decide +kernel
theorem d_M_init_28 : decode b_M_init 28 = .ok (.putfield 16, 3) := by decide +kernel
theorem d_M_init_31 : decode b_M_init 31 = .ok (.aload_n 0, 1) := by decide +kernel
theorem d_M_init_32 : decode b_M_init 32 = .ok (.sipush 8192, 3) := by decide +kernel
theorem d_M_init_35 : decode b_M_init 35 = .ok (.newarray .int, 2) := by decide +kernel
theorem d_M_init_37 : decode b_M_init 37 = .ok (.putfield 19, 3) := by decide +kernel
theorem d_M_init_40 : decode b_M_init 40 = .ok (.aload_n 0, 1) := by decide +kernel
theorem d_M_init_41 : decode b_M_init 41 = .ok (.sipush 24000, 3) := by decide +kernel
theorem d_M_init_44 : decode b_M_init 44 = .ok (.newarray .int, 2) := by decide +kernel
theorem d_M_init_46 : decode b_M_init 46 = .ok (.putfield 22, 3) := by decide +kernel
theorem d_M_init_49 : decode b_M_init 49 = .ok (.return_, 1) := by decide +kernel
theorem d_M_feed_0 : decode b_M_feed 0 = .ok (.aload_n 0, 1) := by decide +kernel
theorem d_M_feed_1 : decode b_M_feed 1 = .ok (.iconst 0, 1) := by decide +kernel
theorem d_M_feed_2 : decode b_M_feed 2 = .ok (.putfield 25, 3) := by decide +kernel
theorem d_M_feed_5 : decode b_M_feed 5 = .ok (.aload_n 0, 1) := by decide +kernel
theorem d_M_feed_6 : decode b_M_feed 6 = .ok (.getfield 44, 3) := by decide +kernel
theorem d_M_feed_9 : decode b_M_feed 9 = .ok (.bipush 20, 2) := by decide +kernel
theorem d_M_feed_11 : decode b_M_feed 11 = .ok (.iadd, 1) := by decide +kernel
theorem d_M_feed_12 : decode b_M_feed 12 = .ok (.sipush 8192, 3) := by decide +kernel
theorem d_M_feed_15 : decode b_M_feed 15 = .ok (.if_icmp .le 5, 3) := by decide +kernel
theorem d_M_feed_18 : decode b_M_feed 18 = .ok (.iconst 0, 1) := by decide +kernel
theorem d_M_feed_19 : decode b_M_feed 19 = .ok (.ireturn, 1) := by decide +kernel
theorem d_M_feed_20 : decode b_M_feed 20 = .ok (.iconst 0, 1) := by decide +kernel
theorem d_M_feed_21 : decode b_M_feed 21 = .ok (.istore 6, 2) := by decide +kernel
theorem d_M_feed_23 : decode b_M_feed 23 = .ok (.iload 6, 2) := by decide +kernel
theorem d_M_feed_25 : decode b_M_feed 25 = .ok (.bipush 20, 2) := by decide +kernel
theorem d_M_feed_27 : decode b_M_feed 27 = .ok (.if_icmp .ge 86, 3) := by decide +kernel
theorem d_M_feed_30 : decode b_M_feed 30 = .ok (.iload 6, 2) := by decide +kernel
theorem d_M_feed_32 : decode b_M_feed 32 = .ok (.iconst 4, 1) := by decide +kernel
theorem d_M_feed_33 : decode b_M_feed 33 = .ok (.if_icmp .ge 7, 3) := by decide +kernel
theorem d_M_feed_36 : decode b_M_feed 36 = .ok (.iload_n 1, 1) := by decide +kernel
theorem d_M_feed_37 : decode b_M_feed 37 = .ok (.goto 39, 3) := by decide +kernel
theorem d_M_feed_40 : decode b_M_feed 40 = .ok (.iload 6, 2) := by decide +kernel
theorem d_M_feed_42 : decode b_M_feed 42 = .ok (.bipush 8, 2) := by decide +kernel
theorem d_M_feed_44 : decode b_M_feed 44 = .ok (.if_icmp .ge 7, 3) := by decide +kernel
theorem d_M_feed_47 : decode b_M_feed 47 = .ok (.iload_n 2, 1) := by decide +kernel
theorem d_M_feed_48 : decode b_M_feed 48 = .ok (.goto 28, 3) := by decide +kernel
theorem d_M_feed_51 : decode b_M_feed 51 = .ok (.iload 6, 2) := by decide +kernel
theorem d_M_feed_53 : decode b_M_feed 53 = .ok (.bipush 12, 2) := by decide +kernel
theorem d_M_feed_55 : decode b_M_feed 55 = .ok (.if_icmp .ge 7, 3) := by decide +kernel
theorem d_M_feed_58 : decode b_M_feed 58 = .ok (.iload_n 3, 1) := by decide +kernel
theorem d_M_feed_59 : decode b_M_feed 59 = .ok (.goto 17, 3) := by decide +kernel
theorem d_M_feed_62 : decode b_M_feed 62 = .ok (.iload 6, 2) := by decide +kernel
theorem d_M_feed_64 : decode b_M_feed 64 = .ok (.bipush 16, 2) := by decide +kernel
theorem d_M_feed_66 : decode b_M_feed 66 = .ok (.if_icmp .ge 8, 3) := by decide +kernel
theorem d_M_feed_69 : decode b_M_feed 69 = .ok (.iload 4, 2) := by decide +kernel
theorem d_M_feed_71 : decode b_M_feed 71 = .ok (.goto 5, 3) := by decide +kernel
theorem d_M_feed_74 : decode b_M_feed 74 = .ok (.iload 5, 2) := by decide +kernel
theorem d_M_feed_76 : decode b_M_feed 76 = .ok (.istore 7, 2) := by decide +kernel
theorem d_M_feed_78 : decode b_M_feed 78 = .ok (.aload_n 0, 1) := by decide +kernel
theorem d_M_feed_79 : decode b_M_feed 79 = .ok (.getfield 16, 3) := by decide +kernel
theorem d_M_feed_82 : decode b_M_feed 82 = .ok (.aload_n 0, 1) := by decide +kernel
theorem d_M_feed_83 : decode b_M_feed 83 = .ok (.getfield 44, 3) := by decide +kernel
theorem d_M_feed_86 : decode b_M_feed 86 = .ok (.iload 6, 2) := by decide +kernel
theorem d_M_feed_88 : decode b_M_feed 88 = .ok (.iadd, 1) := by decide +kernel
theorem d_M_feed_89 : decode b_M_feed 89 = .ok (.iload 7, 2) := by decide +kernel
theorem d_M_feed_91 : decode b_M_feed 91 = .ok (.bipush 24, 2) := by decide +kernel
theorem d_M_feed_93 : decode b_M_feed 93 = .ok (.bipush 8, 2) := by decide +kernel
theorem d_M_feed_95 : decode b_M_feed 95 = .ok (.iload 6, 2) := by decide +kernel
theorem d_M_feed_97 : decode b_M_feed 97 = .ok (.iconst 4, 1) := by decide +kernel
theorem d_M_feed_98 : decode b_M_feed 98 = .ok (.irem, 1) := by decide +kernel
theorem d_M_feed_99 : decode b_M_feed 99 = .ok (.imul, 1) := by decide +kernel
theorem d_M_feed_100 : decode b_M_feed 100 = .ok (.isub, 1) := by decide +kernel
theorem d_M_feed_101 : decode b_M_feed 101 = .ok (.ishr, 1) := by decide +kernel
theorem d_M_feed_102 : decode b_M_feed 102 = .ok (.sipush 255, 3) := by decide +kernel
theorem d_M_feed_105 : decode b_M_feed 105 = .ok (.iand, 1) := by decide +kernel
theorem d_M_feed_106 : decode b_M_feed 106 = .ok (.iastore, 1) := by decide +kernel
theorem d_M_feed_107 : decode b_M_feed 107 = .ok (.iinc 6 1, 3) := by decide +kernel
theorem d_M_feed_110 : decode b_M_feed 110 = .ok (.goto (-87), 3) := by decide +kernel
theorem d_M_feed_113 : decode b_M_feed 113 = .ok (.aload_n 0, 1) := by decide +kernel
theorem d_M_feed_114 : decode b_M_feed 114 = .ok (.dup, 1) := by decide +kernel
theorem d_M_feed_115 : decode b_M_feed 115 = .ok (.getfield 44, 3) := by decide +kernel
theorem d_M_feed_118 : decode b_M_feed 118 = .ok (.bipush 20, 2) := by decide +kernel
theorem d_M_feed_120 : decode b_M_feed 120 = .ok (.iadd, 1) := by decide +kernel
theorem d_M_feed_121 : decode b_M_feed 121 = .ok (.putfield 44, 3) := by decide +kernel
theorem d_M_feed_124 : decode b_M_feed 124 = .ok (.iconst 1, 1) := by decide +kernel
theorem d_M_feed_125 : decode b_M_feed 125 = .ok (.ireturn, 1) := by decide +kernel
theorem d_M_end_0 : decode b_M_end 0 = .ok (.aload_n 0, 1) := by decide +kernel
theorem d_M_end_1 : decode b_M_end 1 = .ok (.iconst 0, 1) := by decide +kernel
theorem d_M_end_2 : decode b_M_end 2 = .ok (.putfield 25, 3) := by decide +kernel
theorem d_M_end_5 : decode b_M_end 5 = .ok (.iload_n 1, 1) := by decide +kernel
theorem d_M_end_6 : decode b_M_end 6 = .ok (.ifCond .lt 11, 3) := by decide +kernel
theorem d_M_end_9 : decode b_M_end 9 = .ok (.iload_n 1, 1) := by decide +kernel
theorem d_M_end_10 : decode b_M_end 10 = .ok (.aload_n 0, 1) := by decide +kernel
theorem d_M_end_11 : decode b_M_end 11 = .ok (.getfield 44, 3) := by decide +kernel
theorem d_M_end_14 : decode b_M_end 14 = .ok (.if_icmp .le 5, 3) := by decide +kernel
theorem d_M_end_17 : decode b_M_end 17 = .ok (.iconst 0, 1) := by decide +kernel
theorem d_M_end_18 : decode b_M_end 18 = .ok (.ireturn, 1) := by decide +kernel
theorem d_M_end_19 : decode b_M_end 19 = .ok (.iconst 0, 1) := by decide +kernel
theorem d_M_end_20 : decode b_M_end 20 = .ok (.istore_n 2, 1) := by decide +kernel
theorem d_M_end_21 : decode b_M_end 21 = .ok (.iload_n 2, 1) := by decide +kernel
theorem d_M_end_22 : decode b_M_end 22 = .ok (.iload_n 1, 1) := by decide +kernel
theorem d_M_end_23 : decode b_M_end 23 = .ok (.if_icmp .ge 21, 3) := by decide +kernel
theorem d_M_end_26 : decode b_M_end 26 = .ok (.aload_n 0, 1) := by decide +kernel
theorem d_M_end_27 : decode b_M_end 27 = .ok (.getfield 19, 3) := by decide +kernel
theorem d_M_end_30 : decode b_M_end 30 = .ok (.iload_n 2, 1) := by decide +kernel
theorem d_M_end_31 : decode b_M_end 31 = .ok (.aload_n 0, 1) := by decide +kernel
theorem d_M_end_32 : decode b_M_end 32 = .ok (.getfield 16, 3) := by decide +kernel
theorem d_M_end_35 : decode b_M_end 35 = .ok (.iload_n 2, 1) := by decide +kernel
theorem d_M_end_36 : decode b_M_end 36 = .ok (.iaload, 1) := by decide +kernel
theorem d_M_end_37 : decode b_M_end 37 = .ok (.iastore, 1) := by decide +kernel
theorem d_M_end_38 : decode b_M_end 38 = .ok (.iinc 2 1, 3) := by decide +kernel
theorem d_M_end_41 : decode b_M_end 41 = .ok (.goto (-20), 3) := by decide +kernel
theorem d_M_end_44 : decode b_M_end 44 = .ok (.aload_n 0, 1) := by decide +kernel
theorem d_M_end_45 : decode b_M_end 45 = .ok (.iload_n 1, 1) := by decide +kernel
theorem d_M_end_46 : decode b_M_end 46 = .ok (.putfield 47, 3) := by decide +kernel
theorem d_M_end_49 : decode b_M_end 49 = .ok (.aload_n 0, 1) := by decide +kernel
theorem d_M_end_50 : decode b_M_end 50 = .ok (.iconst 0, 1) := by decide +kernel
theorem d_M_end_51 : decode b_M_end 51 = .ok (.putfield 44, 3) := by decide +kernel
theorem d_M_end_54 : decode b_M_end 54 = .ok (.iconst 1, 1) := by decide +kernel
theorem d_M_end_55 : decode b_M_end 55 = .ok (.ireturn, 1) := by decide +kernel
theorem d_M_width_0 : decode b_M_width 0 = .ok (.aload_n 0, 1) := by decide +kernel
theorem d_M_width_1 : decode b_M_width 1 = .ok (.iconst 0, 1) := by decide +kernel
theorem d_M_width_2 : decode b_M_width 2 = .ok (.putfield 25, 3) := by decide +kernel
theorem d_M_width_5 : decode b_M_width 5 = .ok (.iload_n 1, 1) := by decide +kernel
theorem d_M_width_6 : decode b_M_width 6 = .ok (.ifCond .lt 9, 3) := by decide +kernel
theorem d_M_width_9 : decode b_M_width 9 = .ok (.iload_n 1, 1) := by decide +kernel
theorem d_M_width_10 : decode b_M_width 10 = .ok (.bipush 32, 2) := by decide +kernel
theorem d_M_width_12 : decode b_M_width 12 = .ok (.if_icmp .le 5, 3) := by decide +kernel
theorem d_M_width_15 : decode b_M_width 15 = .ok (.iconst 0, 1) := by decide +kernel
theorem d_M_width_16 : decode b_M_width 16 = .ok (.ireturn, 1) := by decide +kernel
theorem d_M_width_17 : decode b_M_width 17 = .ok (.aload_n 0, 1) := by decide +kernel
theorem d_M_width_18 : decode b_M_width 18 = .ok (.iload_n 1, 1) := by decide +kernel
theorem d_M_width_19 : decode b_M_width 19 = .ok (.putfield 50, 3) := by decide +kernel
theorem d_M_width_22 : decode b_M_width 22 = .ok (.iconst 1, 1) := by decide +kernel
theorem d_M_width_23 : decode b_M_width 23 = .ok (.ireturn, 1) := by decide +kernel
theorem d_M_add_0 : decode b_M_add 0 = .ok (.aload_n 0, 1) := by decide +kernel
theorem d_M_add_1 : decode b_M_add 1 = .ok (.iconst 0, 1) := by decide +kernel
theorem d_M_add_2 : decode b_M_add 2 = .ok (.putfield 25, 3) := by decide +kernel
theorem d_M_add_5 : decode b_M_add 5 = .ok (.iload_n 2, 1) := by decide +kernel
theorem d_M_add_6 : decode b_M_add 6 = .ok (.iconst 1, 1) := by decide +kernel
theorem d_M_add_7 : decode b_M_add 7 = .ok (.if_icmp .lt 22, 3) := by decide +kernel
theorem d_M_add_10 : decode b_M_add 10 = .ok (.iload_n 2, 1) := by decide +kernel
theorem d_M_add_11 : decode b_M_add 11 = .ok (.sipush 4096, 3) := by decide +kernel
theorem d_M_add_14 : decode b_M_add 14 = .ok (.if_icmp .gt 15, 3) := by decide +kernel
theorem d_M_add_17 : decode b_M_add 17 = .ok (.aload_n 0, 1) := by decide +kernel
theorem d_M_add_18 : decode b_M_add 18 = .ok (.getfield 53, 3) := by decide +kernel
theorem d_M_add_21 : decode b_M_add 21 = .ok (.iload_n 2, 1) := by decide +kernel
theorem d_M_add_22 : decode b_M_add 22 = .ok (.iadd, 1) := by decide +kernel
theorem d_M_add_23 : decode b_M_add 23 = .ok (.sipush 4096, 3) := by decide +kernel
theorem d_M_add_26 : decode b_M_add 26 = .ok (.if_icmp .le 5, 3) := by decide +kernel
theorem d_M_add_29 : decode b_M_add 29 = .ok (.iconst 0, 1) := by decide +kernel
theorem d_M_add_30 : decode b_M_add 30 = .ok (.ireturn, 1) := by decide +kernel
theorem d_M_add_31 : decode b_M_add 31 = .ok (.iconst 0, 1) := by decide +kernel
theorem d_M_add_32 : decode b_M_add 32 = .ok (.istore_n 3, 1) := by decide +kernel
theorem d_M_add_33 : decode b_M_add 33 = .ok (.iload_n 3, 1) := by decide +kernel
theorem d_M_add_34 : decode b_M_add 34 = .ok (.iload_n 2, 1) := by decide +kernel
theorem d_M_add_35 : decode b_M_add 35 = .ok (.if_icmp .ge 21, 3) := by decide +kernel
theorem d_M_add_38 : decode b_M_add 38 = .ok (.aload_n 0, 1) := by decide +kernel
theorem d_M_add_39 : decode b_M_add 39 = .ok (.getfield 7, 3) := by decide +kernel
theorem d_M_add_42 : decode b_M_add 42 = .ok (.aload_n 0, 1) := by decide +kernel
theorem d_M_add_43 : decode b_M_add 43 = .ok (.getfield 53, 3) := by decide +kernel
theorem d_M_add_46 : decode b_M_add 46 = .ok (.iload_n 3, 1) := by decide +kernel
theorem d_M_add_47 : decode b_M_add 47 = .ok (.iadd, 1) := by decide +kernel
theorem d_M_add_48 : decode b_M_add 48 = .ok (.iload_n 1, 1) := by decide +kernel
theorem d_M_add_49 : decode b_M_add 49 = .ok (.iastore, 1) := by decide +kernel
theorem d_M_add_50 : decode b_M_add 50 = .ok (.iinc 3 1, 3) := by decide +kernel
theorem d_M_add_53 : decode b_M_add 53 = .ok (.goto (-20), 3) := by decide +kernel
theorem d_M_add_56 : decode b_M_add 56 = .ok (.aload_n 0, 1) := by decide +kernel
theorem d_M_add_57 : decode b_M_add 57 = .ok (.dup, 1) := by decide +kernel
theorem d_M_add_58 : decode b_M_add 58 = .ok (.getfield 53, 3) := by decide +kernel
theorem d_M_add_61 : decode b_M_add 61 = .ok (.iload_n 2, 1) := by decide +kernel
theorem d_M_add_62 : decode b_M_add 62 = .ok (.iadd, 1) := by decide +kernel
theorem d_M_add_63 : decode b_M_add 63 = .ok (.putfield 53, 3) := by decide +kernel
theorem d_M_add_66 : decode b_M_add 66 = .ok (.iconst 1, 1) := by decide +kernel
theorem d_M_add_67 : decode b_M_add 67 = .ok (.ireturn, 1) := by decide +kernel
theorem d_M_clear_0 : decode b_M_clear 0 = .ok (.aload_n 0, 1) := by decide +kernel
theorem d_M_clear_1 : decode b_M_clear 1 = .ok (.iconst 0, 1) := by decide +kernel
theorem d_M_clear_2 : decode b_M_clear 2 = .ok (.putfield 25, 3) := by decide +kernel
theorem d_M_clear_5 : decode b_M_clear 5 = .ok (.aload_n 0, 1) := by decide +kernel
theorem d_M_clear_6 : decode b_M_clear 6 = .ok (.iconst 0, 1) := by decide +kernel
theorem d_M_clear_7 : decode b_M_clear 7 = .ok (.putfield 53, 3) := by decide +kernel
theorem d_M_clear_10 : decode b_M_clear 10 = .ok (.return_, 1) := by decide +kernel
theorem d_M_encode_0 : decode b_M_encode 0 = .ok (.aload_n 0, 1) := by decide +kernel
theorem d_M_encode_1 : decode b_M_encode 1 = .ok (.iconst 0, 1) := by decide +kernel
theorem d_M_encode_2 : decode b_M_encode 2 = .ok (.putfield 25, 3) := by decide +kernel
theorem d_M_encode_5 : decode b_M_encode 5 = .ok (.aload_n 0, 1) := by decide +kernel
theorem d_M_encode_6 : decode b_M_encode 6 = .ok (.iconst 0, 1) := by decide +kernel
theorem d_M_encode_7 : decode b_M_encode 7 = .ok (.putfield 29, 3) := by decide +kernel
theorem d_M_encode_10 : decode b_M_encode 10 = .ok (.iconst 0, 1) := by decide +kernel
theorem d_M_encode_11 : decode b_M_encode 11 = .ok (.istore_n 1, 1) := by decide +kernel
theorem d_M_encode_12 : decode b_M_encode 12 = .ok (.iload_n 1, 1) := by decide +kernel
theorem d_M_encode_13 : decode b_M_encode 13 = .ok (.aload_n 0, 1) := by decide +kernel
theorem d_M_encode_14 : decode b_M_encode 14 = .ok (.getfield 53, 3) := by decide +kernel
theorem d_M_encode_17 : decode b_M_encode 17 = .ok (.if_icmp .ge 34, 3) := by decide +kernel
theorem d_M_encode_20 : decode b_M_encode 20 = .ok (.aload_n 0, 1) := by decide +kernel
theorem d_M_encode_21 : decode b_M_encode 21 = .ok (.getfield 50, 3) := by decide +kernel
theorem d_M_encode_24 : decode b_M_encode 24 = .ok (.bipush 32, 2) := by decide +kernel
theorem d_M_encode_26 : decode b_M_encode 26 = .ok (.if_icmp .ge 19, 3) := by decide +kernel
theorem d_M_encode_29 : decode b_M_encode 29 = .ok (.aload_n 0, 1) := by decide +kernel
theorem d_M_encode_30 : decode b_M_encode 30 = .ok (.getfield 7, 3) := by decide +kernel
theorem d_M_encode_33 : decode b_M_encode 33 = .ok (.iload_n 1, 1) := by decide +kernel
theorem d_M_encode_34 : decode b_M_encode 34 = .ok (.iaload, 1) := by decide +kernel
theorem d_M_encode_35 : decode b_M_encode 35 = .ok (.aload_n 0, 1) := by decide +kernel
theorem d_M_encode_36 : decode b_M_encode 36 = .ok (.getfield 50, 3) := by decide +kernel
theorem d_M_encode_39 : decode b_M_encode 39 = .ok (.iushr, 1) := by decide +kernel
theorem d_M_encode_40 : decode b_M_encode 40 = .ok (.ifCond .eq 5, 3) := by decide +kernel
theorem d_M_encode_43 : decode b_M_encode 43 = .ok (.iconst (-1), 1) := by decide +kernel
theorem d_M_encode_44 : decode b_M_encode 44 = .ok (.ireturn, 1) := by decide +kernel
theorem d_M_encode_45 : decode b_M_encode 45 = .ok (.iinc 1 1, 3) := by decide +kernel
theorem d_M_encode_48 : decode b_M_encode 48 = .ok (.goto (-36), 3) := by decide +kernel
theorem d_M_encode_51 : decode b_M_encode 51 = .ok (.aload_n 0, 1) := by decide +kernel
theorem d_M_encode_52 : decode b_M_encode 52 = .ok (.aload_n 0, 1) := by decide +kernel
theorem d_M_encode_53 : decode b_M_encode 53 = .ok (.getfield 7, 3) := by decide +kernel
theorem d_M_encode_56 : decode b_M_encode 56 = .ok (.aload_n 0, 1) := by decide +kernel
theorem d_M_encode_57 : decode b_M_encode 57 = .ok (.getfield 53, 3) := by decide +kernel
theorem d_M_encode_60 : decode b_M_encode 60 = .ok (.aload_n 0, 1) := by decide +kernel
theorem d_M_encode_61 : decode b_M_encode 61 = .ok (.getfield 50, 3) := by decide +kernel
theorem d_M_encode_64 : decode b_M_encode 64 = .ok (.invokevirtual 83, 3) := by decide +kernel
theorem d_M_encode_67 : decode b_M_encode 67 = .ok (.aload_n 0, 1) := by decide +kernel
theorem d_M_encode_68 : decode b_M_encode 68 = .ok (.getfield 29, 3) := by decide +kernel
theorem d_M_encode_71 : decode b_M_encode 71 = .ok (.ireturn, 1) := by decide +kernel
theorem d_M_writeRuns_0 : decode b_M_writeRuns 0 = .ok (.iconst 0, 1) := by decide +kernel
theorem d_M_writeRuns_1 : decode b_M_writeRuns 1 = .ok (.istore 4, 2) := by decide +kernel
theorem d_M_writeRuns_3 : decode b_M_writeRuns 3 = .ok (.iload 4, 2) := by decide +kernel
theorem d_M_writeRuns_5 : decode b_M_writeRuns 5 = .ok (.iload_n 2, 1) := by decide +kernel
theorem d_M_writeRuns_6 : decode b_M_writeRuns 6 = .ok (.if_icmp .ge 217, 3) := by decide +kernel
theorem d_M_writeRuns_9 : decode b_M_writeRuns 9 = .ok (.aload_n 1, 1) := by decide +kernel
theorem d_M_writeRuns_10 : decode b_M_writeRuns 10 = .ok (.iload 4, 2) := by decide +kernel
theorem d_M_writeRuns_12 : decode b_M_writeRuns 12 = .ok (.iload_n 2, 1) := by decide +kernel
theorem d_M_writeRuns_13 : decode b_M_writeRuns 13 = .ok (.invokestatic 56, 3) := by decide +kernel
theorem d_M_writeRuns_16 : decode b_M_writeRuns 16 = .ok (.istore 5, 2) := by decide +kernel
theorem d_M_writeRuns_18 : decode b_M_writeRuns 18 = .ok (.iload 5, 2) := by decide +kernel
theorem d_M_writeRuns_20 : decode b_M_writeRuns 20 = .ok (.bipush 8, 2) := by decide +kernel
theorem d_M_writeRuns_22 : decode b_M_writeRuns 22 = .ok (.if_icmp .lt 50, 3) := by decide +kernel
theorem d_M_writeRuns_25 : decode b_M_writeRuns 25 = .ok (.aload_n 0, 1) := by decide +kernel
theorem d_M_writeRuns_26 : decode b_M_writeRuns 26 = .ok (.ldc2_w 60, 3) := by decide +kernel
theorem d_M_writeRuns_29 : decode b_M_writeRuns 29 = .ok (.iload 5, 2) := by decide +kernel
theorem d_M_writeRuns_31 : decode b_M_writeRuns 31 = .ok (.i2l, 1) := by decide +kernel
theorem d_M_writeRuns_32 : decode b_M_writeRuns 32 = .ok (.lmul, 1) := by decide +kernel
theorem d_M_writeRuns_33 : decode b_M_writeRuns 33 = .ok (.invokevirtual 62, 3) := by decide +kernel
theorem d_M_writeRuns_36 : decode b_M_writeRuns 36 = .ok (.iconst 0, 1) := by decide +kernel
theorem d_M_writeRuns_37 : decode b_M_writeRuns 37 = .ok (.istore 6, 2) := by decide +kernel
theorem d_M_writeRuns_39 : decode b_M_writeRuns 39 = .ok (.iload 6, 2) := by decide +kernel
theorem d_M_writeRuns_41 : decode b_M_writeRuns 41 = .ok (.iload_n 3, 1) := by decide +kernel
theorem d_M_writeRuns_42 : decode b_M_writeRuns 42 = .ok (.if_icmp .ge 20, 3) := by decide +kernel
theorem d_M_writeRuns_45 : decode b_M_writeRuns 45 = .ok (.aload_n 0, 1) := by decide +kernel
theorem d_M_writeRuns_46 : decode b_M_writeRuns 46 = .ok (.aload_n 1, 1) := by decide +kernel
theorem d_M_writeRuns_47 : decode b_M_writeRuns 47 = .ok (.iload 4, 2) := by decide +kernel
theorem d_M_writeRuns_49 : decode b_M_writeRuns 49 = .ok (.iaload, 1) := by decide +kernel
theorem d_M_writeRuns_50 : decode b_M_writeRuns 50 = .ok (.iload 6, 2) := by decide +kernel
theorem d_M_writeRuns_52 : decode b_M_writeRuns 52 = .ok (.ishr, 1) := by decide +kernel
theorem d_M_writeRuns_53 : decode b_M_writeRuns 53 = .ok (.invokevirtual 40, 3) := by decide +kernel
theorem d_M_writeRuns_56 : decode b_M_writeRuns 56 = .ok (.iinc 6 8, 3) := by decide +kernel
theorem d_M_writeRuns_59 : decode b_M_writeRuns 59 = .ok (.goto (-20), 3) := by decide +kernel
theorem d_M_writeRuns_62 : decode b_M_writeRuns 62 = .ok (.iload 4, 2) := by decide +kernel
theorem d_M_writeRuns_64 : decode b_M_writeRuns 64 = .ok (.iload 5, 2) := by decide +kernel
theorem d_M_writeRuns_66 : decode b_M_writeRuns 66 = .ok (.iadd, 1) := by decide +kernel
theorem d_M_writeRuns_67 : decode b_M_writeRuns 67 = .ok (.istore 4, 2) := by decide +kernel
theorem d_M_writeRuns_69 : decode b_M_writeRuns 69 = .ok (.goto (-66), 3) := by decide +kernel
theorem d_M_writeRuns_72 : decode b_M_writeRuns 72 = .ok (.iconst 1, 1) := by decide +kernel
theorem d_M_writeRuns_73 : decode b_M_writeRuns 73 = .ok (.istore 6, 2) := by decide +kernel
theorem d_M_writeRuns_75 : decode b_M_writeRuns 75 = .ok (.iload 4, 2) := by decide +kernel
theorem d_M_writeRuns_77 : decode b_M_writeRuns 77 = .ok (.bipush 8, 2) := by decide +kernel
theorem d_M_writeRuns_79 : decode b_M_writeRuns 79 = .ok (.iload 6, 2) := by decide +kernel
theorem d_M_writeRuns_81 : decode b_M_writeRuns 81 = .ok (.imul, 1) := by decide +kernel
theorem d_M_writeRuns_82 : decode b_M_writeRuns 82 = .ok (.iadd, 1) := by decide +kernel
theorem d_M_writeRuns_83 : decode b_M_writeRuns 83 = .ok (.iload_n 2, 1) := by decide +kernel
theorem d_M_writeRuns_84 : decode b_M_writeRuns 84 = .ok (.if_icmp .ge 27, 3) := by decide +kernel
theorem d_M_writeRuns_87 : decode b_M_writeRuns 87 = .ok (.aload_n 1, 1) := by decide +kernel
theorem d_M_writeRuns_88 : decode b_M_writeRuns 88 = .ok (.iload 4, 2) := by decide +kernel
theorem d_M_writeRuns_90 : decode b_M_writeRuns 90 = .ok (.bipush 8, 2) := by decide +kernel
theorem d_M_writeRuns_92 : decode b_M_writeRuns 92 = .ok (.iload 6, 2) := by decide +kernel
theorem d_M_writeRuns_94 : decode b_M_writeRuns 94 = .ok (.imul, 1) := by decide +kernel
theorem d_M_writeRuns_95 : decode b_M_writeRuns 95 = .ok (.iadd, 1) := by decide +kernel
theorem d_M_writeRuns_96 : decode b_M_writeRuns 96 = .ok (.iload_n 2, 1) := by decide +kernel
theorem d_M_writeRuns_97 : decode b_M_writeRuns 97 = .ok (.invokestatic 56, 3) := by decide +kernel
theorem d_M_writeRuns_100 : decode b_M_writeRuns 100 = .ok (.bipush 8, 2) := by decide +kernel
theorem d_M_writeRuns_102 : decode b_M_writeRuns 102 = .ok (.if_icmp .ge 9, 3) := by decide +kernel
theorem d_M_writeRuns_105 : decode b_M_writeRuns 105 = .ok (.iinc 6 1, 3) := by decide +kernel
theorem d_M_writeRuns_108 : decode b_M_writeRuns 108 = .ok (.goto (-33), 3) := by decide +kernel
theorem d_M_writeRuns_111 : decode b_M_writeRuns 111 = .ok (.aload_n 0, 1) := by decide +kernel
theorem d_M_writeRuns_112 : decode b_M_writeRuns 112 = .ok (.ldc2_w 60, 3) := by decide +kernel
theorem d_M_writeRuns_115 : decode b_M_writeRuns 115 = .ok (.iload 6, 2) := by decide +kernel
theorem d_M_writeRuns_117 : decode b_M_writeRuns 117 = .ok (.i2l, 1) := by decide +kernel
theorem d_M_writeRuns_118 : decode b_M_writeRuns 118 = .ok (.lmul, 1) := by decide +kernel
theorem d_M_writeRuns_119 : decode b_M_writeRuns 119 = .ok (.lconst 1, 1) := by decide +kernel
theorem d_M_writeRuns_120 : decode b_M_writeRuns 120 = .ok (.ladd, 1) := by decide +kernel
theorem d_M_writeRuns_121 : decode b_M_writeRuns 121 = .ok (.invokevirtual 62, 3) := by decide +kernel
theorem d_M_writeRuns_124 : decode b_M_writeRuns 124 = .ok (.iconst 0, 1) := by decide +kernel
theorem d_M_writeRuns_125 : decode b_M_writeRuns 125 = .ok (.istore 7, 2) := by decide +kernel
theorem d_M_writeRuns_127 : decode b_M_writeRuns 127 = .ok (.iload 7, 2) := by decide +kernel
theorem d_M_writeRuns_129 : decode b_M_writeRuns 129 = .ok (.bipush 8, 2) := by decide +kernel
theorem d_M_writeRuns_131 : decode b_M_writeRuns 131 = .ok (.iload_n 3, 1) := by decide +kernel
theorem d_M_writeRuns_132 : decode b_M_writeRuns 132 = .ok (.imul, 1) := by decide +kernel
theorem d_M_writeRuns_133 : decode b_M_writeRuns 133 = .ok (.iload 6, 2) := by decide +kernel
theorem d_M_writeRuns_135 : decode b_M_writeRuns 135 = .ok (.imul, 1) := by decide +kernel
theorem d_M_writeRuns_136 : decode b_M_writeRuns 136 = .ok (.if_icmp .ge 74, 3) := by decide +kernel
theorem d_M_writeRuns_139 : decode b_M_writeRuns 139 = .ok (.iconst 0, 1) := by decide +kernel
theorem d_M_writeRuns_140 : decode b_M_writeRuns 140 = .ok (.istore 8, 2) := by decide +kernel
theorem d_M_writeRuns_142 : decode b_M_writeRuns 142 = .ok (.iconst 0, 1) := by decide +kernel
theorem d_M_writeRuns_143 : decode b_M_writeRuns 143 = .ok (.istore 9, 2) := by decide +kernel
theorem d_M_writeRuns_145 : decode b_M_writeRuns 145 = .ok (.iload 9, 2) := by decide +kernel
theorem d_M_writeRuns_147 : decode b_M_writeRuns 147 = .ok (.bipush 8, 2) := by decide +kernel
theorem d_M_writeRuns_149 : decode b_M_writeRuns 149 = .ok (.if_icmp .ge 49, 3) := by decide +kernel
theorem d_M_writeRuns_152 : decode b_M_writeRuns 152 = .ok (.iload 4, 2) := by decide +kernel
theorem d_M_writeRuns_154 : decode b_M_writeRuns 154 = .ok (.iload 7, 2) := by decide +kernel
theorem d_M_writeRuns_156 : decode b_M_writeRuns 156 = .ok (.iload 9, 2) := by decide +kernel
theorem d_M_writeRuns_158 : decode b_M_writeRuns 158 = .ok (.iadd, 1) := by decide +kernel
theorem d_M_writeRuns_159 : decode b_M_writeRuns 159 = .ok (.iload_n 3, 1) := by decide +kernel
theorem d_M_writeRuns_160 : decode b_M_writeRuns 160 = .ok (.idiv, 1) := by decide +kernel
theorem d_M_writeRuns_161 : decode b_M_writeRuns 161 = .ok (.iadd, 1) := by decide +kernel
theorem d_M_writeRuns_162 : decode b_M_writeRuns 162 = .ok (.istore 10, 2) := by decide +kernel
theorem d_M_writeRuns_164 : decode b_M_writeRuns 164 = .ok (.iload 10, 2) := by decide +kernel
theorem d_M_writeRuns_166 : decode b_M_writeRuns 166 = .ok (.iload_n 2, 1) := by decide +kernel
theorem d_M_writeRuns_167 : decode b_M_writeRuns 167 = .ok (.if_icmp .ge 25, 3) := by decide +kernel
theorem d_M_writeRuns_170 : decode b_M_writeRuns 170 = .ok (.iload 8, 2) := by decide +kernel
theorem d_M_writeRuns_172 : decode b_M_writeRuns 172 = .ok (.aload_n 1, 1) := by decide +kernel
theorem d_M_writeRuns_173 : decode b_M_writeRuns 173 = .ok (.iload 10, 2) := by decide +kernel
theorem d_M_writeRuns_175 : decode b_M_writeRuns 175 = .ok (.iaload, 1) := by decide +kernel
theorem d_M_writeRuns_176 : decode b_M_writeRuns 176 = .ok (.iload 7, 2) := by decide +kernel
theorem d_M_writeRuns_178 : decode b_M_writeRuns 178 = .ok (.iload 9, 2) := by decide +kernel
theorem d_M_writeRuns_180 : decode b_M_writeRuns 180 = .ok (.iadd, 1) := by decide +kernel
theorem d_M_writeRuns_181 : decode b_M_writeRuns 181 = .ok (.iload_n 3, 1) := by decide +kernel
theorem d_M_writeRuns_182 : decode b_M_writeRuns 182 = .ok (.irem, 1) := by decide +kernel
theorem d_M_writeRuns_183 : decode b_M_writeRuns 183 = .ok (.iushr, 1) := by decide +kernel
theorem d_M_writeRuns_184 : decode b_M_writeRuns 184 = .ok (.iconst 1, 1) := by decide +kernel
theorem d_M_writeRuns_185 : decode b_M_writeRuns 185 = .ok (.iand, 1) := by decide +kernel
theorem d_M_writeRuns_186 : decode b_M_writeRuns 186 = .ok (.iload 9, 2) := by decide +kernel
theorem d_M_writeRuns_188 : decode b_M_writeRuns 188 = .ok (.ishl, 1) := by decide +kernel
theorem d_M_writeRuns_189 : decode b_M_writeRuns 189 = .ok (.ior, 1) := by decide +kernel
theorem d_M_writeRuns_190 : decode b_M_writeRuns 190 = .ok (.istore 8, 2) := by decide +kernel
theorem d_M_writeRuns_192 : decode b_M_writeRuns 192 = .ok (.iinc 9 1, 3) := by decide +kernel
theorem d_M_writeRuns_195 : decode b_M_writeRuns 195 = .ok (.goto (-50), 3) := by decide +kernel
theorem d_M_writeRuns_198 : decode b_M_writeRuns 198 = .ok (.aload_n 0, 1) := by decide +kernel
theorem d_M_writeRuns_199 : decode b_M_writeRuns 199 = .ok (.iload 8, 2) := by decide +kernel
theorem d_M_writeRuns_201 : decode b_M_writeRuns 201 = .ok (.invokevirtual 40, 3) := by decide +kernel
theorem d_M_writeRuns_204 : decode b_M_writeRuns 204 = .ok (.iinc 7 8, 3) := by decide +kernel
theorem d_M_writeRuns_207 : decode b_M_writeRuns 207 = .ok (.goto (-80), 3) := by decide +kernel
theorem d_M_writeRuns_210 : decode b_M_writeRuns 210 = .ok (.iload 4, 2) := by decide +kernel
theorem d_M_writeRuns_212 : decode b_M_writeRuns 212 = .ok (.bipush 8, 2) := by decide +kernel
theorem d_M_writeRuns_214 : decode b_M_writeRuns 214 = .ok (.iload 6, 2) := by decide +kernel
theorem d_M_writeRuns_216 : decode b_M_writeRuns 216 = .ok (.imul, 1) := by decide +kernel
theorem d_M_writeRuns_217 : decode b_M_writeRuns 217 = .ok (.iadd, 1) := by decide +kernel
theorem d_M_writeRuns_218 : decode b_M_writeRuns 218 = .ok (.istore 4, 2) := by decide +kernel
theorem d_M_writeRuns_220 : decode b_M_writeRuns 220 = .ok (.goto (-217), 3) := by decide +kernel
theorem d_M_writeRuns_223 : decode b_M_writeRuns 223 = .ok (.return_, 1) := by decide +kernel
theorem d_M_alike_0 : decode b_M_alike 0 = .ok (.iload_n 1, 1) := by decide +kernel
theorem d_M_alike_1 : decode b_M_alike 1 = .ok (.istore_n 3, 1) := by decide +kernel
theorem d_M_alike_2 : decode b_M_alike 2 = .ok (.iload_n 3, 1) := by decide +kernel
theorem d_M_alike_3 : decode b_M_alike 3 = .ok (.iload_n 2, 1) := by decide +kernel
theorem d_M_alike_4 : decode b_M_alike 4 = .ok (.if_icmp .ge 18, 3) := by decide +kernel
theorem d_M_alike_7 : decode b_M_alike 7 = .ok (.aload_n 0, 1) := by decide +kernel
theorem d_M_alike_8 : decode b_M_alike 8 = .ok (.iload_n 3, 1) := by decide +kernel
theorem d_M_alike_9 : decode b_M_alike 9 = .ok (.iaload, 1) := by decide +kernel
theorem d_M_alike_10 : decode b_M_alike 10 = .ok (.aload_n 0, 1) := by decide +kernel
theorem d_M_alike_11 : decode b_M_alike 11 = .ok (.iload_n 1, 1) := by decide +kernel
theorem d_M_alike_12 : decode b_M_alike 12 = .ok (.iaload, 1) := by decide +kernel
theorem d_M_alike_13 : decode b_M_alike 13 = .ok (.if_icmp .ne 9, 3) := by decide +kernel
theorem d_M_alike_16 : decode b_M_alike 16 = .ok (.iinc 3 1, 3) := by decide +kernel
theorem d_M_alike_19 : decode b_M_alike 19 = .ok (.goto (-17), 3) := by decide +kernel
theorem d_M_alike_22 : decode b_M_alike 22 = .ok (.iload_n 3, 1) := by decide +kernel
theorem d_M_alike_23 : decode b_M_alike 23 = .ok (.iload_n 1, 1) := by decide +kernel
theorem d_M_alike_24 : decode b_M_alike 24 = .ok (.isub, 1) := by decide +kernel
theorem d_M_alike_25 : decode b_M_alike 25 = .ok (.ireturn, 1) := by decide +kernel
theorem d_M_putVarint_0 : decode b_M_putVarint 0 = .ok (.lload_n 1, 1) := by decide +kernel
theorem d_M_putVarint_1 : decode b_M_putVarint 1 = .ok (.lstore_n 3, 1) := by decide +kernel
theorem d_M_putVarint_2 : decode b_M_putVarint 2 = .ok (.lload_n 3, 1) := by decide +kernel
theorem d_M_putVarint_3 : decode b_M_putVarint 3 = .ok (.lconst 0, 1) := by decide +kernel
theorem d_M_putVarint_4 : decode b_M_putVarint 4 = .ok (.lcmp, 1) := by decide +kernel
theorem d_M_putVarint_5 : decode b_M_putVarint 5 = .ok (.ifCond .lt 11, 3) := by decide +kernel
theorem d_M_putVarint_8 : decode b_M_putVarint 8 = .ok (.lload_n 3, 1) := by decide +kernel
theorem d_M_putVarint_9 : decode b_M_putVarint 9 = .ok (.ldc2_w 38, 3) := by decide +kernel
theorem d_M_putVarint_12 : decode b_M_putVarint 12 = .ok (.lcmp, 1) := by decide +kernel
theorem d_M_putVarint_13 : decode b_M_putVarint 13 = .ok (.ifCond .le 25, 3) := by decide +kernel
theorem d_M_putVarint_16 : decode b_M_putVarint 16 = .ok (.aload_n 0, 1) := by decide +kernel
theorem d_M_putVarint_17 : decode b_M_putVarint 17 = .ok (.lload_n 3, 1) := by decide +kernel
theorem d_M_putVarint_18 : decode b_M_putVarint 18 = .ok (.ldc2_w 38, 3) := by decide +kernel
theorem d_M_putVarint_21 : decode b_M_putVarint 21 = .ok (.land, 1) := by decide +kernel
theorem d_M_putVarint_22 : decode b_M_putVarint 22 = .ok (.l2i, 1) := by decide +kernel
theorem d_M_putVarint_23 : decode b_M_putVarint 23 = .ok (.sipush 128, 3) := by decide +kernel
theorem d_M_putVarint_26 : decode b_M_putVarint 26 = .ok (.iadd, 1) := by decide +kernel
theorem d_M_putVarint_27 : decode b_M_putVarint 27 = .ok (.invokevirtual 40, 3) := by decide +kernel
theorem d_M_putVarint_30 : decode b_M_putVarint 30 = .ok (.lload_n 3, 1) := by decide +kernel
theorem d_M_putVarint_31 : decode b_M_putVarint 31 = .ok (.bipush 7, 2) := by decide +kernel
theorem d_M_putVarint_33 : decode b_M_putVarint 33 = .ok (.lushr, 1) := by decide +kernel
theorem d_M_putVarint_34 : decode b_M_putVarint 34 = .ok (.lstore_n 3, 1) := by decide +kernel
theorem d_M_putVarint_35 : decode b_M_putVarint 35 = .ok (.goto (-33), 3) := by decide +kernel
theorem d_M_putVarint_38 : decode b_M_putVarint 38 = .ok (.aload_n 0, 1) := by decide +kernel
theorem d_M_putVarint_39 : decode b_M_putVarint 39 = .ok (.lload_n 3, 1) := by decide +kernel
theorem d_M_putVarint_40 : decode b_M_putVarint 40 = .ok (.l2i, 1) := by decide +kernel
theorem d_M_putVarint_41 : decode b_M_putVarint 41 = .ok (.invokevirtual 40, 3) := by decide +kernel
theorem d_M_putVarint_44 : decode b_M_putVarint 44 = .ok (.return_, 1) := by decide +kernel
theorem d_M_put_0 : decode b_M_put 0 = .ok (.aload_n 0, 1) := by decide +kernel
theorem d_M_put_1 : decode b_M_put 1 = .ok (.getfield 22, 3) := by decide +kernel
theorem d_M_put_4 : decode b_M_put 4 = .ok (.aload_n 0, 1) := by decide +kernel
theorem d_M_put_5 : decode b_M_put 5 = .ok (.getfield 29, 3) := by decide +kernel
theorem d_M_put_8 : decode b_M_put 8 = .ok (.iload_n 1, 1) := by decide +kernel
theorem d_M_put_9 : decode b_M_put 9 = .ok (.sipush 255, 3) := by decide +kernel
theorem d_M_put_12 : decode b_M_put 12 = .ok (.iand, 1) := by decide +kernel
theorem d_M_put_13 : decode b_M_put 13 = .ok (.iastore, 1) := by decide +kernel
theorem d_M_put_14 : decode b_M_put 14 = .ok (.aload_n 0, 1) := by decide +kernel
theorem d_M_put_15 : decode b_M_put 15 = .ok (.dup, 1) := by decide +kernel
theorem d_M_put_16 : decode b_M_put 16 = .ok (.getfield 29, 3) := by decide +kernel
theorem d_M_put_19 : decode b_M_put 19 = .ok (.iconst 1, 1) := by decide +kernel
theorem d_M_put_20 : decode b_M_put 20 = .ok (.iadd, 1) := by decide +kernel
theorem d_M_put_21 : decode b_M_put 21 = .ok (.putfield 29, 3) := by decide +kernel
theorem d_M_put_24 : decode b_M_put 24 = .ok (.return_, 1) := by decide +kernel
theorem d_M_decode_0 : decode b_M_decode 0 = .ok (.aload_n 0, 1) := by decide +kernel
theorem d_M_decode_1 : decode b_M_decode 1 = .ok (.iconst 0, 1) := by decide +kernel
theorem d_M_decode_2 : decode b_M_decode 2 = .ok (.putfield 25, 3) := by decide +kernel
theorem d_M_decode_5 : decode b_M_decode 5 = .ok (.iload_n 1, 1) := by decide +kernel
theorem d_M_decode_6 : decode b_M_decode 6 = .ok (.ifCond .lt 10, 3) := by decide +kernel
theorem d_M_decode_9 : decode b_M_decode 9 = .ok (.iload_n 1, 1) := by decide +kernel
theorem d_M_decode_10 : decode b_M_decode 10 = .ok (.sipush 4096, 3) := by decide +kernel
theorem d_M_decode_13 : decode b_M_decode 13 = .ok (.if_icmp .le 5, 3) := by decide +kernel
theorem d_M_decode_16 : decode b_M_decode 16 = .ok (.iconst (-1), 1) := by decide +kernel
theorem d_M_decode_17 : decode b_M_decode 17 = .ok (.ireturn, 1) := by decide +kernel
theorem d_M_decode_18 : decode b_M_decode 18 = .ok (.aload_n 0, 1) := by decide +kernel
theorem d_M_decode_19 : decode b_M_decode 19 = .ok (.iconst 0, 1) := by decide +kernel
theorem d_M_decode_20 : decode b_M_decode 20 = .ok (.putfield 35, 3) := by decide +kernel
theorem d_M_decode_23 : decode b_M_decode 23 = .ok (.aload_n 0, 1) := by decide +kernel
theorem d_M_decode_24 : decode b_M_decode 24 = .ok (.iconst 0, 1) := by decide +kernel
theorem d_M_decode_25 : decode b_M_decode 25 = .ok (.putfield 32, 3) := by decide +kernel
theorem d_M_decode_28 : decode b_M_decode 28 = .ok (.aload_n 0, 1) := by decide +kernel
theorem d_M_decode_29 : decode b_M_decode 29 = .ok (.aload_n 0, 1) := by decide +kernel
theorem d_M_decode_30 : decode b_M_decode 30 = .ok (.getfield 13, 3) := by decide +kernel
theorem d_M_decode_33 : decode b_M_decode 33 = .ok (.iload_n 1, 1) := by decide +kernel
theorem d_M_decode_34 : decode b_M_decode 34 = .ok (.aload_n 0, 1) := by decide +kernel
theorem d_M_decode_35 : decode b_M_decode 35 = .ok (.getfield 50, 3) := by decide +kernel
theorem d_M_decode_38 : decode b_M_decode 38 = .ok (.aload_n 0, 1) := by decide +kernel
theorem d_M_decode_39 : decode b_M_decode 39 = .ok (.getfield 47, 3) := by decide +kernel
theorem d_M_decode_42 : decode b_M_decode 42 = .ok (.invokevirtual 87, 3) := by decide +kernel
theorem d_M_decode_45 : decode b_M_decode 45 = .ok (.aload_n 0, 1) := by decide +kernel
theorem d_M_decode_46 : decode b_M_decode 46 = .ok (.getfield 32, 3) := by decide +kernel
theorem d_M_decode_49 : decode b_M_decode 49 = .ok (.ifCond .ne 20, 3) := by decide +kernel
theorem d_M_decode_52 : decode b_M_decode 52 = .ok (.aload_n 0, 1) := by decide +kernel
theorem d_M_decode_53 : decode b_M_decode 53 = .ok (.getfield 35, 3) := by decide +kernel
theorem d_M_decode_56 : decode b_M_decode 56 = .ok (.aload_n 0, 1) := by decide +kernel
theorem d_M_decode_57 : decode b_M_decode 57 = .ok (.getfield 47, 3) := by decide +kernel
theorem d_M_decode_60 : decode b_M_decode 60 = .ok (.if_icmp .ge 9, 3) := by decide +kernel
theorem d_M_decode_63 : decode b_M_decode 63 = .ok (.aload_n 0, 1) := by decide +kernel
theorem d_M_decode_64 : decode b_M_decode 64 = .ok (.bipush 6, 2) := by decide +kernel
theorem d_M_decode_66 : decode b_M_decode 66 = .ok (.putfield 32, 3) := by decide +kernel
theorem d_M_decode_69 : decode b_M_decode 69 = .ok (.iconst 0, 1) := by decide +kernel
theorem d_M_decode_70 : decode b_M_decode 70 = .ok (.istore_n 2, 1) := by decide +kernel
theorem d_M_decode_71 : decode b_M_decode 71 = .ok (.iload_n 2, 1) := by decide +kernel
theorem d_M_decode_72 : decode b_M_decode 72 = .ok (.iload_n 1, 1) := by decide +kernel
theorem d_M_decode_73 : decode b_M_decode 73 = .ok (.if_icmp .ge 28, 3) := by decide +kernel
theorem d_M_decode_76 : decode b_M_decode 76 = .ok (.aload_n 0, 1) := by decide +kernel
theorem d_M_decode_77 : decode b_M_decode 77 = .ok (.getfield 32, 3) := by decide +kernel
theorem d_M_decode_80 : decode b_M_decode 80 = .ok (.ifCond .ne 21, 3) := by decide +kernel
theorem d_M_decode_83 : decode b_M_decode 83 = .ok (.aload_n 0, 1) := by decide +kernel
theorem d_M_decode_84 : decode b_M_decode 84 = .ok (.getfield 7, 3) := by decide +kernel
theorem d_M_decode_87 : decode b_M_decode 87 = .ok (.iload_n 2, 1) := by decide +kernel
theorem d_M_decode_88 : decode b_M_decode 88 = .ok (.aload_n 0, 1) := by decide +kernel
theorem d_M_decode_89 : decode b_M_decode 89 = .ok (.getfield 13, 3) := by decide +kernel
theorem d_M_decode_92 : decode b_M_decode 92 = .ok (.iload_n 2, 1) := by decide +kernel
theorem d_M_decode_93 : decode b_M_decode 93 = .ok (.iaload, 1) := by decide +kernel
theorem d_M_decode_94 : decode b_M_decode 94 = .ok (.iastore, 1) := by decide +kernel
theorem d_M_decode_95 : decode b_M_decode 95 = .ok (.iinc 2 1, 3) := by decide +kernel
theorem d_M_decode_98 : decode b_M_decode 98 = .ok (.goto (-27), 3) := by decide +kernel
theorem d_M_decode_101 : decode b_M_decode 101 = .ok (.aload_n 0, 1) := by decide +kernel
theorem d_M_decode_102 : decode b_M_decode 102 = .ok (.getfield 32, 3) := by decide +kernel
theorem d_M_decode_105 : decode b_M_decode 105 = .ok (.ifCond .ne 8, 3) := by decide +kernel
theorem d_M_decode_108 : decode b_M_decode 108 = .ok (.aload_n 0, 1) := by decide +kernel
theorem d_M_decode_109 : decode b_M_decode 109 = .ok (.iload_n 1, 1) := by decide +kernel
theorem d_M_decode_110 : decode b_M_decode 110 = .ok (.putfield 53, 3) := by decide +kernel
theorem d_M_decode_113 : decode b_M_decode 113 = .ok (.aload_n 0, 1) := by decide +kernel
theorem d_M_decode_114 : decode b_M_decode 114 = .ok (.getfield 32, 3) := by decide +kernel
theorem d_M_decode_117 : decode b_M_decode 117 = .ok (.ireturn, 1) := by decide +kernel
theorem d_M_readRuns_0 : decode b_M_readRuns 0 = .ok (.iconst 0, 1) := by decide +kernel
theorem d_M_readRuns_1 : decode b_M_readRuns 1 = .ok (.istore 5, 2) := by decide +kernel
theorem d_M_readRuns_3 : decode b_M_readRuns 3 = .ok (.iload 5, 2) := by decide +kernel
theorem d_M_readRuns_5 : decode b_M_readRuns 5 = .ok (.iload_n 2, 1) := by decide +kernel
theorem d_M_readRuns_6 : decode b_M_readRuns 6 = .ok (.if_icmp .ge 92, 3) := by decide +kernel
theorem d_M_readRuns_9 : decode b_M_readRuns 9 = .ok (.aload_n 0, 1) := by decide +kernel
theorem d_M_readRuns_10 : decode b_M_readRuns 10 = .ok (.getfield 32, 3) := by decide +kernel
theorem d_M_readRuns_13 : decode b_M_readRuns 13 = .ok (.ifCond .ne 85, 3) := by decide +kernel
theorem d_M_readRuns_16 : decode b_M_readRuns 16 = .ok (.aload_n 0, 1) := by decide +kernel
theorem d_M_readRuns_17 : decode b_M_readRuns 17 = .ok (.iload 4, 2) := by decide +kernel
theorem d_M_readRuns_19 : decode b_M_readRuns 19 = .ok (.invokevirtual 66, 3) := by decide +kernel
theorem d_M_readRuns_22 : decode b_M_readRuns 22 = .ok (.lstore 6, 2) := by decide +kernel
theorem d_M_readRuns_24 : decode b_M_readRuns 24 = .ok (.aload_n 0, 1) := by decide +kernel
theorem d_M_readRuns_25 : decode b_M_readRuns 25 = .ok (.getfield 32, 3) := by decide +kernel
theorem d_M_readRuns_28 : decode b_M_readRuns 28 = .ok (.ifCond .eq 4, 3) := by decide +kernel
theorem d_M_readRuns_31 : decode b_M_readRuns 31 = .ok (.return_, 1) := by decide +kernel
theorem d_M_readRuns_32 : decode b_M_readRuns 32 = .ok (.lload 6, 2) := by decide +kernel
theorem d_M_readRuns_34 : decode b_M_readRuns 34 = .ok (.iconst 1, 1) := by decide +kernel
theorem d_M_readRuns_35 : decode b_M_readRuns 35 = .ok (.lushr, 1) := by decide +kernel
theorem d_M_readRuns_36 : decode b_M_readRuns 36 = .ok (.lstore 8, 2) := by decide +kernel
theorem d_M_readRuns_38 : decode b_M_readRuns 38 = .ok (.lload 8, 2) := by decide +kernel
theorem d_M_readRuns_40 : decode b_M_readRuns 40 = .ok (.lconst 0, 1) := by decide +kernel
theorem d_M_readRuns_41 : decode b_M_readRuns 41 = .ok (.lcmp, 1) := by decide +kernel
theorem d_M_readRuns_42 : decode b_M_readRuns 42 = .ok (.ifCond .ne 11, 3) := by decide +kernel
theorem d_M_readRuns_45 : decode b_M_readRuns 45 = .ok (.aload_n 0, 1) := by decide +kernel
theorem d_M_readRuns_46 : decode b_M_readRuns 46 = .ok (.iconst 3, 1) := by decide +kernel
theorem d_M_readRuns_47 : decode b_M_readRuns 47 = .ok (.putfield 32, 3) := by decide +kernel
theorem d_M_readRuns_50 : decode b_M_readRuns 50 = .ok (.goto 45, 3) := by decide +kernel
theorem d_M_readRuns_53 : decode b_M_readRuns 53 = .ok (.lload 6, 2) := by decide +kernel
theorem d_M_readRuns_55 : decode b_M_readRuns 55 = .ok (.lconst 1, 1) := by decide +kernel
theorem d_M_readRuns_56 : decode b_M_readRuns 56 = .ok (.land, 1) := by decide +kernel
theorem d_M_readRuns_57 : decode b_M_readRuns 57 = .ok (.lconst 0, 1) := by decide +kernel
theorem d_M_readRuns_58 : decode b_M_readRuns 58 = .ok (.lcmp, 1) := by decide +kernel
theorem d_M_readRuns_59 : decode b_M_readRuns 59 = .ok (.ifCond .ne 21, 3) := by decide +kernel
theorem d_M_readRuns_62 : decode b_M_readRuns 62 = .ok (.aload_n 0, 1) := by decide +kernel
theorem d_M_readRuns_63 : decode b_M_readRuns 63 = .ok (.aload_n 1, 1) := by decide +kernel
theorem d_M_readRuns_64 : decode b_M_readRuns 64 = .ok (.iload 5, 2) := by decide +kernel
theorem d_M_readRuns_66 : decode b_M_readRuns 66 = .ok (.iload_n 2, 1) := by decide +kernel
theorem d_M_readRuns_67 : decode b_M_readRuns 67 = .ok (.iload_n 3, 1) := by decide +kernel
theorem d_M_readRuns_68 : decode b_M_readRuns 68 = .ok (.iload 4, 2) := by decide +kernel
theorem d_M_readRuns_70 : decode b_M_readRuns 70 = .ok (.lload 8, 2) := by decide +kernel
theorem d_M_readRuns_72 : decode b_M_readRuns 72 = .ok (.invokevirtual 70, 3) := by decide +kernel
theorem d_M_readRuns_75 : decode b_M_readRuns 75 = .ok (.istore 5, 2) := by decide +kernel
theorem d_M_readRuns_77 : decode b_M_readRuns 77 = .ok (.goto 18, 3) := by decide +kernel
theorem d_M_readRuns_80 : decode b_M_readRuns 80 = .ok (.aload_n 0, 1) := by decide +kernel
theorem d_M_readRuns_81 : decode b_M_readRuns 81 = .ok (.aload_n 1, 1) := by decide +kernel
theorem d_M_readRuns_82 : decode b_M_readRuns 82 = .ok (.iload 5, 2) := by decide +kernel
theorem d_M_readRuns_84 : decode b_M_readRuns 84 = .ok (.iload_n 2, 1) := by decide +kernel
theorem d_M_readRuns_85 : decode b_M_readRuns 85 = .ok (.iload_n 3, 1) := by decide +kernel
theorem d_M_readRuns_86 : decode b_M_readRuns 86 = .ok (.iload 4, 2) := by decide +kernel
theorem d_M_readRuns_88 : decode b_M_readRuns 88 = .ok (.lload 8, 2) := by decide +kernel
theorem d_M_readRuns_90 : decode b_M_readRuns 90 = .ok (.invokevirtual 74, 3) := by decide +kernel
theorem d_M_readRuns_93 : decode b_M_readRuns 93 = .ok (.istore 5, 2) := by decide +kernel
theorem d_M_readRuns_95 : decode b_M_readRuns 95 = .ok (.goto (-92), 3) := by decide +kernel
theorem d_M_readRuns_98 : decode b_M_readRuns 98 = .ok (.return_, 1) := by decide +kernel
theorem d_M_varint_0 : decode b_M_varint 0 = .ok (.lconst 0, 1) := by decide +kernel
theorem d_M_varint_1 : decode b_M_varint 1 = .ok (.lstore_n 2, 1) := by decide +kernel
theorem d_M_varint_2 : decode b_M_varint 2 = .ok (.iconst 0, 1) := by decide +kernel
theorem d_M_varint_3 : decode b_M_varint 3 = .ok (.istore 4, 2) := by decide +kernel
theorem d_M_varint_5 : decode b_M_varint 5 = .ok (.aload_n 0, 1) := by decide +kernel
theorem d_M_varint_6 : decode b_M_varint 6 = .ok (.getfield 32, 3) := by decide +kernel
theorem d_M_varint_9 : decode b_M_varint 9 = .ok (.ifCond .ne 102, 3) := by decide +kernel
theorem d_M_varint_12 : decode b_M_varint 12 = .ok (.aload_n 0, 1) := by decide +kernel
theorem d_M_varint_13 : decode b_M_varint 13 = .ok (.getfield 35, 3) := by decide +kernel
theorem d_M_varint_16 : decode b_M_varint 16 = .ok (.iload_n 1, 1) := by decide +kernel
theorem d_M_varint_17 : decode b_M_varint 17 = .ok (.if_icmp .lt 11, 3) := by decide +kernel
theorem d_M_varint_20 : decode b_M_varint 20 = .ok (.aload_n 0, 1) := by decide +kernel
theorem d_M_varint_21 : decode b_M_varint 21 = .ok (.iconst 1, 1) := by decide +kernel
theorem d_M_varint_22 : decode b_M_varint 22 = .ok (.putfield 32, 3) := by decide +kernel
theorem d_M_varint_25 : decode b_M_varint 25 = .ok (.goto (-20), 3) := by decide +kernel
theorem d_M_varint_28 : decode b_M_varint 28 = .ok (.aload_n 0, 1) := by decide +kernel
theorem d_M_varint_29 : decode b_M_varint 29 = .ok (.getfield 19, 3) := by decide +kernel
theorem d_M_varint_32 : decode b_M_varint 32 = .ok (.aload_n 0, 1) := by decide +kernel
theorem d_M_varint_33 : decode b_M_varint 33 = .ok (.getfield 35, 3) := by decide +kernel
theorem d_M_varint_36 : decode b_M_varint 36 = .ok (.iaload, 1) := by decide +kernel
theorem d_M_varint_37 : decode b_M_varint 37 = .ok (.istore 5, 2) := by decide +kernel
theorem d_M_varint_39 : decode b_M_varint 39 = .ok (.aload_n 0, 1) := by decide +kernel
theorem d_M_varint_40 : decode b_M_varint 40 = .ok (.dup, 1) := by decide +kernel
theorem d_M_varint_41 : decode b_M_varint 41 = .ok (.getfield 35, 3) := by decide +kernel
theorem d_M_varint_44 : decode b_M_varint 44 = .ok (.iconst 1, 1) := by decide +kernel
theorem d_M_varint_45 : decode b_M_varint 45 = .ok (.iadd, 1) := by decide +kernel
theorem d_M_varint_46 : decode b_M_varint 46 = .ok (.putfield 35, 3) := by decide +kernel
theorem d_M_varint_49 : decode b_M_varint 49 = .ok (.iload 4, 2) := by decide +kernel
theorem d_M_varint_51 : decode b_M_varint 51 = .ok (.bipush 9, 2) := by decide +kernel
theorem d_M_varint_53 : decode b_M_varint 53 = .ok (.if_icmp .ne 9, 3) := by decide +kernel
theorem d_M_varint_56 : decode b_M_varint 56 = .ok (.iload 5, 2) := by decide +kernel
theorem d_M_varint_58 : decode b_M_varint 58 = .ok (.iconst 1, 1) := by decide +kernel
theorem d_M_varint_59 : decode b_M_varint 59 = .ok (.if_icmp .gt 13, 3) := by decide +kernel
theorem d_M_varint_62 : decode b_M_varint 62 = .ok (.iload 4, 2) := by decide +kernel
theorem d_M_varint_64 : decode b_M_varint 64 = .ok (.ifCond .le 16, 3) := by decide +kernel
theorem d_M_varint_67 : decode b_M_varint 67 = .ok (.iload 5, 2) := by decide +kernel
theorem d_M_varint_69 : decode b_M_varint 69 = .ok (.ifCond .ne 11, 3) := by decide +kernel
theorem d_M_varint_72 : decode b_M_varint 72 = .ok (.aload_n 0, 1) := by decide +kernel
theorem d_M_varint_73 : decode b_M_varint 73 = .ok (.iconst 2, 1) := by decide +kernel
theorem d_M_varint_74 : decode b_M_varint 74 = .ok (.putfield 32, 3) := by decide +kernel
theorem d_M_varint_77 : decode b_M_varint 77 = .ok (.goto 31, 3) := by decide +kernel
theorem d_M_varint_80 : decode b_M_varint 80 = .ok (.lload_n 2, 1) := by decide +kernel
theorem d_M_varint_81 : decode b_M_varint 81 = .ok (.iload 5, 2) := by decide +kernel
theorem d_M_varint_83 : decode b_M_varint 83 = .ok (.bipush 127, 2) := by decide +kernel
theorem d_M_varint_85 : decode b_M_varint 85 = .ok (.iand, 1) := by decide +kernel
theorem d_M_varint_86 : decode b_M_varint 86 = .ok (.i2l, 1) := by decide +kernel
theorem d_M_varint_87 : decode b_M_varint 87 = .ok (.bipush 7, 2) := by decide +kernel
theorem d_M_varint_89 : decode b_M_varint 89 = .ok (.iload 4, 2) := by decide +kernel
theorem d_M_varint_91 : decode b_M_varint 91 = .ok (.imul, 1) := by decide +kernel
theorem d_M_varint_92 : decode b_M_varint 92 = .ok (.lshl, 1) := by decide +kernel
theorem d_M_varint_93 : decode b_M_varint 93 = .ok (.lor, 1) := by decide +kernel
theorem d_M_varint_94 : decode b_M_varint 94 = .ok (.lstore_n 2, 1) := by decide +kernel
theorem d_M_varint_95 : decode b_M_varint 95 = .ok (.iload 5, 2) := by decide +kernel
theorem d_M_varint_97 : decode b_M_varint 97 = .ok (.sipush 128, 3) := by decide +kernel
theorem d_M_varint_100 : decode b_M_varint 100 = .ok (.if_icmp .ge 5, 3) := by decide +kernel
theorem d_M_varint_103 : decode b_M_varint 103 = .ok (.lload_n 2, 1) := by decide +kernel
theorem d_M_varint_104 : decode b_M_varint 104 = .ok (.lreturn, 1) := by decide +kernel
theorem d_M_varint_105 : decode b_M_varint 105 = .ok (.iinc 4 1, 3) := by decide +kernel
theorem d_M_varint_108 : decode b_M_varint 108 = .ok (.goto (-103), 3) := by decide +kernel
theorem d_M_varint_111 : decode b_M_varint 111 = .ok (.lconst 0, 1) := by decide +kernel
theorem d_M_varint_112 : decode b_M_varint 112 = .ok (.lreturn, 1) := by decide +kernel
theorem d_M_readOne_0 : decode b_M_readOne 0 = .ok (.iload 4, 2) := by decide +kernel
theorem d_M_readOne_2 : decode b_M_readOne 2 = .ok (.bipush 7, 2) := by decide +kernel
theorem d_M_readOne_4 : decode b_M_readOne 4 = .ok (.iadd, 1) := by decide +kernel
theorem d_M_readOne_5 : decode b_M_readOne 5 = .ok (.bipush 8, 2) := by decide +kernel
theorem d_M_readOne_7 : decode b_M_readOne 7 = .ok (.idiv, 1) := by decide +kernel
theorem d_M_readOne_8 : decode b_M_readOne 8 = .ok (.istore 8, 2) := by decide +kernel
theorem d_M_readOne_10 : decode b_M_readOne 10 = .ok (.lload 6, 2) := by decide +kernel
theorem d_M_readOne_12 : decode b_M_readOne 12 = .ok (.iload_n 3, 1) := by decide +kernel
theorem d_M_readOne_13 : decode b_M_readOne 13 = .ok (.iload_n 2, 1) := by decide +kernel
theorem d_M_readOne_14 : decode b_M_readOne 14 = .ok (.isub, 1) := by decide +kernel
theorem d_M_readOne_15 : decode b_M_readOne 15 = .ok (.i2l, 1) := by decide +kernel
theorem d_M_readOne_16 : decode b_M_readOne 16 = .ok (.lcmp, 1) := by decide +kernel
theorem d_M_readOne_17 : decode b_M_readOne 17 = .ok (.ifCond .le 11, 3) := by decide +kernel
theorem d_M_readOne_20 : decode b_M_readOne 20 = .ok (.aload_n 0, 1) := by decide +kernel
theorem d_M_readOne_21 : decode b_M_readOne 21 = .ok (.iconst 4, 1) := by decide +kernel
theorem d_M_readOne_22 : decode b_M_readOne 22 = .ok (.putfield 32, 3) := by decide +kernel
theorem d_M_readOne_25 : decode b_M_readOne 25 = .ok (.goto 20, 3) := by decide +kernel
theorem d_M_readOne_28 : decode b_M_readOne 28 = .ok (.iload 5, 2) := by decide +kernel
theorem d_M_readOne_30 : decode b_M_readOne 30 = .ok (.aload_n 0, 1) := by decide +kernel
theorem d_M_readOne_31 : decode b_M_readOne 31 = .ok (.getfield 35, 3) := by decide +kernel
theorem d_M_readOne_34 : decode b_M_readOne 34 = .ok (.isub, 1) := by decide +kernel
theorem d_M_readOne_35 : decode b_M_readOne 35 = .ok (.iload 8, 2) := by decide +kernel
theorem d_M_readOne_37 : decode b_M_readOne 37 = .ok (.if_icmp .ge 8, 3) := by decide +kernel
theorem d_M_readOne_40 : decode b_M_readOne 40 = .ok (.aload_n 0, 1) := by decide +kernel
theorem d_M_readOne_41 : decode b_M_readOne 41 = .ok (.iconst 1, 1) := by decide +kernel
theorem d_M_readOne_42 : decode b_M_readOne 42 = .ok (.putfield 32, 3) := by decide +kernel
theorem d_M_readOne_45 : decode b_M_readOne 45 = .ok (.aload_n 0, 1) := by decide +kernel
theorem d_M_readOne_46 : decode b_M_readOne 46 = .ok (.getfield 32, 3) := by decide +kernel
theorem d_M_readOne_49 : decode b_M_readOne 49 = .ok (.ifCond .eq 5, 3) := by decide +kernel
theorem d_M_readOne_52 : decode b_M_readOne 52 = .ok (.iload_n 2, 1) := by decide +kernel
theorem d_M_readOne_53 : decode b_M_readOne 53 = .ok (.ireturn, 1) := by decide +kernel
theorem d_M_readOne_54 : decode b_M_readOne 54 = .ok (.aload_n 0, 1) := by decide +kernel
theorem d_M_readOne_55 : decode b_M_readOne 55 = .ok (.aload_n 0, 1) := by decide +kernel
theorem d_M_readOne_56 : decode b_M_readOne 56 = .ok (.getfield 35, 3) := by decide +kernel
theorem d_M_readOne_59 : decode b_M_readOne 59 = .ok (.iconst 0, 1) := by decide +kernel
theorem d_M_readOne_60 : decode b_M_readOne 60 = .ok (.iload 4, 2) := by decide +kernel
theorem d_M_readOne_62 : decode b_M_readOne 62 = .ok (.invokevirtual 77, 3) := by decide +kernel
theorem d_M_readOne_65 : decode b_M_readOne 65 = .ok (.istore 9, 2) := by decide +kernel
theorem d_M_readOne_67 : decode b_M_readOne 67 = .ok (.iload 4, 2) := by decide +kernel
theorem d_M_readOne_69 : decode b_M_readOne 69 = .ok (.istore 10, 2) := by decide +kernel
theorem d_M_readOne_71 : decode b_M_readOne 71 = .ok (.iload 10, 2) := by decide +kernel
theorem d_M_readOne_73 : decode b_M_readOne 73 = .ok (.bipush 8, 2) := by decide +kernel
theorem d_M_readOne_75 : decode b_M_readOne 75 = .ok (.iload 8, 2) := by decide +kernel
theorem d_M_readOne_77 : decode b_M_readOne 77 = .ok (.imul, 1) := by decide +kernel
theorem d_M_readOne_78 : decode b_M_readOne 78 = .ok (.if_icmp .ge 41, 3) := by decide +kernel
theorem d_M_readOne_81 : decode b_M_readOne 81 = .ok (.aload_n 0, 1) := by decide +kernel
theorem d_M_readOne_82 : decode b_M_readOne 82 = .ok (.getfield 19, 3) := by decide +kernel
theorem d_M_readOne_85 : decode b_M_readOne 85 = .ok (.aload_n 0, 1) := by decide +kernel
theorem d_M_readOne_86 : decode b_M_readOne 86 = .ok (.getfield 35, 3) := by decide +kernel
theorem d_M_readOne_89 : decode b_M_readOne 89 = .ok (.iload 10, 2) := by decide +kernel
theorem d_M_readOne_91 : decode b_M_readOne 91 = .ok (.bipush 8, 2) := by decide +kernel
theorem d_M_readOne_93 : decode b_M_readOne 93 = .ok (.idiv, 1) := by decide +kernel
theorem d_M_readOne_94 : decode b_M_readOne 94 = .ok (.iadd, 1) := by decide +kernel
theorem d_M_readOne_95 : decode b_M_readOne 95 = .ok (.iaload, 1) := by decide +kernel
theorem d_M_readOne_96 : decode b_M_readOne 96 = .ok (.iload 10, 2) := by decide +kernel
theorem d_M_readOne_98 : decode b_M_readOne 98 = .ok (.bipush 8, 2) := by decide +kernel
theorem d_M_readOne_100 : decode b_M_readOne 100 = .ok (.irem, 1) := by decide +kernel
theorem d_M_readOne_101 : decode b_M_readOne 101 = .ok (.ishr, 1) := by decide +kernel
theorem d_M_readOne_102 : decode b_M_readOne 102 = .ok (.iconst 1, 1) := by decide +kernel
theorem d_M_readOne_103 : decode b_M_readOne 103 = .ok (.iand, 1) := by decide +kernel
theorem d_M_readOne_104 : decode b_M_readOne 104 = .ok (.iconst 1, 1) := by decide +kernel
theorem d_M_readOne_105 : decode b_M_readOne 105 = .ok (.if_icmp .ne 8, 3) := by decide +kernel
theorem d_M_readOne_108 : decode b_M_readOne 108 = .ok (.aload_n 0, 1) := by decide +kernel
theorem d_M_readOne_109 : decode b_M_readOne 109 = .ok (.iconst 5, 1) := by decide +kernel
theorem d_M_readOne_110 : decode b_M_readOne 110 = .ok (.putfield 32, 3) := by decide +kernel
theorem d_M_readOne_113 : decode b_M_readOne 113 = .ok (.iinc 10 1, 3) := by decide +kernel
theorem d_M_readOne_116 : decode b_M_readOne 116 = .ok (.goto (-45), 3) := by decide +kernel
theorem d_M_readOne_119 : decode b_M_readOne 119 = .ok (.aload_n 0, 1) := by decide +kernel
theorem d_M_readOne_120 : decode b_M_readOne 120 = .ok (.dup, 1) := by decide +kernel
theorem d_M_readOne_121 : decode b_M_readOne 121 = .ok (.getfield 35, 3) := by decide +kernel
theorem d_M_readOne_124 : decode b_M_readOne 124 = .ok (.iload 8, 2) := by decide +kernel
theorem d_M_readOne_126 : decode b_M_readOne 126 = .ok (.iadd, 1) := by decide +kernel
theorem d_M_readOne_127 : decode b_M_readOne 127 = .ok (.putfield 35, 3) := by decide +kernel
theorem d_M_readOne_130 : decode b_M_readOne 130 = .ok (.iconst 0, 1) := by decide +kernel
theorem d_M_readOne_131 : decode b_M_readOne 131 = .ok (.istore 10, 2) := by decide +kernel
theorem d_M_readOne_133 : decode b_M_readOne 133 = .ok (.iload 10, 2) := by decide +kernel
theorem d_M_readOne_135 : decode b_M_readOne 135 = .ok (.i2l, 1) := by decide +kernel
theorem d_M_readOne_136 : decode b_M_readOne 136 = .ok (.lload 6, 2) := by decide +kernel
theorem d_M_readOne_138 : decode b_M_readOne 138 = .ok (.lcmp, 1) := by decide +kernel
theorem d_M_readOne_139 : decode b_M_readOne 139 = .ok (.ifCond .ge 17, 3) := by decide +kernel
theorem d_M_readOne_142 : decode b_M_readOne 142 = .ok (.aload_n 1, 1) := by decide +kernel
theorem d_M_readOne_143 : decode b_M_readOne 143 = .ok (.iload_n 2, 1) := by decide +kernel
theorem d_M_readOne_144 : decode b_M_readOne 144 = .ok (.iload 10, 2) := by decide +kernel
theorem d_M_readOne_146 : decode b_M_readOne 146 = .ok (.iadd, 1) := by decide +kernel
theorem d_M_readOne_147 : decode b_M_readOne 147 = .ok (.iload 9, 2) := by decide +kernel
theorem d_M_readOne_149 : decode b_M_readOne 149 = .ok (.iastore, 1) := by decide +kernel
theorem d_M_readOne_150 : decode b_M_readOne 150 = .ok (.iinc 10 1, 3) := by decide +kernel
theorem d_M_readOne_153 : decode b_M_readOne 153 = .ok (.goto (-20), 3) := by decide +kernel
theorem d_M_readOne_156 : decode b_M_readOne 156 = .ok (.iload_n 2, 1) := by decide +kernel
theorem d_M_readOne_157 : decode b_M_readOne 157 = .ok (.lload 6, 2) := by decide +kernel
theorem d_M_readOne_159 : decode b_M_readOne 159 = .ok (.l2i, 1) := by decide +kernel
theorem d_M_readOne_160 : decode b_M_readOne 160 = .ok (.iadd, 1) := by decide +kernel
theorem d_M_readOne_161 : decode b_M_readOne 161 = .ok (.ireturn, 1) := by decide +kernel
theorem d_M_bitsAt_0 : decode b_M_bitsAt 0 = .ok (.iconst 0, 1) := by decide +kernel
theorem d_M_bitsAt_1 : decode b_M_bitsAt 1 = .ok (.istore 4, 2) := by decide +kernel
theorem d_M_bitsAt_3 : decode b_M_bitsAt 3 = .ok (.iconst 0, 1) := by decide +kernel
theorem d_M_bitsAt_4 : decode b_M_bitsAt 4 = .ok (.istore 5, 2) := by decide +kernel
theorem d_M_bitsAt_6 : decode b_M_bitsAt 6 = .ok (.iload 5, 2) := by decide +kernel
theorem d_M_bitsAt_8 : decode b_M_bitsAt 8 = .ok (.iload_n 3, 1) := by decide +kernel
theorem d_M_bitsAt_9 : decode b_M_bitsAt 9 = .ok (.if_icmp .ge 41, 3) := by decide +kernel
theorem d_M_bitsAt_12 : decode b_M_bitsAt 12 = .ok (.iload 4, 2) := by decide +kernel
theorem d_M_bitsAt_14 : decode b_M_bitsAt 14 = .ok (.aload_n 0, 1) := by decide +kernel
theorem d_M_bitsAt_15 : decode b_M_bitsAt 15 = .ok (.getfield 19, 3) := by decide +kernel
theorem d_M_bitsAt_18 : decode b_M_bitsAt 18 = .ok (.iload_n 1, 1) := by decide +kernel
theorem d_M_bitsAt_19 : decode b_M_bitsAt 19 = .ok (.iload_n 2, 1) := by decide +kernel
theorem d_M_bitsAt_20 : decode b_M_bitsAt 20 = .ok (.iload 5, 2) := by decide +kernel
theorem d_M_bitsAt_22 : decode b_M_bitsAt 22 = .ok (.iadd, 1) := by decide +kernel
theorem d_M_bitsAt_23 : decode b_M_bitsAt 23 = .ok (.bipush 8, 2) := by decide +kernel
theorem d_M_bitsAt_25 : decode b_M_bitsAt 25 = .ok (.idiv, 1) := by decide +kernel
theorem d_M_bitsAt_26 : decode b_M_bitsAt 26 = .ok (.iadd, 1) := by decide +kernel
theorem d_M_bitsAt_27 : decode b_M_bitsAt 27 = .ok (.iaload, 1) := by decide +kernel
theorem d_M_bitsAt_28 : decode b_M_bitsAt 28 = .ok (.iload_n 2, 1) := by decide +kernel
theorem d_M_bitsAt_29 : decode b_M_bitsAt 29 = .ok (.iload 5, 2) := by decide +kernel
theorem d_M_bitsAt_31 : decode b_M_bitsAt 31 = .ok (.iadd, 1) := by decide +kernel
theorem d_M_bitsAt_32 : decode b_M_bitsAt 32 = .ok (.bipush 8, 2) := by decide +kernel
theorem d_M_bitsAt_34 : decode b_M_bitsAt 34 = .ok (.irem, 1) := by decide +kernel
theorem d_M_bitsAt_35 : decode b_M_bitsAt 35 = .ok (.ishr, 1) := by decide +kernel
theorem d_M_bitsAt_36 : decode b_M_bitsAt 36 = .ok (.iconst 1, 1) := by decide +kernel
theorem d_M_bitsAt_37 : decode b_M_bitsAt 37 = .ok (.iand, 1) := by decide +kernel
theorem d_M_bitsAt_38 : decode b_M_bitsAt 38 = .ok (.iload 5, 2) := by decide +kernel
theorem d_M_bitsAt_40 : decode b_M_bitsAt 40 = .ok (.ishl, 1) := by decide +kernel
theorem d_M_bitsAt_41 : decode b_M_bitsAt 41 = .ok (.ior, 1) := by decide +kernel
theorem d_M_bitsAt_42 : decode b_M_bitsAt 42 = .ok (.istore 4, 2) := by decide +kernel
theorem d_M_bitsAt_44 : decode b_M_bitsAt 44 = .ok (.iinc 5 1, 3) := by decide +kernel
theorem d_M_bitsAt_47 : decode b_M_bitsAt 47 = .ok (.goto (-41), 3) := by decide +kernel
theorem d_M_bitsAt_50 : decode b_M_bitsAt 50 = .ok (.iload 4, 2) := by decide +kernel
theorem d_M_bitsAt_52 : decode b_M_bitsAt 52 = .ok (.ireturn, 1) := by decide +kernel
theorem d_M_readGroups_0 : decode b_M_readGroups 0 = .ok (.lload 6, 2) := by decide +kernel
theorem d_M_readGroups_2 : decode b_M_readGroups 2 = .ok (.iload_n 3, 1) := by decide +kernel
theorem d_M_readGroups_3 : decode b_M_readGroups 3 = .ok (.iload_n 2, 1) := by decide +kernel
theorem d_M_readGroups_4 : decode b_M_readGroups 4 = .ok (.isub, 1) := by decide +kernel
theorem d_M_readGroups_5 : decode b_M_readGroups 5 = .ok (.bipush 7, 2) := by decide +kernel
theorem d_M_readGroups_7 : decode b_M_readGroups 7 = .ok (.iadd, 1) := by decide +kernel
theorem d_M_readGroups_8 : decode b_M_readGroups 8 = .ok (.bipush 8, 2) := by decide +kernel
theorem d_M_readGroups_10 : decode b_M_readGroups 10 = .ok (.idiv, 1) := by decide +kernel
theorem d_M_readGroups_11 : decode b_M_readGroups 11 = .ok (.i2l, 1) := by decide +kernel
theorem d_M_readGroups_12 : decode b_M_readGroups 12 = .ok (.lcmp, 1) := by decide +kernel
theorem d_M_readGroups_13 : decode b_M_readGroups 13 = .ok (.ifCond .le 11, 3) := by decide +kernel
theorem d_M_readGroups_16 : decode b_M_readGroups 16 = .ok (.aload_n 0, 1) := by decide +kernel
theorem d_M_readGroups_17 : decode b_M_readGroups 17 = .ok (.iconst 4, 1) := by decide +kernel
theorem d_M_readGroups_18 : decode b_M_readGroups 18 = .ok (.putfield 32, 3) := by decide +kernel
theorem d_M_readGroups_21 : decode b_M_readGroups 21 = .ok (.goto 26, 3) := by decide +kernel
theorem d_M_readGroups_24 : decode b_M_readGroups 24 = .ok (.iload 5, 2) := by decide +kernel
theorem d_M_readGroups_26 : decode b_M_readGroups 26 = .ok (.aload_n 0, 1) := by decide +kernel
theorem d_M_readGroups_27 : decode b_M_readGroups 27 = .ok (.getfield 35, 3) := by decide +kernel
theorem d_M_readGroups_30 : decode b_M_readGroups 30 = .ok (.isub, 1) := by decide +kernel
theorem d_M_readGroups_31 : decode b_M_readGroups 31 = .ok (.i2l, 1) := by decide +kernel
theorem d_M_readGroups_32 : decode b_M_readGroups 32 = .ok (.lload 6, 2) := by decide +kernel
theorem d_M_readGroups_34 : decode b_M_readGroups 34 = .ok (.iload 4, 2) := by decide +kernel
theorem d_M_readGroups_36 : decode b_M_readGroups 36 = .ok (.i2l, 1) := by decide +kernel
theorem d_M_readGroups_37 : decode b_M_readGroups 37 = .ok (.lmul, 1) := by decide +kernel
theorem d_M_readGroups_38 : decode b_M_readGroups 38 = .ok (.lcmp, 1) := by decide +kernel
theorem d_M_readGroups_39 : decode b_M_readGroups 39 = .ok (.ifCond .ge 8, 3) := by decide +kernel
theorem d_M_readGroups_42 : decode b_M_readGroups 42 = .ok (.aload_n 0, 1) := by decide +kernel
theorem d_M_readGroups_43 : decode b_M_readGroups 43 = .ok (.iconst 1, 1) := by decide +kernel
theorem d_M_readGroups_44 : decode b_M_readGroups 44 = .ok (.putfield 32, 3) := by decide +kernel
theorem d_M_readGroups_47 : decode b_M_readGroups 47 = .ok (.aload_n 0, 1) := by decide +kernel
theorem d_M_readGroups_48 : decode b_M_readGroups 48 = .ok (.getfield 32, 3) := by decide +kernel
theorem d_M_readGroups_51 : decode b_M_readGroups 51 = .ok (.ifCond .eq 5, 3) := by decide +kernel
theorem d_M_readGroups_54 : decode b_M_readGroups 54 = .ok (.iload_n 2, 1) := by decide +kernel
theorem d_M_readGroups_55 : decode b_M_readGroups 55 = .ok (.ireturn, 1) := by decide +kernel
theorem d_M_readGroups_56 : decode b_M_readGroups 56 = .ok (.iconst 0, 1) := by decide +kernel
theorem d_M_readGroups_57 : decode b_M_readGroups 57 = .ok (.istore 8, 2) := by decide +kernel
theorem d_M_readGroups_59 : decode b_M_readGroups 59 = .ok (.iload 8, 2) := by decide +kernel
theorem d_M_readGroups_61 : decode b_M_readGroups 61 = .ok (.i2l, 1) := by decide +kernel
theorem d_M_readGroups_62 : decode b_M_readGroups 62 = .ok (.ldc2_w 81, 3) := by decide +kernel
theorem d_M_readGroups_65 : decode b_M_readGroups 65 = .ok (.lload 6, 2) := by decide +kernel
theorem d_M_readGroups_67 : decode b_M_readGroups 67 = .ok (.lmul, 1) := by decide +kernel
theorem d_M_readGroups_68 : decode b_M_readGroups 68 = .ok (.lcmp, 1) := by decide +kernel
theorem d_M_readGroups_69 : decode b_M_readGroups 69 = .ok (.ifCond .ge 55, 3) := by decide +kernel
theorem d_M_readGroups_72 : decode b_M_readGroups 72 = .ok (.aload_n 0, 1) := by decide +kernel
theorem d_M_readGroups_73 : decode b_M_readGroups 73 = .ok (.aload_n 0, 1) := by decide +kernel
theorem d_M_readGroups_74 : decode b_M_readGroups 74 = .ok (.getfield 35, 3) := by decide +kernel
theorem d_M_readGroups_77 : decode b_M_readGroups 77 = .ok (.iload 4, 2) := by decide +kernel
theorem d_M_readGroups_79 : decode b_M_readGroups 79 = .ok (.iload 8, 2) := by decide +kernel
theorem d_M_readGroups_81 : decode b_M_readGroups 81 = .ok (.imul, 1) := by decide +kernel
theorem d_M_readGroups_82 : decode b_M_readGroups 82 = .ok (.iload 4, 2) := by decide +kernel
theorem d_M_readGroups_84 : decode b_M_readGroups 84 = .ok (.invokevirtual 77, 3) := by decide +kernel
theorem d_M_readGroups_87 : decode b_M_readGroups 87 = .ok (.istore 9, 2) := by decide +kernel
theorem d_M_readGroups_89 : decode b_M_readGroups 89 = .ok (.iload_n 2, 1) := by decide +kernel
theorem d_M_readGroups_90 : decode b_M_readGroups 90 = .ok (.iload 8, 2) := by decide +kernel
theorem d_M_readGroups_92 : decode b_M_readGroups 92 = .ok (.iadd, 1) := by decide +kernel
theorem d_M_readGroups_93 : decode b_M_readGroups 93 = .ok (.iload_n 3, 1) := by decide +kernel
theorem d_M_readGroups_94 : decode b_M_readGroups 94 = .ok (.if_icmp .ge 14, 3) := by decide +kernel
theorem d_M_readGroups_97 : decode b_M_readGroups 97 = .ok (.aload_n 1, 1) := by decide +kernel
theorem d_M_readGroups_98 : decode b_M_readGroups 98 = .ok (.iload_n 2, 1) := by decide +kernel
theorem d_M_readGroups_99 : decode b_M_readGroups 99 = .ok (.iload 8, 2) := by decide +kernel
theorem d_M_readGroups_101 : decode b_M_readGroups 101 = .ok (.iadd, 1) := by decide +kernel
theorem d_M_readGroups_102 : decode b_M_readGroups 102 = .ok (.iload 9, 2) := by decide +kernel
theorem d_M_readGroups_104 : decode b_M_readGroups 104 = .ok (.iastore, 1) := by decide +kernel
theorem d_M_readGroups_105 : decode b_M_readGroups 105 = .ok (.goto 13, 3) := by decide +kernel
theorem d_M_readGroups_108 : decode b_M_readGroups 108 = .ok (.iload 9, 2) := by decide +kernel
theorem d_M_readGroups_110 : decode b_M_readGroups 110 = .ok (.ifCond .eq 8, 3) := by decide +kernel
theorem d_M_readGroups_113 : decode b_M_readGroups 113 = .ok (.aload_n 0, 1) := by decide +kernel
theorem d_M_readGroups_114 : decode b_M_readGroups 114 = .ok (.iconst 5, 1) := by decide +kernel
theorem d_M_readGroups_115 : decode b_M_readGroups 115 = .ok (.putfield 32, 3) := by decide +kernel
theorem d_M_readGroups_118 : decode b_M_readGroups 118 = .ok (.iinc 8 1, 3) := by decide +kernel
theorem d_M_readGroups_121 : decode b_M_readGroups 121 = .ok (.goto (-62), 3) := by decide +kernel
theorem d_M_readGroups_124 : decode b_M_readGroups 124 = .ok (.aload_n 0, 1) := by decide +kernel
theorem d_M_readGroups_125 : decode b_M_readGroups 125 = .ok (.dup, 1) := by decide +kernel
theorem d_M_readGroups_126 : decode b_M_readGroups 126 = .ok (.getfield 35, 3) := by decide +kernel
theorem d_M_readGroups_129 : decode b_M_readGroups 129 = .ok (.lload 6, 2) := by decide +kernel
theorem d_M_readGroups_131 : decode b_M_readGroups 131 = .ok (.l2i, 1) := by decide +kernel
theorem d_M_readGroups_132 : decode b_M_readGroups 132 = .ok (.iload 4, 2) := by decide +kernel
theorem d_M_readGroups_134 : decode b_M_readGroups 134 = .ok (.imul, 1) := by decide +kernel
theorem d_M_readGroups_135 : decode b_M_readGroups 135 = .ok (.iadd, 1) := by decide +kernel
theorem d_M_readGroups_136 : decode b_M_readGroups 136 = .ok (.putfield 35, 3) := by decide +kernel
theorem d_M_readGroups_139 : decode b_M_readGroups 139 = .ok (.iload_n 2, 1) := by decide +kernel
theorem d_M_readGroups_140 : decode b_M_readGroups 140 = .ok (.bipush 8, 2) := by decide +kernel
theorem d_M_readGroups_142 : decode b_M_readGroups 142 = .ok (.lload 6, 2) := by decide +kernel
theorem d_M_readGroups_144 : decode b_M_readGroups 144 = .ok (.l2i, 1) := by decide +kernel
theorem d_M_readGroups_145 : decode b_M_readGroups 145 = .ok (.imul, 1) := by decide +kernel
theorem d_M_readGroups_146 : decode b_M_readGroups 146 = .ok (.iadd, 1) := by decide +kernel
theorem d_M_readGroups_147 : decode b_M_readGroups 147 = .ok (.ireturn, 1) := by decide +kernel
theorem d_M_turn_0 : decode b_M_turn 0 = .ok (.aload_n 0, 1) := by decide +kernel
theorem d_M_turn_1 : decode b_M_turn 1 = .ok (.iconst 0, 1) := by decide +kernel
theorem d_M_turn_2 : decode b_M_turn 2 = .ok (.putfield 25, 3) := by decide +kernel
theorem d_M_turn_5 : decode b_M_turn 5 = .ok (.aload_n 0, 1) := by decide +kernel
theorem d_M_turn_6 : decode b_M_turn 6 = .ok (.getfield 29, 3) := by decide +kernel
theorem d_M_turn_9 : decode b_M_turn 9 = .ok (.sipush 8192, 3) := by decide +kernel
theorem d_M_turn_12 : decode b_M_turn 12 = .ok (.if_icmp .le 5, 3) := by decide +kernel
theorem d_M_turn_15 : decode b_M_turn 15 = .ok (.iconst 0, 1) := by decide +kernel
theorem d_M_turn_16 : decode b_M_turn 16 = .ok (.ireturn, 1) := by decide +kernel
theorem d_M_turn_17 : decode b_M_turn 17 = .ok (.iconst 0, 1) := by decide +kernel
theorem d_M_turn_18 : decode b_M_turn 18 = .ok (.istore_n 1, 1) := by decide +kernel
theorem d_M_turn_19 : decode b_M_turn 19 = .ok (.iload_n 1, 1) := by decide +kernel
theorem d_M_turn_20 : decode b_M_turn 20 = .ok (.aload_n 0, 1) := by decide +kernel
theorem d_M_turn_21 : decode b_M_turn 21 = .ok (.getfield 29, 3) := by decide +kernel
theorem d_M_turn_24 : decode b_M_turn 24 = .ok (.if_icmp .ge 21, 3) := by decide +kernel
theorem d_M_turn_27 : decode b_M_turn 27 = .ok (.aload_n 0, 1) := by decide +kernel
theorem d_M_turn_28 : decode b_M_turn 28 = .ok (.getfield 19, 3) := by decide +kernel
theorem d_M_turn_31 : decode b_M_turn 31 = .ok (.iload_n 1, 1) := by decide +kernel
theorem d_M_turn_32 : decode b_M_turn 32 = .ok (.aload_n 0, 1) := by decide +kernel
theorem d_M_turn_33 : decode b_M_turn 33 = .ok (.getfield 22, 3) := by decide +kernel
theorem d_M_turn_36 : decode b_M_turn 36 = .ok (.iload_n 1, 1) := by decide +kernel
theorem d_M_turn_37 : decode b_M_turn 37 = .ok (.iaload, 1) := by decide +kernel
theorem d_M_turn_38 : decode b_M_turn 38 = .ok (.iastore, 1) := by decide +kernel
theorem d_M_turn_39 : decode b_M_turn 39 = .ok (.iinc 1 1, 3) := by decide +kernel
theorem d_M_turn_42 : decode b_M_turn 42 = .ok (.goto (-23), 3) := by decide +kernel
theorem d_M_turn_45 : decode b_M_turn 45 = .ok (.aload_n 0, 1) := by decide +kernel
theorem d_M_turn_46 : decode b_M_turn 46 = .ok (.aload_n 0, 1) := by decide +kernel
theorem d_M_turn_47 : decode b_M_turn 47 = .ok (.getfield 29, 3) := by decide +kernel
theorem d_M_turn_50 : decode b_M_turn 50 = .ok (.putfield 47, 3) := by decide +kernel
theorem d_M_turn_53 : decode b_M_turn 53 = .ok (.iconst 1, 1) := by decide +kernel
theorem d_M_turn_54 : decode b_M_turn 54 = .ok (.ireturn, 1) := by decide +kernel
theorem d_M_size_0 : decode b_M_size 0 = .ok (.aload_n 0, 1) := by decide +kernel
theorem d_M_size_1 : decode b_M_size 1 = .ok (.iconst 0, 1) := by decide +kernel
theorem d_M_size_2 : decode b_M_size 2 = .ok (.putfield 25, 3) := by decide +kernel
theorem d_M_size_5 : decode b_M_size 5 = .ok (.aload_n 0, 1) := by decide +kernel
theorem d_M_size_6 : decode b_M_size 6 = .ok (.getfield 53, 3) := by decide +kernel
theorem d_M_size_9 : decode b_M_size 9 = .ok (.ireturn, 1) := by decide +kernel
theorem d_M_value_0 : decode b_M_value 0 = .ok (.aload_n 0, 1) := by decide +kernel
theorem d_M_value_1 : decode b_M_value 1 = .ok (.iconst 0, 1) := by decide +kernel
theorem d_M_value_2 : decode b_M_value 2 = .ok (.putfield 25, 3) := by decide +kernel
theorem d_M_value_5 : decode b_M_value 5 = .ok (.iload_n 1, 1) := by decide +kernel
theorem d_M_value_6 : decode b_M_value 6 = .ok (.ifCond .lt 11, 3) := by decide +kernel
theorem d_M_value_9 : decode b_M_value 9 = .ok (.iload_n 1, 1) := by decide +kernel
theorem d_M_value_10 : decode b_M_value 10 = .ok (.aload_n 0, 1) := by decide +kernel
theorem d_M_value_11 : decode b_M_value 11 = .ok (.getfield 53, 3) := by decide +kernel
theorem d_M_value_14 : decode b_M_value 14 = .ok (.if_icmp .lt 7, 3) := by decide +kernel
theorem d_M_value_17 : decode b_M_value 17 = .ok (.iconst 0, 1) := by decide +kernel
theorem d_M_value_18 : decode b_M_value 18 = .ok (.goto 9, 3) := by decide +kernel
theorem d_M_value_21 : decode b_M_value 21 = .ok (.aload_n 0, 1) := by decide +kernel
theorem d_M_value_22 : decode b_M_value 22 = .ok (.getfield 7, 3) := by decide +kernel
theorem d_M_value_25 : decode b_M_value 25 = .ok (.iload_n 1, 1) := by decide +kernel
theorem d_M_value_26 : decode b_M_value 26 = .ok (.iaload, 1) := by decide +kernel
theorem d_M_value_27 : decode b_M_value 27 = .ok (.ireturn, 1) := by decide +kernel
theorem d_M_output_0 : decode b_M_output 0 = .ok (.aload_n 0, 1) := by decide +kernel
theorem d_M_output_1 : decode b_M_output 1 = .ok (.iconst 0, 1) := by decide +kernel
theorem d_M_output_2 : decode b_M_output 2 = .ok (.putfield 25, 3) := by decide +kernel
theorem d_M_output_5 : decode b_M_output 5 = .ok (.iload_n 1, 1) := by decide +kernel
theorem d_M_output_6 : decode b_M_output 6 = .ok (.ifCond .lt 11, 3) := by decide +kernel
theorem d_M_output_9 : decode b_M_output 9 = .ok (.iload_n 1, 1) := by decide +kernel
theorem d_M_output_10 : decode b_M_output 10 = .ok (.aload_n 0, 1) := by decide +kernel
theorem d_M_output_11 : decode b_M_output 11 = .ok (.getfield 29, 3) := by decide +kernel
theorem d_M_output_14 : decode b_M_output 14 = .ok (.if_icmp .lt 7, 3) := by decide +kernel
theorem d_M_output_17 : decode b_M_output 17 = .ok (.iconst (-1), 1) := by decide +kernel
theorem d_M_output_18 : decode b_M_output 18 = .ok (.goto 9, 3) := by decide +kernel
theorem d_M_output_21 : decode b_M_output 21 = .ok (.aload_n 0, 1) := by decide +kernel
theorem d_M_output_22 : decode b_M_output 22 = .ok (.getfield 22, 3) := by decide +kernel
theorem d_M_output_25 : decode b_M_output 25 = .ok (.iload_n 1, 1) := by decide +kernel
theorem d_M_output_26 : decode b_M_output 26 = .ok (.iaload, 1) := by decide +kernel
theorem d_M_output_27 : decode b_M_output 27 = .ok (.ireturn, 1) := by decide +kernel
theorem d_law_0 : decode code 0 = .ok (.new 7, 3) := by decide +kernel
theorem d_law_3 : decode code 3 = .ok (.dup, 1) := by decide +kernel
theorem d_law_4 : decode code 4 = .ok (.invokespecial 9, 3) := by decide +kernel
theorem d_law_7 : decode code 7 = .ok (.astore_n 1, 1) := by decide +kernel
theorem d_law_8 : decode code 8 = .ok (.new 10, 3) := by decide +kernel
theorem d_law_11 : decode code 11 = .ok (.dup, 1) := by decide +kernel
theorem d_law_12 : decode code 12 = .ok (.invokespecial 12, 3) := by decide +kernel
theorem d_law_15 : decode code 15 = .ok (.astore_n 2, 1) := by decide +kernel
theorem d_law_16 : decode code 16 = .ok (.iconst 0, 1) := by decide +kernel
theorem d_law_17 : decode code 17 = .ok (.istore_n 3, 1) := by decide +kernel
theorem d_law_18 : decode code 18 = .ok (.iload_n 3, 1) := by decide +kernel
theorem d_law_19 : decode code 19 = .ok (.aload_n 0, 1) := by decide +kernel
theorem d_law_20 : decode code 20 = .ok (.arraylength, 1) := by decide +kernel
theorem d_law_21 : decode code 21 = .ok (.bipush 6, 2) := by decide +kernel
theorem d_law_23 : decode code 23 = .ok (.isub, 1) := by decide +kernel
theorem d_law_24 : decode code 24 = .ok (.if_icmp .gt 335, 3) := by decide +kernel
theorem d_law_27 : decode code 27 = .ok (.aload_n 0, 1) := by decide +kernel
theorem d_law_28 : decode code 28 = .ok (.iload_n 3, 1) := by decide +kernel
theorem d_law_29 : decode code 29 = .ok (.iaload, 1) := by decide +kernel
theorem d_law_30 : decode code 30 = .ok (.bipush 15, 2) := by decide +kernel
theorem d_law_32 : decode code 32 = .ok (.iand, 1) := by decide +kernel
theorem d_law_33 : decode code 33 = .ok (.tableswitch 320 0 10 #[59, 122, 145, 168, 201, 212, 225, 248, 261, 274, 297], 59) := by decide +kernel
theorem d_law_92 : decode code 92 = .ok (.aload_n 1, 1) := by decide +kernel
theorem d_law_93 : decode code 93 = .ok (.aload_n 0, 1) := by decide +kernel
theorem d_law_94 : decode code 94 = .ok (.iload_n 3, 1) := by decide +kernel
theorem d_law_95 : decode code 95 = .ok (.iconst 1, 1) := by decide +kernel
theorem d_law_96 : decode code 96 = .ok (.iadd, 1) := by decide +kernel
theorem d_law_97 : decode code 97 = .ok (.iaload, 1) := by decide +kernel
theorem d_law_98 : decode code 98 = .ok (.aload_n 0, 1) := by decide +kernel
theorem d_law_99 : decode code 99 = .ok (.iload_n 3, 1) := by decide +kernel
theorem d_law_100 : decode code 100 = .ok (.iconst 2, 1) := by decide +kernel
theorem d_law_101 : decode code 101 = .ok (.iadd, 1) := by decide +kernel
theorem d_law_102 : decode code 102 = .ok (.iaload, 1) := by decide +kernel
theorem d_law_103 : decode code 103 = .ok (.aload_n 0, 1) := by decide +kernel
theorem d_law_104 : decode code 104 = .ok (.iload_n 3, 1) := by decide +kernel
theorem d_law_105 : decode code 105 = .ok (.iconst 3, 1) := by decide +kernel
theorem d_law_106 : decode code 106 = .ok (.iadd, 1) := by decide +kernel
theorem d_law_107 : decode code 107 = .ok (.iaload, 1) := by decide +kernel
theorem d_law_108 : decode code 108 = .ok (.aload_n 0, 1) := by decide +kernel
theorem d_law_109 : decode code 109 = .ok (.iload_n 3, 1) := by decide +kernel
theorem d_law_110 : decode code 110 = .ok (.iconst 4, 1) := by decide +kernel
theorem d_law_111 : decode code 111 = .ok (.iadd, 1) := by decide +kernel
theorem d_law_112 : decode code 112 = .ok (.iaload, 1) := by decide +kernel
theorem d_law_113 : decode code 113 = .ok (.aload_n 0, 1) := by decide +kernel
theorem d_law_114 : decode code 114 = .ok (.iload_n 3, 1) := by decide +kernel
theorem d_law_115 : decode code 115 = .ok (.iconst 5, 1) := by decide +kernel
theorem d_law_116 : decode code 116 = .ok (.iadd, 1) := by decide +kernel
theorem d_law_117 : decode code 117 = .ok (.iaload, 1) := by decide +kernel
theorem d_law_118 : decode code 118 = .ok (.invokevirtual 13, 3) := by decide +kernel
theorem d_law_121 : decode code 121 = .ok (.aload_n 2, 1) := by decide +kernel
theorem d_law_122 : decode code 122 = .ok (.aload_n 0, 1) := by decide +kernel
theorem d_law_123 : decode code 123 = .ok (.iload_n 3, 1) := by decide +kernel
theorem d_law_124 : decode code 124 = .ok (.iconst 1, 1) := by decide +kernel
theorem d_law_125 : decode code 125 = .ok (.iadd, 1) := by decide +kernel
theorem d_law_126 : decode code 126 = .ok (.iaload, 1) := by decide +kernel
theorem d_law_127 : decode code 127 = .ok (.aload_n 0, 1) := by decide +kernel
theorem d_law_128 : decode code 128 = .ok (.iload_n 3, 1) := by decide +kernel
theorem d_law_129 : decode code 129 = .ok (.iconst 2, 1) := by decide +kernel
theorem d_law_130 : decode code 130 = .ok (.iadd, 1) := by decide +kernel
theorem d_law_131 : decode code 131 = .ok (.iaload, 1) := by decide +kernel
theorem d_law_132 : decode code 132 = .ok (.aload_n 0, 1) := by decide +kernel
theorem d_law_133 : decode code 133 = .ok (.iload_n 3, 1) := by decide +kernel
theorem d_law_134 : decode code 134 = .ok (.iconst 3, 1) := by decide +kernel
theorem d_law_135 : decode code 135 = .ok (.iadd, 1) := by decide +kernel
theorem d_law_136 : decode code 136 = .ok (.iaload, 1) := by decide +kernel
theorem d_law_137 : decode code 137 = .ok (.aload_n 0, 1) := by decide +kernel
theorem d_law_138 : decode code 138 = .ok (.iload_n 3, 1) := by decide +kernel
theorem d_law_139 : decode code 139 = .ok (.iconst 4, 1) := by decide +kernel
theorem d_law_140 : decode code 140 = .ok (.iadd, 1) := by decide +kernel
theorem d_law_141 : decode code 141 = .ok (.iaload, 1) := by decide +kernel
theorem d_law_142 : decode code 142 = .ok (.aload_n 0, 1) := by decide +kernel
theorem d_law_143 : decode code 143 = .ok (.iload_n 3, 1) := by decide +kernel
theorem d_law_144 : decode code 144 = .ok (.iconst 5, 1) := by decide +kernel
theorem d_law_145 : decode code 145 = .ok (.iadd, 1) := by decide +kernel
theorem d_law_146 : decode code 146 = .ok (.iaload, 1) := by decide +kernel
theorem d_law_147 : decode code 147 = .ok (.invokevirtual 17, 3) := by decide +kernel
theorem d_law_150 : decode code 150 = .ok (.if_icmp .eq 203, 3) := by decide +kernel
theorem d_law_153 : decode code 153 = .ok (.iconst 0, 1) := by decide +kernel
theorem d_law_154 : decode code 154 = .ok (.ireturn, 1) := by decide +kernel
theorem d_law_155 : decode code 155 = .ok (.aload_n 1, 1) := by decide +kernel
theorem d_law_156 : decode code 156 = .ok (.aload_n 0, 1) := by decide +kernel
theorem d_law_157 : decode code 157 = .ok (.iload_n 3, 1) := by decide +kernel
theorem d_law_158 : decode code 158 = .ok (.iconst 1, 1) := by decide +kernel
theorem d_law_159 : decode code 159 = .ok (.iadd, 1) := by decide +kernel
theorem d_law_160 : decode code 160 = .ok (.iaload, 1) := by decide +kernel
theorem d_law_161 : decode code 161 = .ok (.invokevirtual 18, 3) := by decide +kernel
theorem d_law_164 : decode code 164 = .ok (.aload_n 2, 1) := by decide +kernel
theorem d_law_165 : decode code 165 = .ok (.aload_n 0, 1) := by decide +kernel
theorem d_law_166 : decode code 166 = .ok (.iload_n 3, 1) := by decide +kernel
theorem d_law_167 : decode code 167 = .ok (.iconst 1, 1) := by decide +kernel
theorem d_law_168 : decode code 168 = .ok (.iadd, 1) := by decide +kernel
theorem d_law_169 : decode code 169 = .ok (.iaload, 1) := by decide +kernel
theorem d_law_170 : decode code 170 = .ok (.invokevirtual 22, 3) := by decide +kernel
theorem d_law_173 : decode code 173 = .ok (.if_icmp .eq 180, 3) := by decide +kernel
theorem d_law_176 : decode code 176 = .ok (.iconst 0, 1) := by decide +kernel
theorem d_law_177 : decode code 177 = .ok (.ireturn, 1) := by decide +kernel
theorem d_law_178 : decode code 178 = .ok (.aload_n 1, 1) := by decide +kernel
theorem d_law_179 : decode code 179 = .ok (.aload_n 0, 1) := by decide +kernel
theorem d_law_180 : decode code 180 = .ok (.iload_n 3, 1) := by decide +kernel
theorem d_law_181 : decode code 181 = .ok (.iconst 1, 1) := by decide +kernel
theorem d_law_182 : decode code 182 = .ok (.iadd, 1) := by decide +kernel
theorem d_law_183 : decode code 183 = .ok (.iaload, 1) := by decide +kernel
theorem d_law_184 : decode code 184 = .ok (.invokevirtual 23, 3) := by decide +kernel
theorem d_law_187 : decode code 187 = .ok (.aload_n 2, 1) := by decide +kernel
theorem d_law_188 : decode code 188 = .ok (.aload_n 0, 1) := by decide +kernel
theorem d_law_189 : decode code 189 = .ok (.iload_n 3, 1) := by decide +kernel
theorem d_law_190 : decode code 190 = .ok (.iconst 1, 1) := by decide +kernel
theorem d_law_191 : decode code 191 = .ok (.iadd, 1) := by decide +kernel
theorem d_law_192 : decode code 192 = .ok (.iaload, 1) := by decide +kernel
theorem d_law_193 : decode code 193 = .ok (.invokevirtual 26, 3) := by decide +kernel
theorem d_law_196 : decode code 196 = .ok (.if_icmp .eq 157, 3) := by decide +kernel
theorem d_law_199 : decode code 199 = .ok (.iconst 0, 1) := by decide +kernel
theorem d_law_200 : decode code 200 = .ok (.ireturn, 1) := by decide +kernel
theorem d_law_201 : decode code 201 = .ok (.aload_n 1, 1) := by decide +kernel
theorem d_law_202 : decode code 202 = .ok (.aload_n 0, 1) := by decide +kernel
theorem d_law_203 : decode code 203 = .ok (.iload_n 3, 1) := by decide +kernel
theorem d_law_204 : decode code 204 = .ok (.iconst 1, 1) := by decide +kernel
theorem d_law_205 : decode code 205 = .ok (.iadd, 1) := by decide +kernel
theorem d_law_206 : decode code 206 = .ok (.iaload, 1) := by decide +kernel
theorem d_law_207 : decode code 207 = .ok (.aload_n 0, 1) := by decide +kernel
theorem d_law_208 : decode code 208 = .ok (.iload_n 3, 1) := by decide +kernel
theorem d_law_209 : decode code 209 = .ok (.iconst 2, 1) := by decide +kernel
theorem d_law_210 : decode code 210 = .ok (.iadd, 1) := by decide +kernel
theorem d_law_211 : decode code 211 = .ok (.iaload, 1) := by decide +kernel
theorem d_law_212 : decode code 212 = .ok (.invokevirtual 27, 3) := by decide +kernel
theorem d_law_215 : decode code 215 = .ok (.aload_n 2, 1) := by decide +kernel
theorem d_law_216 : decode code 216 = .ok (.aload_n 0, 1) := by decide +kernel
theorem d_law_217 : decode code 217 = .ok (.iload_n 3, 1) := by decide +kernel
theorem d_law_218 : decode code 218 = .ok (.iconst 1, 1) := by decide +kernel
theorem d_law_219 : decode code 219 = .ok (.iadd, 1) := by decide +kernel
theorem d_law_220 : decode code 220 = .ok (.iaload, 1) := by decide +kernel
theorem d_law_221 : decode code 221 = .ok (.aload_n 0, 1) := by decide +kernel
theorem d_law_222 : decode code 222 = .ok (.iload_n 3, 1) := by decide +kernel
theorem d_law_223 : decode code 223 = .ok (.iconst 2, 1) := by decide +kernel
theorem d_law_224 : decode code 224 = .ok (.iadd, 1) := by decide +kernel
theorem d_law_225 : decode code 225 = .ok (.iaload, 1) := by decide +kernel
theorem d_law_226 : decode code 226 = .ok (.invokevirtual 31, 3) := by decide +kernel
theorem d_law_229 : decode code 229 = .ok (.if_icmp .eq 124, 3) := by decide +kernel
theorem d_law_232 : decode code 232 = .ok (.iconst 0, 1) := by decide +kernel
theorem d_law_233 : decode code 233 = .ok (.ireturn, 1) := by decide +kernel
theorem d_law_234 : decode code 234 = .ok (.aload_n 1, 1) := by decide +kernel
theorem d_law_235 : decode code 235 = .ok (.invokevirtual 32, 3) := by decide +kernel
theorem d_law_238 : decode code 238 = .ok (.aload_n 2, 1) := by decide +kernel
theorem d_law_239 : decode code 239 = .ok (.invokevirtual 35, 3) := by decide +kernel
theorem d_law_242 : decode code 242 = .ok (.goto 111, 3) := by decide +kernel
theorem d_law_245 : decode code 245 = .ok (.aload_n 1, 1) := by decide +kernel
theorem d_law_246 : decode code 246 = .ok (.invokevirtual 36, 3) := by decide +kernel
theorem d_law_249 : decode code 249 = .ok (.aload_n 2, 1) := by decide +kernel
theorem d_law_250 : decode code 250 = .ok (.invokevirtual 40, 3) := by decide +kernel
theorem d_law_253 : decode code 253 = .ok (.if_icmp .eq 100, 3) := by decide +kernel
theorem d_law_256 : decode code 256 = .ok (.iconst 0, 1) := by decide +kernel
theorem d_law_257 : decode code 257 = .ok (.ireturn, 1) := by decide +kernel
theorem d_law_258 : decode code 258 = .ok (.aload_n 1, 1) := by decide +kernel
theorem d_law_259 : decode code 259 = .ok (.aload_n 0, 1) := by decide +kernel
theorem d_law_260 : decode code 260 = .ok (.iload_n 3, 1) := by decide +kernel
theorem d_law_261 : decode code 261 = .ok (.iconst 1, 1) := by decide +kernel
theorem d_law_262 : decode code 262 = .ok (.iadd, 1) := by decide +kernel
theorem d_law_263 : decode code 263 = .ok (.iaload, 1) := by decide +kernel
theorem d_law_264 : decode code 264 = .ok (.invokevirtual 41, 3) := by decide +kernel
theorem d_law_267 : decode code 267 = .ok (.aload_n 2, 1) := by decide +kernel
theorem d_law_268 : decode code 268 = .ok (.aload_n 0, 1) := by decide +kernel
theorem d_law_269 : decode code 269 = .ok (.iload_n 3, 1) := by decide +kernel
theorem d_law_270 : decode code 270 = .ok (.iconst 1, 1) := by decide +kernel
theorem d_law_271 : decode code 271 = .ok (.iadd, 1) := by decide +kernel
theorem d_law_272 : decode code 272 = .ok (.iaload, 1) := by decide +kernel
theorem d_law_273 : decode code 273 = .ok (.invokevirtual 45, 3) := by decide +kernel
theorem d_law_276 : decode code 276 = .ok (.if_icmp .eq 77, 3) := by decide +kernel
theorem d_law_279 : decode code 279 = .ok (.iconst 0, 1) := by decide +kernel
theorem d_law_280 : decode code 280 = .ok (.ireturn, 1) := by decide +kernel
theorem d_law_281 : decode code 281 = .ok (.aload_n 1, 1) := by decide +kernel
theorem d_law_282 : decode code 282 = .ok (.invokevirtual 46, 3) := by decide +kernel
theorem d_law_285 : decode code 285 = .ok (.aload_n 2, 1) := by decide +kernel
theorem d_law_286 : decode code 286 = .ok (.invokevirtual 50, 3) := by decide +kernel
theorem d_law_289 : decode code 289 = .ok (.if_icmp .eq 64, 3) := by decide +kernel
theorem d_law_292 : decode code 292 = .ok (.iconst 0, 1) := by decide +kernel
theorem d_law_293 : decode code 293 = .ok (.ireturn, 1) := by decide +kernel
theorem d_law_294 : decode code 294 = .ok (.aload_n 1, 1) := by decide +kernel
theorem d_law_295 : decode code 295 = .ok (.invokevirtual 51, 3) := by decide +kernel
theorem d_law_298 : decode code 298 = .ok (.aload_n 2, 1) := by decide +kernel
theorem d_law_299 : decode code 299 = .ok (.invokevirtual 54, 3) := by decide +kernel
theorem d_law_302 : decode code 302 = .ok (.if_icmp .eq 51, 3) := by decide +kernel
theorem d_law_305 : decode code 305 = .ok (.iconst 0, 1) := by decide +kernel
theorem d_law_306 : decode code 306 = .ok (.ireturn, 1) := by decide +kernel
theorem d_law_307 : decode code 307 = .ok (.aload_n 1, 1) := by decide +kernel
theorem d_law_308 : decode code 308 = .ok (.aload_n 0, 1) := by decide +kernel
theorem d_law_309 : decode code 309 = .ok (.iload_n 3, 1) := by decide +kernel
theorem d_law_310 : decode code 310 = .ok (.iconst 1, 1) := by decide +kernel
theorem d_law_311 : decode code 311 = .ok (.iadd, 1) := by decide +kernel
theorem d_law_312 : decode code 312 = .ok (.iaload, 1) := by decide +kernel
theorem d_law_313 : decode code 313 = .ok (.invokevirtual 55, 3) := by decide +kernel
theorem d_law_316 : decode code 316 = .ok (.aload_n 2, 1) := by decide +kernel
theorem d_law_317 : decode code 317 = .ok (.aload_n 0, 1) := by decide +kernel
theorem d_law_318 : decode code 318 = .ok (.iload_n 3, 1) := by decide +kernel
theorem d_law_319 : decode code 319 = .ok (.iconst 1, 1) := by decide +kernel
theorem d_law_320 : decode code 320 = .ok (.iadd, 1) := by decide +kernel
theorem d_law_321 : decode code 321 = .ok (.iaload, 1) := by decide +kernel
theorem d_law_322 : decode code 322 = .ok (.invokevirtual 58, 3) := by decide +kernel
theorem d_law_325 : decode code 325 = .ok (.if_icmp .eq 28, 3) := by decide +kernel
theorem d_law_328 : decode code 328 = .ok (.iconst 0, 1) := by decide +kernel
theorem d_law_329 : decode code 329 = .ok (.ireturn, 1) := by decide +kernel
theorem d_law_330 : decode code 330 = .ok (.aload_n 1, 1) := by decide +kernel
theorem d_law_331 : decode code 331 = .ok (.aload_n 0, 1) := by decide +kernel
theorem d_law_332 : decode code 332 = .ok (.iload_n 3, 1) := by decide +kernel
theorem d_law_333 : decode code 333 = .ok (.iconst 1, 1) := by decide +kernel
theorem d_law_334 : decode code 334 = .ok (.iadd, 1) := by decide +kernel
theorem d_law_335 : decode code 335 = .ok (.iaload, 1) := by decide +kernel
theorem d_law_336 : decode code 336 = .ok (.invokevirtual 59, 3) := by decide +kernel
theorem d_law_339 : decode code 339 = .ok (.aload_n 2, 1) := by decide +kernel
theorem d_law_340 : decode code 340 = .ok (.aload_n 0, 1) := by decide +kernel
theorem d_law_341 : decode code 341 = .ok (.iload_n 3, 1) := by decide +kernel
theorem d_law_342 : decode code 342 = .ok (.iconst 1, 1) := by decide +kernel
theorem d_law_343 : decode code 343 = .ok (.iadd, 1) := by decide +kernel
theorem d_law_344 : decode code 344 = .ok (.iaload, 1) := by decide +kernel
theorem d_law_345 : decode code 345 = .ok (.invokevirtual 62, 3) := by decide +kernel
theorem d_law_348 : decode code 348 = .ok (.if_icmp .eq 5, 3) := by decide +kernel
theorem d_law_351 : decode code 351 = .ok (.iconst 0, 1) := by decide +kernel
theorem d_law_352 : decode code 352 = .ok (.ireturn, 1) := by decide +kernel
theorem d_law_353 : decode code 353 = .ok (.iinc 3 6, 3) := by decide +kernel
theorem d_law_356 : decode code 356 = .ok (.goto (-338), 3) := by decide +kernel
theorem d_law_359 : decode code 359 = .ok (.iconst 1, 1) := by decide +kernel
theorem d_law_360 : decode code 360 = .ok (.ireturn, 1) := by decide +kernel
end
section
/-! the frame: contexts, entry, return, calls, fields, arrays; all over the one list gw -/
theorem nst_warm {s U : State} (hW : s.WarmedH U.vm) (h : nst s) : nst U := by
  obtain ⟨h1, h2, h3, h4, h5, h6⟩ := h
  exact ⟨va_Nw.warmF hW h1, va_Nw.warmF hW h2, va_Nw.warmF hW h3, va_Nw.warmF hW h4, va_Nw.warmF hW h5, va_Nw.warmM hW h6⟩
theorem nst_same {s U : State} (hv : s.vm = U.vm) (h : nst s) : nst U := by
  obtain ⟨h1, h2, h3, h4, h5, h6⟩ := h
  exact ⟨va_Nw.same rfl hv h1, va_Nw.same rfl hv h2, va_Nw.same rfl hv h3, va_Nw.same rfl hv h4, va_Nw.same rfl hv h5, va_Nw.same rfl hv h6⟩
theorem nst_of {args : Array Value} {s : State} (h : ∀ w ∈ lw_tbl, w.before args s = true) : nst s :=
  ⟨va_Nw.of rfl (h _ nt_0), va_Nw.of rfl (h _ nt_1), va_Nw.of rfl (h _ nt_2), va_Nw.of rfl (h _ nt_3), va_Nw.of rfl (h _ nt_4), va_Nw.of rfl (h _ nt_5)⟩
/-- what is fixed of the classes and of the nest's words -/
def KK (D : va_G) (cI cB : ClassId) (U : State) : Prop := va_K D classes [(cI, .int), (cB, .byte)] U ∧ nst U
theorem KK.warm {D : va_G} {cI cB : ClassId} {s U : State} (hW : s.WarmedH U.vm) (h : KK D cI cB s) : KK D cI cB U := ⟨va_K.moved hW.alike h.1, nst_warm hW h.2⟩
theorem KK.calling {D : va_G} {cI cB : ClassId} {U : State} {g : JFrame} {mk : MethodId} {a : Array Value} (h : KK D cI cB U) : KK D cI cB (U.calling g mk a) := ⟨va_K.moved (u := U) (U := U.calling g mk a) (Vm.Alike.refl U.vm) h.1, nst_same rfl h.2⟩
/-- a method's context -/
def Cx (p : Program) (s : State) (m : MethodId) (args : Array Value) (meth : Method) (c : Code) (D : va_G) (cI cB : ClassId) (cc : ByteArray) (nL : Nat) (own : String) (ret : Option FieldType) (nm : String) : Prop :=
  p.tables.exec = Jvm.exec ∧ c.code = cc ∧ c.maxLocals = nL ∧ s.vm.findClass own = some m.cls ∧ (∀ w ∈ gw, w.before args s = true) ∧ KK D cI cB s ∧ meth.sig.returnType = ret ∧ meth.locks = false ∧ meth.name = nm
def PreW (D : va_G) (cI cB : ClassId) (av : List Value) (ws : va_W) (sz : Nat) : Array Value → State → Prop := va_Pc av (fun U => U.heap.size = sz ∧ va_P D classes ws U.heap ∧ KK D cI cB U ∧ va_D (fun _ => True) ws)
def BW (D : va_G) (A : Nat → Prop) (w1 : va_W) (t : State) : Prop := va_P D classes w1 t.heap ∧ va_D A w1
abbrev rmO (fr mc ms lo : Nat) : Room := { frames := fr, cells := mc, slots := ms, locals := lo }
/-- contracts: from the world ws, to a world w1 with post w1 -/
def Kv (l : Launch) (D : va_G) (cI cB : ClassId) (y : MethodName) (cc : ByteArray) (n fr lo mc ms : Nat) (av : List Value) (ws : va_W) (post : va_W → Prop) : Prop := ∀ sz : Nat, Met l y (wd y cc n none) (rmO fr mc ms lo) (PreW D cI cB av ws sz) (va_Qv post (BW D (va_A ws sz)) (va_A ws sz)) mc ms (va_A ws sz)
def Ki (l : Launch) (D : va_G) (cI cB : ClassId) (y : MethodName) (cc : ByteArray) (n fr lo mc ms : Nat) (rt : FieldType) (av : List Value) (ws : va_W) (post : Int32 → va_W → Prop) : Prop := ∀ sz : Nat, Met l y (wd y cc n (some rt)) (rmO fr mc ms lo) (PreW D cI cB av ws sz) (va_Qi post (BW D (va_A ws sz)) (va_A ws sz)) mc ms (va_A ws sz)
def Kl (l : Launch) (D : va_G) (cI cB : ClassId) (y : MethodName) (cc : ByteArray) (n fr lo mc ms : Nat) (av : List Value) (ws : va_W) (post : Int64 → va_W → Prop) : Prop := ∀ sz : Nat, Met l y (wd y cc n (some .long)) (rmO fr mc ms lo) (PreW D cI cB av ws sz) (va_Ql post (BW D (va_A ws sz)) (va_A ws sz)) mc ms (va_A ws sz)
theorem ent {l : Launch} {D : va_G} {cI cB : ClassId} {y : MethodName} {cc : ByteArray} {n mc ms : Nat} {ret : Option FieldType} {rm : Room} {av : List Value} {ws : va_W} (Qk : (Nat → Prop) → Array Value → State → Outcome → State → Prop) (hy : plainName y.cls = true) (hn : (lg_sl av).length ≤ n)
    (body : ∀ (p : Program) (e : Env) (s : State) (m : MethodId) (below : List Frame) (meth : Method) (c : Code) (A : Nat → Prop) (ls : Array Slot), Cx p s m av.toArray meth c D cI cB cc n y.cls ret y.name → (∀ q : Nat, s.heap.size ≤ q → A q) → va_P D classes ws s.heap → va_D A ws → va_S A s.heap s.heap [] → lv_has ls n (lv_args 0 av) →
      W p l e rm s m av.toArray below meth c s.heap [] 0 0 (MQ below (Qk A) av.toArray s mc ms A) (F0 m 0 ls [])) :
    ∀ sz : Nat, Met l y (wd y cc n ret) rm (PreW D cI cB av ws sz) (Qk (va_A ws sz)) mc ms (va_A ws sz) := by
  intro sz
  refine Met.ofW (cc := cc) (maxL := n) (ret := ret) hy rfl ?_
  intro p e s m args below meth c s₁ B hml hv
  obtain ⟨rfl, hsz, hP, hK, hD0⟩ := hv
  have hts := atoms_spec (ws := wd y cc n ret) B.pre
  subst hsz
  have hD := hD0.self (sz := s.heap.size)
  have hl := lv_entry av (n := n) hn
  rw [lg_entry_eq]
  exact body p e s m below meth c _ _ ⟨B.exec, B.bytes, hml, findClass_of_methodNamed B.named, fun w hw => hts w (List.mem_cons_of_mem _ hw), hK, B.returns, B.notSynchronized, (name_of_methodNamed B.named B.method).1⟩ (fun q h => Or.inr h) hP hD va_S.rf hl
section FR
variable {p : Program} {l : Launch} {e : Env} {R : Room} {s : State} {m : MethodId} {args : Array Value} {below : List Frame} {meth : Method} {c : Code} {H : Heap} {locs : List Loc} {cells slots : Nat} {Q : State → Prop}
variable {D : va_G} {cI cB : ClassId} {cc : ByteArray} {nL : Nat} {own : String} {ret : Option FieldType} {nm : String} {pc : Nat} {ls : Array Slot} {rest : List Value} {A : Nat → Prop} {ws : va_W} {mc ms : Nat}
theorem Cx.x (C : Cx p s m args meth c D cI cB cc nL own ret nm) : p.tables.exec = Jvm.exec := C.1
theorem Cx.b (C : Cx p s m args meth c D cI cB cc nL own ret nm) : c.code = cc := C.2.1
theorem Cx.ml (C : Cx p s m args meth c D cI cB cc nL own ret nm) : c.maxLocals = nL := C.2.2.1
theorem Cx.ow (C : Cx p s m args meth c D cI cB cc nL own ret nm) : s.vm.findClass own = some m.cls := C.2.2.2.1
theorem Cx.ts (C : Cx p s m args meth c D cI cB cc nL own ret nm) : ∀ w ∈ gw, w.before args s = true := C.2.2.2.2.1
theorem Cx.k (C : Cx p s m args meth c D cI cB cc nL own ret nm) : va_K D classes [(cI, .int), (cB, .byte)] s := C.2.2.2.2.2.1.1
theorem Cx.kk (C : Cx p s m args meth c D cI cB cc nL own ret nm) : KK D cI cB s := C.2.2.2.2.2.1
theorem Cx.ns (C : Cx p s m args meth c D cI cB cc nL own ret nm) : nst s := C.2.2.2.2.2.1.2
theorem Cx.r (C : Cx p s m args meth c D cI cB cc nL own ret nm) : meth.sig.returnType = ret := C.2.2.2.2.2.2.1
theorem Cx.lk (C : Cx p s m args meth c D cI cB cc nL own ret nm) : meth.locks = false := C.2.2.2.2.2.2.2.1
theorem Cx.mn (C : Cx p s m args meth c D cI cB cc nL own ret nm) : meth.name = nm := C.2.2.2.2.2.2.2.2
/-- a number gets another form -/
theorem ra_i {x y : Int32} (h : x = y) (k : W p l e R s m args below meth c H locs cells slots Q (F0 m pc ls (.int y :: rest))) : W p l e R s m args below meth c H locs cells slots Q (F0 m pc ls (.int x :: rest)) := h ▸ k
theorem ra_l {x y : Int64} (h : x = y) (k : W p l e R s m args below meth c H locs cells slots Q (F0 m pc ls (.long y :: rest))) : W p l e R s m args below meth c H locs cells slots Q (F0 m pc ls (.long x :: rest)) := h ▸ k
/-- ends -/
theorem retv {post : va_W → Prop} (C : Cx p s m args meth c D cI cB cc nL own none nm) (hP : va_P D classes ws H) (hD : va_D A ws) (hS : va_S A s.heap H locs) (hd : decode cc pc = .ok (.return_, 1)) (hc : cells ≤ mc) (hs : slots ≤ ms) (hp : post ws) :
    W p l e R s m args below meth c H locs cells slots (MQ below (va_Qv post (BW D A) A) args s mc ms A) (F0 m pc ls []) := by
  refine W.widen hc hs ?_
  have hlocks := C.lk
  exact W.vret C.x C.b C.r (fun t ht hW => ⟨⟨ws, rfl, hp, by rw [ht]; exact hP, hD⟩, hS.F ht⟩) hS.2.2 hd
theorem reti {post : Int32 → va_W → Prop} {rt : FieldType} {v : Int32} (C : Cx p s m args meth c D cI cB cc nL own (some rt) nm) (hP : va_P D classes ws H) (hD : va_D A ws) (hS : va_S A s.heap H locs) (hd : decode cc pc = .ok (.ireturn, 1)) (hn : narrow rt (.int v) = .int v) (hc : cells ≤ mc) (hs : slots ≤ ms) (hp : post v ws) :
    W p l e R s m args below meth c H locs cells slots (MQ below (va_Qi post (BW D A) A) args s mc ms A) (F0 m pc ls [.int v]) := by
  refine W.widen hc hs ?_
  have hlocks := C.lk
  exact W.zret C.x C.b C.r hn (fun t ht hW => ⟨⟨v, ws, rfl, hp, by rw [ht]; exact hP, hD⟩, hS.F ht⟩) hS.2.2 hd
theorem retl {post : Int64 → va_W → Prop} {v : Int64} (C : Cx p s m args meth c D cI cB cc nL own (some .long) nm) (hP : va_P D classes ws H) (hD : va_D A ws) (hS : va_S A s.heap H locs) (hd : decode cc pc = .ok (.lreturn, 1)) (hc : cells ≤ mc) (hs : slots ≤ ms) (hp : post v ws) :
    W p l e R s m args below meth c H locs cells slots (MQ below (va_Ql post (BW D A) A) args s mc ms A) (F0 m pc ls [.long v]) := by
  refine W.widen hc hs ?_
  have hlocks := C.lk
  exact W.lret C.x C.b C.r (fun t ht hW => ⟨⟨v, ws, rfl, hp, by rw [ht]; exact hP, hD⟩, hS.F ht⟩) hS.2.2 hd
/-- calls -/
theorem pre_blind {av : List Value} {wc : va_W} {sz : Nat} : FrameBlind (PreW D cI cB av wc sz) := fun a U g mk q => by
  obtain ⟨q0, q1, qP, qK, qD⟩ := q
  exact ⟨q0, q1, qP, qK.calling, qD⟩
theorem pre_ok {av : List Value} {wc : va_W} (hK : KK D cI cB s) (hP : va_P D classes wc H) (hD : va_D A wc) : ∀ U : State, U.heap = H → s.WarmedH U.vm → PreW D cI cB av wc H.size av.toArray U := fun U hU hW =>
  ⟨rfl, by rw [hU], by rw [hU]; exact hP, hK.warm hW, hD.weaken (fun _ _ _ _ => trivial)⟩
variable {y : MethodName} {b2 : ByteArray} {n2 fr lo mc2 ms2 na idx bb : Nat} {As st : List Value} {wc wr : va_W}
theorem sub_of (hP : va_P D classes ws H) {isC : List Nat} (hC : isC.map (fun i => ws[i]?) = wc.map some) : va_P D classes wc H := by
  intro k q hq
  have h1 : (isC.map (fun i => ws[i]?))[k]? = some (some q) := by rw [hC, List.getElem?_map, hq]; rfl
  rw [List.getElem?_map] at h1
  cases hi : isC[k]? with
  | none => rw [hi] at h1; cases h1
  | some i => rw [hi] at h1; exact hP i q (Option.some.inj h1)
theorem cwV_of {rt : Option FieldType} (C : Cx p s m args meth c D cI cB cc nL own ret nm) (hg : okV own idx y b2 n2 rt na) (hR : fr + 1 ≤ R.frames ∧ 8 + (n2 + 11) + lo ≤ R.locals) : CallW R s args own y.cls idx y b2 n2 rt (wd y b2 n2 rt) (rmO fr mc2 ms2 lo) mc2 ms2 na := by
  obtain ⟨h1, h2, h3, h4, h5, h6⟩ := hg
  exact ⟨callB_of na C.ts (wd_good h5) rfl rfl rfl (C.ts _ h4) (C.ts _ h1) h6 hR, C.ts _ h2, C.ts _ h3⟩
theorem cwS_of {rt : Option FieldType} (C : Cx p s m args meth c D cI cB cc nL own ret nm) (hg : okS own idx y b2 n2 rt na) (hR : fr + 1 ≤ R.frames ∧ 8 + (n2 + 11) + lo ≤ R.locals) : CallB R s args own idx y b2 n2 rt (wd y b2 n2 rt) (rmO fr mc2 ms2 lo) mc2 ms2 na ∧ (Cond.static y).before args s = true := by
  obtain ⟨h1, h2, h4, h5, h6⟩ := hg
  exact ⟨callB_of na C.ts (wd_good h5) rfl rfl rfl (C.ts _ h4) (C.ts _ h1) h6 hR, C.ts _ h2⟩
theorem cwI_of (C : Cx p s m args meth c D cI cB cc nL own ret nm) (hg : okI own idx y b2 n2 na) (hR : fr + 1 ≤ R.frames ∧ 8 + (n2 + 11) + lo ≤ R.locals) : CallB R s args own idx y b2 n2 none (wd y b2 n2 none) (rmO fr mc2 ms2 lo) mc2 ms2 na ∧ y.name = "<init>" ∧ (Cond.instanceMethod y).before args s = true := by
  obtain ⟨h1, h2, h4, h5, h7, h6⟩ := hg
  exact ⟨callB_of na C.ts (wd_good h5) rfl rfl rfl (C.ts _ h4) (C.ts _ h1) h6 hR, h7, C.ts _ h2⟩
theorem cvV {post : va_W → Prop} (C : Cx p s m args meth c D cI cB cc nL own ret nm) (hA : ∀ q : Nat, s.heap.size ≤ q → A q) (hP : va_P D classes ws H) (hD : va_D A ws) (hS : va_S A s.heap H locs) (hl : ls.size = nL) (hM : Kv l D cI cB y b2 n2 fr lo mc2 ms2 (.ref bb :: As) wc post) (hg : okV own idx y b2 n2 none na) (rest : List Value) (isC isR : List Nat) (ci q0 : Nat) {q : vw_C} {fs : List Value} (hc : classes[ci]? = some q) (hq : q.1 = y.cls) (he : wc[q0]? = some (bb, .inr (ci, fs)))
    (hC : isC.map (fun i => ws[i]?) = wc.map some) (hnC : va_nd isC = true) (hRw : isR.map (fun i => ws[i]?) = wr.map some) (hn : va_nd isR = true) (hdis : ∀ i ∈ isR, i ∉ isC) (hst : st = As.reverse ++ .ref bb :: rest) (hna : As.length = na) (hw8 : (rest.map fun v => v.category).sum ≤ 8) (hR : fr + 1 ≤ R.frames ∧ 8 + (n2 + 11) + lo ≤ R.locals) (hf : cells + mc2 ≤ R.cells ∧ slots + ms2 ≤ R.slots) (hd : decode cc pc = .ok (.invokevirtual idx, 3))
    (kk : ∀ (w1 : va_W) (H1 : Heap) (locs1 : List Loc), post w1 → va_P D classes (wr ++ w1) H1 → va_D A (wr ++ w1) → va_S A s.heap H1 locs1 → W p l e R s m args below meth c H1 locs1 (cells + mc2) (slots + ms2) Q (F0 m (pc + 3) ls (rest))) :
    W p l e R s m args below meth c H locs cells slots Q (F0 m pc ls st) := by
  subst hst
  have hPc := sub_of hP hC
  have hF := va_free hD hS hA isC hC
  have hDc := hD.sub isC hnC hC
  refine va_callv (va_runV (As := As) (rest := rest) ⟨C.x, C.b, C.ml, C.ow, C.ts⟩ (hM H.size) (cwV_of C hg hR) ⟨pre_blind, ?_, pre_ok C.kk hPc hDc⟩ rfl hna hl rfl (lv_room hw8) hd hf) hS (fun q _ h => hF q h) hF (fun u t H1 locs1 ht hvm hw hB hz1 hk1 hS1 => ?_)
  · obtain ⟨cell, g1, g2, g3⟩ := va_recv C.k hPc hc he
    exact ⟨cell, g1, g2, by rw [← hq]; exact g3⟩
  obtain ⟨hP1, hD1⟩ := hB
  rw [ht] at hP1
  obtain ⟨hP2, hD2⟩ := va_join hP hD isC isR hC hRw hn hdis hk1 hF hP1 hD1
  exact kk u H1 locs1 hw hP2 hD2 hS1
theorem ciV {post : Int32 → va_W → Prop} {rt : FieldType} (C : Cx p s m args meth c D cI cB cc nL own ret nm) (hA : ∀ q : Nat, s.heap.size ≤ q → A q) (hP : va_P D classes ws H) (hD : va_D A ws) (hS : va_S A s.heap H locs) (hl : ls.size = nL) (hM : Ki l D cI cB y b2 n2 fr lo mc2 ms2 rt (.ref bb :: As) wc post) (hg : okV own idx y b2 n2 (some rt) na) (rest : List Value) (isC isR : List Nat) (ci q0 : Nat) {q : vw_C} {fs : List Value} (hc : classes[ci]? = some q) (hq : q.1 = y.cls) (he : wc[q0]? = some (bb, .inr (ci, fs)))
    (hC : isC.map (fun i => ws[i]?) = wc.map some) (hnC : va_nd isC = true) (hRw : isR.map (fun i => ws[i]?) = wr.map some) (hn : va_nd isR = true) (hdis : ∀ i ∈ isR, i ∉ isC) (hst : st = As.reverse ++ .ref bb :: rest) (hna : As.length = na) (hw8 : (rest.map fun v => v.category).sum ≤ 8) (hR : fr + 1 ≤ R.frames ∧ 8 + (n2 + 11) + lo ≤ R.locals) (hf : cells + mc2 ≤ R.cells ∧ slots + ms2 ≤ R.slots) (hd : decode cc pc = .ok (.invokevirtual idx, 3))
    (kk : ∀ (r : Int32) (w1 : va_W) (H1 : Heap) (locs1 : List Loc), post r w1 → va_P D classes (wr ++ w1) H1 → va_D A (wr ++ w1) → va_S A s.heap H1 locs1 → W p l e R s m args below meth c H1 locs1 (cells + mc2) (slots + ms2) Q (F0 m (pc + 3) ls (.int r :: rest))) :
    W p l e R s m args below meth c H locs cells slots Q (F0 m pc ls st) := by
  subst hst
  have hPc := sub_of hP hC
  have hF := va_free hD hS hA isC hC
  have hDc := hD.sub isC hnC hC
  refine va_calli (va_runV (As := As) (rest := rest) ⟨C.x, C.b, C.ml, C.ow, C.ts⟩ (hM H.size) (cwV_of C hg hR) ⟨pre_blind, ?_, pre_ok C.kk hPc hDc⟩ rfl hna hl rfl (lv_room hw8) hd hf) hS (fun q _ h => hF q h) hF (fun r u t H1 locs1 ht hvm hw hB hz1 hk1 hS1 => ?_)
  · obtain ⟨cell, g1, g2, g3⟩ := va_recv C.k hPc hc he
    exact ⟨cell, g1, g2, by rw [← hq]; exact g3⟩
  obtain ⟨hP1, hD1⟩ := hB
  rw [ht] at hP1
  obtain ⟨hP2, hD2⟩ := va_join hP hD isC isR hC hRw hn hdis hk1 hF hP1 hD1
  exact kk r u H1 locs1 hw hP2 hD2 hS1
theorem clV {post : Int64 → va_W → Prop} (C : Cx p s m args meth c D cI cB cc nL own ret nm) (hA : ∀ q : Nat, s.heap.size ≤ q → A q) (hP : va_P D classes ws H) (hD : va_D A ws) (hS : va_S A s.heap H locs) (hl : ls.size = nL) (hM : Kl l D cI cB y b2 n2 fr lo mc2 ms2 (.ref bb :: As) wc post) (hg : okV own idx y b2 n2 (some .long) na) (rest : List Value) (isC isR : List Nat) (ci q0 : Nat) {q : vw_C} {fs : List Value} (hc : classes[ci]? = some q) (hq : q.1 = y.cls) (he : wc[q0]? = some (bb, .inr (ci, fs)))
    (hC : isC.map (fun i => ws[i]?) = wc.map some) (hnC : va_nd isC = true) (hRw : isR.map (fun i => ws[i]?) = wr.map some) (hn : va_nd isR = true) (hdis : ∀ i ∈ isR, i ∉ isC) (hst : st = As.reverse ++ .ref bb :: rest) (hna : As.length = na) (hw8 : (rest.map fun v => v.category).sum ≤ 8) (hR : fr + 1 ≤ R.frames ∧ 8 + (n2 + 11) + lo ≤ R.locals) (hf : cells + mc2 ≤ R.cells ∧ slots + ms2 ≤ R.slots) (hd : decode cc pc = .ok (.invokevirtual idx, 3))
    (kk : ∀ (r : Int64) (w1 : va_W) (H1 : Heap) (locs1 : List Loc), post r w1 → va_P D classes (wr ++ w1) H1 → va_D A (wr ++ w1) → va_S A s.heap H1 locs1 → W p l e R s m args below meth c H1 locs1 (cells + mc2) (slots + ms2) Q (F0 m (pc + 3) ls (.long r :: rest))) :
    W p l e R s m args below meth c H locs cells slots Q (F0 m pc ls st) := by
  subst hst
  have hPc := sub_of hP hC
  have hF := va_free hD hS hA isC hC
  have hDc := hD.sub isC hnC hC
  refine va_calll (va_runV (As := As) (rest := rest) ⟨C.x, C.b, C.ml, C.ow, C.ts⟩ (hM H.size) (cwV_of C hg hR) ⟨pre_blind, ?_, pre_ok C.kk hPc hDc⟩ rfl hna hl rfl (lv_room hw8) hd hf) hS (fun q _ h => hF q h) hF (fun r u t H1 locs1 ht hvm hw hB hz1 hk1 hS1 => ?_)
  · obtain ⟨cell, g1, g2, g3⟩ := va_recv C.k hPc hc he
    exact ⟨cell, g1, g2, by rw [← hq]; exact g3⟩
  obtain ⟨hP1, hD1⟩ := hB
  rw [ht] at hP1
  obtain ⟨hP2, hD2⟩ := va_join hP hD isC isR hC hRw hn hdis hk1 hF hP1 hD1
  exact kk r u H1 locs1 hw hP2 hD2 hS1
theorem cvS {post : va_W → Prop} (C : Cx p s m args meth c D cI cB cc nL own ret nm) (hA : ∀ q : Nat, s.heap.size ≤ q → A q) (hP : va_P D classes ws H) (hD : va_D A ws) (hS : va_S A s.heap H locs) (hl : ls.size = nL) (hM : Kv l D cI cB y b2 n2 fr lo mc2 ms2 (As) wc post) (hg : okS own idx y b2 n2 none na) (rest : List Value) (isC isR : List Nat) 
    (hC : isC.map (fun i => ws[i]?) = wc.map some) (hnC : va_nd isC = true) (hRw : isR.map (fun i => ws[i]?) = wr.map some) (hn : va_nd isR = true) (hdis : ∀ i ∈ isR, i ∉ isC) (hst : st = As.reverse ++ rest) (hna : As.length = na) (hw8 : (rest.map fun v => v.category).sum ≤ 8) (hR : fr + 1 ≤ R.frames ∧ 8 + (n2 + 11) + lo ≤ R.locals) (hf : cells + mc2 ≤ R.cells ∧ slots + ms2 ≤ R.slots) (hd : decode cc pc = .ok (.invokestatic idx, 3))
    (kk : ∀ (w1 : va_W) (H1 : Heap) (locs1 : List Loc), post w1 → va_P D classes (wr ++ w1) H1 → va_D A (wr ++ w1) → va_S A s.heap H1 locs1 → W p l e R s m args below meth c H1 locs1 (cells + mc2) (slots + ms2) Q (F0 m (pc + 3) ls (rest))) :
    W p l e R s m args below meth c H locs cells slots Q (F0 m pc ls st) := by
  subst hst
  have hPc := sub_of hP hC
  have hF := va_free hD hS hA isC hC
  have hDc := hD.sub isC hnC hC
  refine va_callv (va_runS (As := As) (rest := rest) ⟨C.x, C.b, C.ml, C.ow, C.ts⟩ (hM H.size) (cwS_of C hg hR) ⟨pre_blind, pre_ok C.kk hPc hDc⟩ rfl hna hl rfl (lv_room hw8) hd hf) hS (fun q _ h => hF q h) hF (fun u t H1 locs1 ht hvm hw hB hz1 hk1 hS1 => ?_)
  obtain ⟨hP1, hD1⟩ := hB
  rw [ht] at hP1
  obtain ⟨hP2, hD2⟩ := va_join hP hD isC isR hC hRw hn hdis hk1 hF hP1 hD1
  exact kk u H1 locs1 hw hP2 hD2 hS1
theorem ciS {post : Int32 → va_W → Prop} {rt : FieldType} (C : Cx p s m args meth c D cI cB cc nL own ret nm) (hA : ∀ q : Nat, s.heap.size ≤ q → A q) (hP : va_P D classes ws H) (hD : va_D A ws) (hS : va_S A s.heap H locs) (hl : ls.size = nL) (hM : Ki l D cI cB y b2 n2 fr lo mc2 ms2 rt (As) wc post) (hg : okS own idx y b2 n2 (some rt) na) (rest : List Value) (isC isR : List Nat) 
    (hC : isC.map (fun i => ws[i]?) = wc.map some) (hnC : va_nd isC = true) (hRw : isR.map (fun i => ws[i]?) = wr.map some) (hn : va_nd isR = true) (hdis : ∀ i ∈ isR, i ∉ isC) (hst : st = As.reverse ++ rest) (hna : As.length = na) (hw8 : (rest.map fun v => v.category).sum ≤ 8) (hR : fr + 1 ≤ R.frames ∧ 8 + (n2 + 11) + lo ≤ R.locals) (hf : cells + mc2 ≤ R.cells ∧ slots + ms2 ≤ R.slots) (hd : decode cc pc = .ok (.invokestatic idx, 3))
    (kk : ∀ (r : Int32) (w1 : va_W) (H1 : Heap) (locs1 : List Loc), post r w1 → va_P D classes (wr ++ w1) H1 → va_D A (wr ++ w1) → va_S A s.heap H1 locs1 → W p l e R s m args below meth c H1 locs1 (cells + mc2) (slots + ms2) Q (F0 m (pc + 3) ls (.int r :: rest))) :
    W p l e R s m args below meth c H locs cells slots Q (F0 m pc ls st) := by
  subst hst
  have hPc := sub_of hP hC
  have hF := va_free hD hS hA isC hC
  have hDc := hD.sub isC hnC hC
  refine va_calli (va_runS (As := As) (rest := rest) ⟨C.x, C.b, C.ml, C.ow, C.ts⟩ (hM H.size) (cwS_of C hg hR) ⟨pre_blind, pre_ok C.kk hPc hDc⟩ rfl hna hl rfl (lv_room hw8) hd hf) hS (fun q _ h => hF q h) hF (fun r u t H1 locs1 ht hvm hw hB hz1 hk1 hS1 => ?_)
  obtain ⟨hP1, hD1⟩ := hB
  rw [ht] at hP1
  obtain ⟨hP2, hD2⟩ := va_join hP hD isC isR hC hRw hn hdis hk1 hF hP1 hD1
  exact kk r u H1 locs1 hw hP2 hD2 hS1
theorem cvI {post : va_W → Prop} (C : Cx p s m args meth c D cI cB cc nL own ret nm) (hA : ∀ q : Nat, s.heap.size ≤ q → A q) (hP : va_P D classes ws H) (hD : va_D A ws) (hS : va_S A s.heap H locs) (hl : ls.size = nL) (hM : Kv l D cI cB y b2 n2 fr lo mc2 ms2 (.ref bb :: As) wc post) (hg : okI own idx y b2 n2 na) (rest : List Value) (isC isR : List Nat) 
    (hC : isC.map (fun i => ws[i]?) = wc.map some) (hnC : va_nd isC = true) (hRw : isR.map (fun i => ws[i]?) = wr.map some) (hn : va_nd isR = true) (hdis : ∀ i ∈ isR, i ∉ isC) (hst : st = As.reverse ++ .ref bb :: rest) (hna : As.length = na) (hw8 : (rest.map fun v => v.category).sum ≤ 8) (hR : fr + 1 ≤ R.frames ∧ 8 + (n2 + 11) + lo ≤ R.locals) (hf : cells + mc2 ≤ R.cells ∧ slots + ms2 ≤ R.slots) (hd : decode cc pc = .ok (.invokespecial idx, 3))
    (kk : ∀ (w1 : va_W) (H1 : Heap) (locs1 : List Loc), post w1 → va_P D classes (wr ++ w1) H1 → va_D A (wr ++ w1) → va_S A s.heap H1 locs1 → W p l e R s m args below meth c H1 locs1 (cells + mc2) (slots + ms2) Q (F0 m (pc + 3) ls (rest))) :
    W p l e R s m args below meth c H locs cells slots Q (F0 m pc ls st) := by
  subst hst
  have hPc := sub_of hP hC
  have hF := va_free hD hS hA isC hC
  have hDc := hD.sub isC hnC hC
  refine va_callv (va_runI (As := As) (rest := rest) ⟨C.x, C.b, C.ml, C.ow, C.ts⟩ (hM H.size) (cwI_of C hg hR) ⟨pre_blind, pre_ok C.kk hPc hDc⟩ rfl hna hl rfl (lv_room hw8) hd hf) hS (fun q _ h => hF q h) hF (fun u t H1 locs1 ht hvm hw hB hz1 hk1 hS1 => ?_)
  obtain ⟨hP1, hD1⟩ := hB
  rw [ht] at hP1
  obtain ⟨hP2, hD2⟩ := va_join hP hD isC isR hC hRw hn hdis hk1 hF hP1 hD1
  exact kk u H1 locs1 hw hP2 hD2 hS1
theorem cvN {post : va_W → Prop} (C : Cx p s m args meth c D cI cB cc nL own ret nm) (hA : ∀ q : Nat, s.heap.size ≤ q → A q) (hP : va_P D classes ws H) (hD : va_D A ws) (hS : va_S A s.heap H locs) (hl : ls.size = nL) (hM : Kv l D cI cB y b2 n2 fr lo mc2 ms2 (.ref bb :: As) wc post) (hg : Cond.instanceMethod y ∈ gw ∧ Cond.initialized y.cls ∈ gw ∧ Cond.code y b2 n2 none ∈ gw ∧ y.name = "<init>" ∧ (y.cls ≠ "java/lang/invoke/MethodHandle" ∧ y.cls ≠ "java/lang/invoke/VarHandle" ∧ (parseMethodDescriptor y.desc).map (fun d => d.parameters.length) = some na)) {host : String} (hnl : va_Nw (.methodLinkNest own idx y host) s) (rest : List Value) (isC isR : List Nat) 
    (hC : isC.map (fun i => ws[i]?) = wc.map some) (hnC : va_nd isC = true) (hRw : isR.map (fun i => ws[i]?) = wr.map some) (hn : va_nd isR = true) (hdis : ∀ i ∈ isR, i ∉ isC) (hst : st = As.reverse ++ .ref bb :: rest) (hna : As.length = na) (hw8 : (rest.map fun v => v.category).sum ≤ 8) (hR : fr + 1 ≤ R.frames ∧ 8 + (n2 + 11) + lo ≤ R.locals) (hf : cells + mc2 ≤ R.cells ∧ slots + ms2 ≤ R.slots) (hd : decode cc pc = .ok (.invokespecial idx, 3))
    (kk : ∀ (w1 : va_W) (H1 : Heap) (locs1 : List Loc), post w1 → va_P D classes (wr ++ w1) H1 → va_D A (wr ++ w1) → va_S A s.heap H1 locs1 → W p l e R s m args below meth c H1 locs1 (cells + mc2) (slots + ms2) Q (F0 m (pc + 3) ls (rest))) :
    W p l e R s m args below meth c H locs cells slots Q (F0 m pc ls st) := by
  subst hst
  have hPc := sub_of hP hC
  have hF := va_free hD hS hA isC hC
  have hDc := hD.sub isC hnC hC
  refine va_callv (va_runIN (As := As) (rest := rest) ⟨C.x, C.b, C.ml, C.ow, C.ts⟩ (hM H.size) ⟨va_cnB na C.ts (wd_good hg.2.2.1) rfl rfl rfl hnl (C.ts _ hg.2.1) hg.2.2.2.2 hR, hg.2.2.2.1, C.ts _ hg.1⟩ ⟨pre_blind, pre_ok C.kk hPc hDc⟩ rfl hna hl rfl (lv_room hw8) hd hf) hS (fun q _ h => hF q h) hF (fun u t H1 locs1 ht hvm hw hB hz1 hk1 hS1 => ?_)
  obtain ⟨hP1, hD1⟩ := hB
  rw [ht] at hP1
  obtain ⟨hP2, hD2⟩ := va_join hP hD isC isR hC hRw hn hdis hk1 hF hP1 hD1
  exact kk u H1 locs1 hw hP2 hD2 hS1
/-- numbers -/
theorem nI_neg {a : Nat} (ha : a < 2 ^ 32) : nI a < 0 ↔ 2 ^ 31 ≤ a := by
  have h : (nI a).toInt = if a < 2 ^ 31 then (a : Int) else (a : Int) - 2 ^ 32 := by
    show (BitVec.ofNat 32 a).toInt = _
    rw [BitVec.toInt_eq_toNat_cond, BitVec.toNat_ofNat, Nat.mod_eq_of_lt ha]
    split <;> split <;> omega
  rw [Int32.lt_iff_toInt_lt, h]
  show _ < (0 : Int) ↔ _
  split <;> omega
theorem nZ {a : Nat} (ha : a < 2 ^ 31) (h : nI a = 0) : a = 0 := (nI_eq (b := 0) ha (by decide)).mp h
theorem nZp {a : Nat} (ha : a < 2 ^ 31) (h : 0 < nI a) : 0 < a := (nI_ltI (a := 0) (by decide) ha).mp h
theorem nZq {a : Nat} (ha : a < 2 ^ 31) (h : 0 < a) : 0 < nI a := (nI_ltI (a := 0) (by decide) ha).mpr h
theorem jc_eq (C : Cx p s m args meth c D cI cB cc nL own ret nm) {off : Int} {tgt a b : Nat} (hd : decode cc pc = .ok (.if_icmp .eq off, 3)) (ht : (pc : Int) + off = (tgt : Int)) (ha : a < 2 ^ 31) (hb : b < 2 ^ 31) (kt : a = b → W p l e R s m args below meth c H locs cells slots Q (F0 m tgt ls rest)) (kf : a ≠ b → W p l e R s m args below meth c H locs cells slots Q (F0 m (pc + 3) ls rest)) : W p l e R s m args below meth c H locs cells slots Q (F0 m pc ls (.int (nI b) :: .int (nI a) :: rest)) := lv_icmp_eq C.x C.b hd ht (fun h => kt ((nI_eq ha hb).mp h)) (fun h => kf (fun h2 => h ((nI_eq ha hb).mpr h2)))
theorem jc_ne (C : Cx p s m args meth c D cI cB cc nL own ret nm) {off : Int} {tgt a b : Nat} (hd : decode cc pc = .ok (.if_icmp .ne off, 3)) (ht : (pc : Int) + off = (tgt : Int)) (ha : a < 2 ^ 31) (hb : b < 2 ^ 31) (kt : a ≠ b → W p l e R s m args below meth c H locs cells slots Q (F0 m tgt ls rest)) (kf : a = b → W p l e R s m args below meth c H locs cells slots Q (F0 m (pc + 3) ls rest)) : W p l e R s m args below meth c H locs cells slots Q (F0 m pc ls (.int (nI b) :: .int (nI a) :: rest)) := lv_icmp_ne C.x C.b hd ht (fun h => kt (fun h2 => h ((nI_eq ha hb).mpr h2))) (fun h => kf ((nI_eq ha hb).mp h))
theorem jc_lt (C : Cx p s m args meth c D cI cB cc nL own ret nm) {off : Int} {tgt a b : Nat} (hd : decode cc pc = .ok (.if_icmp .lt off, 3)) (ht : (pc : Int) + off = (tgt : Int)) (ha : a < 2 ^ 31) (hb : b < 2 ^ 31) (kt : a < b → W p l e R s m args below meth c H locs cells slots Q (F0 m tgt ls rest)) (kf : b ≤ a → W p l e R s m args below meth c H locs cells slots Q (F0 m (pc + 3) ls rest)) : W p l e R s m args below meth c H locs cells slots Q (F0 m pc ls (.int (nI b) :: .int (nI a) :: rest)) := lv_icmp_lt C.x C.b hd ht (fun h => kt ((nI_ltI ha hb).mp h)) (fun h => kf (Nat.not_lt.mp (fun h2 => h ((nI_ltI ha hb).mpr h2))))
theorem jc_ge (C : Cx p s m args meth c D cI cB cc nL own ret nm) {off : Int} {tgt a b : Nat} (hd : decode cc pc = .ok (.if_icmp .ge off, 3)) (ht : (pc : Int) + off = (tgt : Int)) (ha : a < 2 ^ 31) (hb : b < 2 ^ 31) (kt : b ≤ a → W p l e R s m args below meth c H locs cells slots Q (F0 m tgt ls rest)) (kf : a < b → W p l e R s m args below meth c H locs cells slots Q (F0 m (pc + 3) ls rest)) : W p l e R s m args below meth c H locs cells slots Q (F0 m pc ls (.int (nI b) :: .int (nI a) :: rest)) := lv_icmp_ge C.x C.b hd ht (fun h => kt ((nI_leI hb ha).mp h)) (fun h => kf (Nat.not_le.mp (fun h2 => h ((nI_leI hb ha).mpr h2))))
theorem jc_gt (C : Cx p s m args meth c D cI cB cc nL own ret nm) {off : Int} {tgt a b : Nat} (hd : decode cc pc = .ok (.if_icmp .gt off, 3)) (ht : (pc : Int) + off = (tgt : Int)) (ha : a < 2 ^ 31) (hb : b < 2 ^ 31) (kt : b < a → W p l e R s m args below meth c H locs cells slots Q (F0 m tgt ls rest)) (kf : a ≤ b → W p l e R s m args below meth c H locs cells slots Q (F0 m (pc + 3) ls rest)) : W p l e R s m args below meth c H locs cells slots Q (F0 m pc ls (.int (nI b) :: .int (nI a) :: rest)) := lv_icmp_gt C.x C.b hd ht (fun h => kt ((nI_ltI hb ha).mp h)) (fun h => kf (Nat.not_lt.mp (fun h2 => h ((nI_ltI hb ha).mpr h2))))
theorem jc_le (C : Cx p s m args meth c D cI cB cc nL own ret nm) {off : Int} {tgt a b : Nat} (hd : decode cc pc = .ok (.if_icmp .le off, 3)) (ht : (pc : Int) + off = (tgt : Int)) (ha : a < 2 ^ 31) (hb : b < 2 ^ 31) (kt : a ≤ b → W p l e R s m args below meth c H locs cells slots Q (F0 m tgt ls rest)) (kf : b < a → W p l e R s m args below meth c H locs cells slots Q (F0 m (pc + 3) ls rest)) : W p l e R s m args below meth c H locs cells slots Q (F0 m pc ls (.int (nI b) :: .int (nI a) :: rest)) := lv_icmp_le C.x C.b hd ht (fun h => kt ((nI_leI ha hb).mp h)) (fun h => kf (Nat.not_le.mp (fun h2 => h ((nI_leI ha hb).mpr h2))))
theorem jz_eq (C : Cx p s m args meth c D cI cB cc nL own ret nm) {off : Int} {tgt a : Nat} (hd : decode cc pc = .ok (.ifCond .eq off, 3)) (ht : (pc : Int) + off = (tgt : Int)) (ha : a < 2 ^ 31) (kt : a = 0 → W p l e R s m args below meth c H locs cells slots Q (F0 m tgt ls rest)) (kf : a ≠ 0 → W p l e R s m args below meth c H locs cells slots Q (F0 m (pc + 3) ls rest)) : W p l e R s m args below meth c H locs cells slots Q (F0 m pc ls (.int (nI a) :: rest)) := lv_if_eq C.x C.b hd ht (fun h => kt (nZ ha h)) (fun h => kf (fun h2 => h (by rw [h2]; rfl)))
theorem jz_ne (C : Cx p s m args meth c D cI cB cc nL own ret nm) {off : Int} {tgt a : Nat} (hd : decode cc pc = .ok (.ifCond .ne off, 3)) (ht : (pc : Int) + off = (tgt : Int)) (ha : a < 2 ^ 31) (kt : a ≠ 0 → W p l e R s m args below meth c H locs cells slots Q (F0 m tgt ls rest)) (kf : a = 0 → W p l e R s m args below meth c H locs cells slots Q (F0 m (pc + 3) ls rest)) : W p l e R s m args below meth c H locs cells slots Q (F0 m pc ls (.int (nI a) :: rest)) := lv_if_ne C.x C.b hd ht (fun h => kt (fun h2 => h (by rw [h2]; rfl))) (fun h => kf (nZ ha h))
theorem jz_gt (C : Cx p s m args meth c D cI cB cc nL own ret nm) {off : Int} {tgt a : Nat} (hd : decode cc pc = .ok (.ifCond .gt off, 3)) (ht : (pc : Int) + off = (tgt : Int)) (ha : a < 2 ^ 31) (kt : 0 < a → W p l e R s m args below meth c H locs cells slots Q (F0 m tgt ls rest)) (kf : a = 0 → W p l e R s m args below meth c H locs cells slots Q (F0 m (pc + 3) ls rest)) : W p l e R s m args below meth c H locs cells slots Q (F0 m pc ls (.int (nI a) :: rest)) := lv_if_gt C.x C.b hd ht (fun h => kt (nZp ha h)) (fun h => kf (Nat.eq_zero_of_not_pos (fun h2 => h (nZq ha h2))))
theorem jz_le (C : Cx p s m args meth c D cI cB cc nL own ret nm) {off : Int} {tgt a : Nat} (hd : decode cc pc = .ok (.ifCond .le off, 3)) (ht : (pc : Int) + off = (tgt : Int)) (ha : a < 2 ^ 31) (kt : a = 0 → W p l e R s m args below meth c H locs cells slots Q (F0 m tgt ls rest)) (kf : 0 < a → W p l e R s m args below meth c H locs cells slots Q (F0 m (pc + 3) ls rest)) : W p l e R s m args below meth c H locs cells slots Q (F0 m pc ls (.int (nI a) :: rest)) := lv_if_le C.x C.b hd ht (fun h => kt (Nat.eq_zero_of_not_pos (fun h2 => nI_nle h2 ha h))) (fun h => kf (Nat.pos_of_ne_zero (fun h2 => h (by rw [h2]; decide))))
theorem jz_lt (C : Cx p s m args meth c D cI cB cc nL own ret nm) {off : Int} {tgt a : Nat} (hd : decode cc pc = .ok (.ifCond .lt off, 3)) (ht : (pc : Int) + off = (tgt : Int)) (ha : a < 2 ^ 32) (kt : 2 ^ 31 ≤ a → W p l e R s m args below meth c H locs cells slots Q (F0 m tgt ls rest)) (kf : a < 2 ^ 31 → W p l e R s m args below meth c H locs cells slots Q (F0 m (pc + 3) ls rest)) : W p l e R s m args below meth c H locs cells slots Q (F0 m pc ls (.int (nI a) :: rest)) := lv_if_lt C.x C.b hd ht (fun h => kt ((nI_neg ha).mp h)) (fun h => kf (Nat.not_le.mp (fun h2 => h ((nI_neg ha).mpr h2))))
theorem jl_eq (C : Cx p s m args meth c D cI cB cc nL own ret nm) {off : Int} {tgt a b : Nat} (hd1 : decode cc pc = .ok (.lcmp, 1)) (hd : decode cc (pc + 1) = .ok (.ifCond .eq off, 3)) (ht : ((pc + 1 : Nat) : Int) + off = (tgt : Int)) (ha : a < 2 ^ 63) (hb : b < 2 ^ 63) (kt : a = b → W p l e R s m args below meth c H locs cells slots Q (F0 m tgt ls rest)) (kf : a ≠ b → W p l e R s m args below meth c H locs cells slots Q (F0 m (pc + 1 + 3) ls rest)) : W p l e R s m args below meth c H locs cells slots Q (F0 m pc ls (.long (lN b) :: .long (lN a) :: rest)) := W.lcmp C.x C.b hd1 (lv_if_eq C.x C.b hd ht (fun h => kt (((lg_cmp_eq (lN a) (lN b)).trans (pk_lEQ ha hb)).mp h)) (fun h => kf (fun h2 => h (((lg_cmp_eq (lN a) (lN b)).trans (pk_lEQ ha hb)).mpr h2))))
theorem jl_ne (C : Cx p s m args meth c D cI cB cc nL own ret nm) {off : Int} {tgt a b : Nat} (hd1 : decode cc pc = .ok (.lcmp, 1)) (hd : decode cc (pc + 1) = .ok (.ifCond .ne off, 3)) (ht : ((pc + 1 : Nat) : Int) + off = (tgt : Int)) (ha : a < 2 ^ 63) (hb : b < 2 ^ 63) (kt : a ≠ b → W p l e R s m args below meth c H locs cells slots Q (F0 m tgt ls rest)) (kf : a = b → W p l e R s m args below meth c H locs cells slots Q (F0 m (pc + 1 + 3) ls rest)) : W p l e R s m args below meth c H locs cells slots Q (F0 m pc ls (.long (lN b) :: .long (lN a) :: rest)) := W.lcmp C.x C.b hd1 (lv_if_ne C.x C.b hd ht (fun h => kt (fun h2 => h (((lg_cmp_eq (lN a) (lN b)).trans (pk_lEQ ha hb)).mpr h2))) (fun h => kf (((lg_cmp_eq (lN a) (lN b)).trans (pk_lEQ ha hb)).mp h)))
theorem jl_lt (C : Cx p s m args meth c D cI cB cc nL own ret nm) {off : Int} {tgt a b : Nat} (hd1 : decode cc pc = .ok (.lcmp, 1)) (hd : decode cc (pc + 1) = .ok (.ifCond .lt off, 3)) (ht : ((pc + 1 : Nat) : Int) + off = (tgt : Int)) (ha : a < 2 ^ 63) (hb : b < 2 ^ 63) (kt : a < b → W p l e R s m args below meth c H locs cells slots Q (F0 m tgt ls rest)) (kf : b ≤ a → W p l e R s m args below meth c H locs cells slots Q (F0 m (pc + 1 + 3) ls rest)) : W p l e R s m args below meth c H locs cells slots Q (F0 m pc ls (.long (lN b) :: .long (lN a) :: rest)) := W.lcmp C.x C.b hd1 (lv_if_lt C.x C.b hd ht (fun h => kt (((lg_cmp_lt (lN a) (lN b)).trans (pk_lLT ha hb)).mp h)) (fun h => kf (Nat.not_lt.mp (fun h2 => h (((lg_cmp_lt (lN a) (lN b)).trans (pk_lLT ha hb)).mpr h2)))))
theorem jl_ge (C : Cx p s m args meth c D cI cB cc nL own ret nm) {off : Int} {tgt a b : Nat} (hd1 : decode cc pc = .ok (.lcmp, 1)) (hd : decode cc (pc + 1) = .ok (.ifCond .ge off, 3)) (ht : ((pc + 1 : Nat) : Int) + off = (tgt : Int)) (ha : a < 2 ^ 63) (hb : b < 2 ^ 63) (kt : b ≤ a → W p l e R s m args below meth c H locs cells slots Q (F0 m tgt ls rest)) (kf : a < b → W p l e R s m args below meth c H locs cells slots Q (F0 m (pc + 1 + 3) ls rest)) : W p l e R s m args below meth c H locs cells slots Q (F0 m pc ls (.long (lN b) :: .long (lN a) :: rest)) := W.lcmp C.x C.b hd1 (lv_if_ge C.x C.b hd ht (fun h => kt (((lg_cmp_ge (lN a) (lN b)).trans (pk_lLE hb ha)).mp h)) (fun h => kf (Nat.not_le.mp (fun h2 => h (((lg_cmp_ge (lN a) (lN b)).trans (pk_lLE hb ha)).mpr h2)))))
theorem jl_gt (C : Cx p s m args meth c D cI cB cc nL own ret nm) {off : Int} {tgt a b : Nat} (hd1 : decode cc pc = .ok (.lcmp, 1)) (hd : decode cc (pc + 1) = .ok (.ifCond .gt off, 3)) (ht : ((pc + 1 : Nat) : Int) + off = (tgt : Int)) (ha : a < 2 ^ 63) (hb : b < 2 ^ 63) (kt : b < a → W p l e R s m args below meth c H locs cells slots Q (F0 m tgt ls rest)) (kf : a ≤ b → W p l e R s m args below meth c H locs cells slots Q (F0 m (pc + 1 + 3) ls rest)) : W p l e R s m args below meth c H locs cells slots Q (F0 m pc ls (.long (lN b) :: .long (lN a) :: rest)) := W.lcmp C.x C.b hd1 (lv_if_gt C.x C.b hd ht (fun h => kt (((lg_cmp_gt (lN a) (lN b)).trans (pk_lLT hb ha)).mp h)) (fun h => kf (Nat.not_lt.mp (fun h2 => h (((lg_cmp_gt (lN a) (lN b)).trans (pk_lLT hb ha)).mpr h2)))))
theorem jl_le (C : Cx p s m args meth c D cI cB cc nL own ret nm) {off : Int} {tgt a b : Nat} (hd1 : decode cc pc = .ok (.lcmp, 1)) (hd : decode cc (pc + 1) = .ok (.ifCond .le off, 3)) (ht : ((pc + 1 : Nat) : Int) + off = (tgt : Int)) (ha : a < 2 ^ 63) (hb : b < 2 ^ 63) (kt : a ≤ b → W p l e R s m args below meth c H locs cells slots Q (F0 m tgt ls rest)) (kf : b < a → W p l e R s m args below meth c H locs cells slots Q (F0 m (pc + 1 + 3) ls rest)) : W p l e R s m args below meth c H locs cells slots Q (F0 m pc ls (.long (lN b) :: .long (lN a) :: rest)) := W.lcmp C.x C.b hd1 (lv_if_le C.x C.b hd ht (fun h => kt (((lg_cmp_le (lN a) (lN b)).trans (pk_lLE ha hb)).mp h)) (fun h => kf (Nat.not_le.mp (fun h2 => h (((lg_cmp_le (lN a) (lN b)).trans (pk_lLE ha hb)).mpr h2)))))
/-- fields -/
theorem cl_in : ∀ (ci : Nat) (q : vw_C), classes[ci]? = some q → ∀ w ∈ u_ws q.1 q.2.1 q.2.2, w ∈ gw := by
  intro ci q h
  match ci, h with
  | 0, h => cases h; exact i_B
  | 1, h => cases h; exact i_U
  | 2, h => cases h; exact i_X
  | 3, h => cases h; exact i_M
  | n + 4, h => simp [classes] at h
theorem cl_ty : ∀ (ci : Nat) (q : vw_C), classes[ci]? = some q → ∃ ty0 : Nat → FieldType, ∀ k, k < q.2.2 → parseFieldDescriptor (q.2.1 k).2.2.1 = some (ty0 k) := by
  intro ci q h
  match ci, h with
  | 0, h => cases h; exact ⟨t_B, t_B_ok⟩
  | 1, h => cases h; exact ⟨t_U, t_U_ok⟩
  | 2, h => cases h; exact ⟨t_X, t_X_ok⟩
  | 3, h => cases h; exact ⟨t_M, t_M_ok⟩
  | n + 4, h => simp [classes] at h
theorem cl_nm : ∀ (ci : Nat) (q : vw_C), classes[ci]? = some q → ∀ a, a < q.2.2 → ∀ b, b < q.2.2 → a ≠ b → (q.2.1 a).2.1 ≠ (q.2.1 b).2.1 := by
  intro ci q h
  match ci, h with
  | 0, h => cases h; exact n_B
  | 1, h => cases h; exact n_U
  | 2, h => cases h; exact n_X
  | 3, h => cases h; exact n_M
  | n + 4, h => simp [classes] at h
theorem gf {a : Nat} {T : u_T} {N : Nat} {Cn : String} {fs : List Value} {v : Value} (C : Cx p s m args meth c D cI cB cc nL own ret nm) (hP : va_P D classes ws H) (q0 ci k : Nat) (he : ws[q0]? = some (a, .inr (ci, fs))) (hc : classes[ci]? = some (Cn, T, N)) (hk : k < N) (hlink : Cond.fieldLink own idx (T k).1 (T k).2.1 (T k).2.2.1 ∈ gw) (hv : fs[k]? = some v) (hd : decode cc pc = .ok (.getfield idx, 3))
    (kk : W p l e R s m args below meth c H locs cells slots Q (F0 m (pc + 3) ls (v :: rest))) : W p l e R s m args below meth c H locs cells slots Q (F0 m pc ls (.ref a :: rest)) :=
  va_get C.x C.b C.ts (cl_in ci _ hc) C.ow C.k hP q0 he hc k hk (C.ts _ hlink) (fun _ h => h) hv hd kk
theorem gfN {a : Nat} {T : u_T} {N : Nat} {Cn host : String} {fs : List Value} {v : Value} (C : Cx p s m args meth c D cI cB cc nL own ret nm) (hP : va_P D classes ws H) (q0 ci k : Nat) (he : ws[q0]? = some (a, .inr (ci, fs))) (hc : classes[ci]? = some (Cn, T, N)) (hk : k < N) (hlink : va_Nw (.fieldLinkNest own idx (T k).1 (T k).2.1 (T k).2.2.1 host) s) (hv : fs[k]? = some v) (hd : decode cc pc = .ok (.getfield idx, 3))
    (kk : W p l e R s m args below meth c H locs cells slots Q (F0 m (pc + 3) ls (v :: rest))) : W p l e R s m args below meth c H locs cells slots Q (F0 m pc ls (.ref a :: rest)) :=
  va_getN C.x C.b C.ts (cl_in ci _ hc) C.ow C.k hP q0 he hc k hk (va_Nw.use rfl hlink) (fun _ h => h) hv hd kk
theorem pf {a : Nat} {T : u_T} {N : Nat} {Cn : String} {fs : List Value} {v : Value} {w2 : va_W} (C : Cx p s m args meth c D cI cB cc nL own ret nm) (hP : va_P D classes ws H) (hD : va_D A ws) (hS : va_S A s.heap H locs) (q0 ci k : Nat) (ty : FieldType) (he : ws[q0]? = some (a, .inr (ci, fs))) (hc : classes[ci]? = some (Cn, T, N)) (hk : k < N) (hlink : Cond.fieldLink own idx (T k).1 (T k).2.1 (T k).2.2.1 ∈ gw) (hfin : (T k).2.2.2 = false) (ht : parseFieldDescriptor (T k).2.2.1 = some ty) (hn : narrow ty v = v) (hfit : fits ty v = true) (hlen : k < fs.length) (hw : ws.set q0 (a, .inr (ci, fs.set k v)) = w2) (hd : decode cc pc = .ok (.putfield idx, 3))
    (kk : ∀ (H1 : Heap) (locs1 : List Loc), va_P D classes w2 H1 → va_D A w2 → va_S A s.heap H1 locs1 → W p l e R s m args below meth c H1 locs1 cells slots Q (F0 m (pc + 3) ls rest)) : W p l e R s m args below meth c H locs cells slots Q (F0 m pc ls (v :: .ref a :: rest)) := by
  subst hw
  obtain ⟨ty0, hty⟩ := cl_ty ci _ hc
  exact va_put C.x C.b C.ts (cl_in ci _ hc) ty0 hty (cl_nm ci _ hc) C.ow C.k hP hD hS q0 he hc k hk (C.ts _ hlink) (fun _ h => h) hfin ht hn hfit hlen hd kk
theorem pfN {a : Nat} {T : u_T} {N : Nat} {Cn host : String} {fs : List Value} {v : Value} {w2 : va_W} (C : Cx p s m args meth c D cI cB cc nL own ret nm) (hP : va_P D classes ws H) (hD : va_D A ws) (hS : va_S A s.heap H locs) (q0 ci k : Nat) (ty : FieldType) (he : ws[q0]? = some (a, .inr (ci, fs))) (hc : classes[ci]? = some (Cn, T, N)) (hk : k < N) (hlink : va_Nw (.fieldLinkNest own idx (T k).1 (T k).2.1 (T k).2.2.1 host) s) (hfin : (T k).2.2.2 = false) (ht : parseFieldDescriptor (T k).2.2.1 = some ty) (hn : narrow ty v = v) (hfit : fits ty v = true) (hlen : k < fs.length) (hw : ws.set q0 (a, .inr (ci, fs.set k v)) = w2) (hd : decode cc pc = .ok (.putfield idx, 3))
    (kk : ∀ (H1 : Heap) (locs1 : List Loc), va_P D classes w2 H1 → va_D A w2 → va_S A s.heap H1 locs1 → W p l e R s m args below meth c H1 locs1 cells slots Q (F0 m (pc + 3) ls rest)) : W p l e R s m args below meth c H locs cells slots Q (F0 m pc ls (v :: .ref a :: rest)) := by
  subst hw
  obtain ⟨ty0, hty⟩ := cl_ty ci _ hc
  exact va_putN C.x C.b C.ts (cl_in ci _ hc) ty0 hty (cl_nm ci _ hc) C.ow C.k hP hD hS q0 he hc k hk (va_Nw.use rfl hlink) (fun _ h => h) hfin ht hn hfit hlen hd kk
theorem pfF {a : Nat} {T : u_T} {N : Nat} {Cn : String} {fs : List Value} {v : Value} {w2 : va_W} (C : Cx p s m args meth c D cI cB cc nL own ret "<init>") (hP : va_P D classes ws H) (hD : va_D A ws) (hS : va_S A s.heap H locs) (q0 ci k : Nat) (ty : FieldType) (he : ws[q0]? = some (a, .inr (ci, fs))) (hc : classes[ci]? = some (Cn, T, N)) (hk : k < N) (hlink : Cond.fieldLink own idx (T k).1 (T k).2.1 (T k).2.2.1 ∈ gw) (hfin : (T k).2.2.2 = true) (hdecl : (T k).1 = own) (ht : parseFieldDescriptor (T k).2.2.1 = some ty) (hn : narrow ty v = v) (hfit : fits ty v = true) (hlen : k < fs.length) (hw : ws.set q0 (a, .inr (ci, fs.set k v)) = w2) (hd : decode cc pc = .ok (.putfield idx, 3))
    (kk : ∀ (H1 : Heap) (locs1 : List Loc), va_P D classes w2 H1 → va_D A w2 → va_S A s.heap H1 locs1 → W p l e R s m args below meth c H1 locs1 cells slots Q (F0 m (pc + 3) ls rest)) : W p l e R s m args below meth c H locs cells slots Q (F0 m pc ls (v :: .ref a :: rest)) := by
  subst hw
  obtain ⟨ty0, hty⟩ := cl_ty ci _ hc
  exact va_putF C.x C.b C.ts (cl_in ci _ hc) ty0 hty (cl_nm ci _ hc) C.ow C.k hP hD hS q0 he hc k hk (C.ts _ hlink) (fun _ h => h) hfin C.mn hdecl ht hn hfit hlen hd kk
theorem oinit {a : Nat} (C : Cx p s m args meth c D cI cB cc nL own ret nm) (hl : ls.size = nL) (hlink : Cond.methodLink own idx objectInit ∈ gw) (hfr : 1 ≤ R.frames) (hlo : (rest.map fun v => v.category).sum + 12 ≤ R.locals) (hd : decode cc pc = .ok (.invokespecial idx, 3))
    (kk : W p l e R s m args below meth c H locs cells slots Q (F0 m (pc + 3) ls rest)) : W p l e R s m args below meth c H locs cells slots Q (F0 m pc ls (.ref a :: rest)) :=
  W.objInit C.x C.b C.ow (C.ts _ hlink) (C.ts _ im_obj) (C.ts _ cd_obj) rfl (by rw [C.ml]; exact hl) rfl hd hfr (by simpa [JFrame.monitorRoom] using hlo) kk
/-- new objects and arrays -/
theorem newo {T : u_T} {N : Nat} {Cn : String} {fs : List Value} (C : Cx p s m args meth c D cI cB cc nL own ret nm) (hA : ∀ q : Nat, s.heap.size ≤ q → A q) (hP : va_P D classes ws H) (hD : va_D A ws) (hS : va_S A s.heap H locs) (ci : Nat) (hc : classes[ci]? = some (Cn, T, N)) (ty : Nat → FieldType) (hty : ∀ k, k < N → parseFieldDescriptor (T k).2.2.1 = some (ty k)) (hcl : Cond.classLink own idx Cn ∈ gw) (hinst : Cond.instantiable Cn N ∈ gw) (hini : Cond.initialized Cn ∈ gw) (hfs : ∀ j, j < N → defaultValue (ty j) = vp_V fs j) (hcells : cells + 1 ≤ R.cells) (hslots : slots + N ≤ R.slots) (hd : decode cc pc = .ok (.new idx, 3))
    (kk : ∀ (q : Nat) (H1 : Heap), va_P D classes (ws ++ [(q, .inr (ci, fs))]) H1 → va_D A (ws ++ [(q, .inr (ci, fs))]) → va_S A s.heap H1 locs → W p l e R s m args below meth c H1 locs (cells + 1) (slots + N) Q (F0 m (pc + 3) ls (.ref q :: rest))) : W p l e R s m args below meth c H locs cells slots Q (F0 m pc ls rest) :=
  va_new C.x C.b C.ts (cl_in ci _ hc) ty hty C.ow (C.ts _ hcl) (C.ts _ hinst) (C.ts _ hini) C.k hP hD hS hA hc hfs hcells hslots hd kk
abbrev aN (cI : ClassId) (a n : Nat) (v : Nat → Nat) : Nat × va_E := (a, .inl (cI, n, .inl (fun j => nI (v j))))
abbrev aB (cB : ClassId) (a n : Nat) (t : Nat → Nat) : Nat × va_E := (a, .inl (cB, n, .inl (fun j => sb_b (t j))))
theorem newI (C : Cx p s m args meth c D cI cB cc nL own ret nm) (hA : ∀ q : Nat, s.heap.size ≤ q → A q) (hP : va_P D classes ws H) (hD : va_D A ws) (hS : va_S A s.heap H locs) {n : Nat} (hn : n ≤ 65536) (hcells : cells + 1 ≤ R.cells) (hslots : slots + n ≤ R.slots) (hd : decode cc pc = .ok (.newarray .int, 2))
    (kk : ∀ (q : Nat) (H1 : Heap), va_P D classes (ws ++ [aN cI q n (fun _ => 0)]) H1 → va_D A (ws ++ [aN cI q n (fun _ => 0)]) → va_S A s.heap H1 locs → W p l e R s m args below meth c H1 locs (cells + 1) (slots + n) Q (F0 m (pc + 2) ls (.ref q :: rest))) : W p l e R s m args below meth c H locs cells slots Q (F0 m pc ls (.int (nI n) :: rest)) := by
  refine va_newa (atype := .int) (ty := .int) (N' := n) (a0 := (n, .inl (fun _ => nI 0))) C.x C.b (C.ts _ ac_int) rfl C.k hP hD hS hA (fun cA => rfl) (nI_pos (by omega)) (nI_clamp (by omega)) (show n * 4 ≤ 536870912 by omega) hcells hslots hd (fun q cA H1 hK2 hP2 hD2 hS2 => ?_)
  have e1 : s.vm.findClass ("[" ++ FieldType.int.toString) = some cA := (hK2.2 2 _ rfl).2
  have e2 : s.vm.findClass ("[" ++ FieldType.int.toString) = some cI := (C.k.2 0 _ rfl).2
  obtain rfl : cA = cI := Option.some.inj (e1.symm.trans e2)
  exact kk q H1 hP2 hD2 hS2
theorem newB (C : Cx p s m args meth c D cI cB cc nL own ret nm) (hA : ∀ q : Nat, s.heap.size ≤ q → A q) (hP : va_P D classes ws H) (hD : va_D A ws) (hS : va_S A s.heap H locs) {n : Nat} (hn : n ≤ 65536) (hcells : cells + 1 ≤ R.cells) (hslots : slots + n ≤ R.slots) (hd : decode cc pc = .ok (.newarray .byte, 2))
    (kk : ∀ (q : Nat) (H1 : Heap), va_P D classes (ws ++ [aB cB q n (fun _ => 0)]) H1 → va_D A (ws ++ [aB cB q n (fun _ => 0)]) → va_S A s.heap H1 locs → W p l e R s m args below meth c H1 locs (cells + 1) (slots + n) Q (F0 m (pc + 2) ls (.ref q :: rest))) : W p l e R s m args below meth c H locs cells slots Q (F0 m pc ls (.int (nI n) :: rest)) := by
  refine va_newa (atype := .byte) (ty := .byte) (N' := n) (a0 := (n, .inl (fun _ => sb_b 0))) C.x C.b (C.ts _ ac_byte) rfl C.k hP hD hS hA (fun cA => rfl) (nI_pos (by omega)) (nI_clamp (by omega)) (show n * 1 ≤ 536870912 by omega) hcells hslots hd (fun q cA H1 hK2 hP2 hD2 hS2 => ?_)
  have e1 : s.vm.findClass ("[" ++ FieldType.byte.toString) = some cA := (hK2.2 2 _ rfl).2
  have e2 : s.vm.findClass ("[" ++ FieldType.byte.toString) = some cB := (C.k.2 1 _ rfl).2
  obtain rfl : cA = cB := Option.some.inj (e1.symm.trans e2)
  exact kk q H1 hP2 hD2 hS2
/-- arrays -/
theorem up_nI (v : Nat → Nat) (k x : Nat) : upd (fun j => nI (v j)) k (nI x) = fun j => nI (va_up v k x j) := by
  funext j
  unfold upd va_up
  split <;> rfl
theorem up_sb (t : Nat → Nat) (k x : Nat) : upd (fun j => sb_b (t j)) k (sb_b x) = fun j => sb_b (va_up t k x j) := by
  funext j
  unfold upd va_up
  split <;> rfl
theorem ild {a n k : Nat} {v : Nat → Nat} (C : Cx p s m args meth c D cI cB cc nL own ret nm) (hP : va_P D classes ws H) (q0 : Nat) (he : ws[q0]? = some (aN cI a n v)) (hk : k < n) (hn : n < 2 ^ 31) (hd : decode cc pc = .ok (.iaload, 1))
    (kk : W p l e R s m args below meth c H locs cells slots Q (F0 m (pc + 1) ls (.int (nI (v k)) :: rest))) : W p l e R s m args below meth c H locs cells slots Q (F0 m pc ls (.int (nI k) :: .ref a :: rest)) := by
  refine va_iald C.x C.b C.k hP q0 0 he rfl (vp_in_nI hk hn) hd ?_
  rw [nI_clamp (Nat.lt_trans hk hn)]
  exact kk
theorem bld {a n k : Nat} {t : Nat → Nat} (C : Cx p s m args meth c D cI cB cc nL own ret nm) (hP : va_P D classes ws H) (q0 : Nat) (he : ws[q0]? = some (aB cB a n t)) (hk : k < n) (hn : n < 2 ^ 31) (hd : decode cc pc = .ok (.baload, 1))
    (kk : W p l e R s m args below meth c H locs cells slots Q (F0 m (pc + 1) ls (.int (sb_b (t k)) :: rest))) : W p l e R s m args below meth c H locs cells slots Q (F0 m pc ls (.int (nI k) :: .ref a :: rest)) := by
  refine va_bald C.x C.b C.k hP q0 1 he rfl (vp_in_nI hk hn) hd ?_
  rw [nI_clamp (Nat.lt_trans hk hn)]
  exact kk
theorem ist {a n k x : Nat} {v : Nat → Nat} {w2 : va_W} (C : Cx p s m args meth c D cI cB cc nL own ret nm) (hP : va_P D classes ws H) (hD : va_D A ws) (hS : va_S A s.heap H locs) (q0 : Nat) (he : ws[q0]? = some (aN cI a n v)) (hk : k < n) (hn : n < 2 ^ 31) (hw : ws.set q0 (aN cI a n (va_up v k x)) = w2) (hd : decode cc pc = .ok (.iastore, 1))
    (kk : ∀ (H1 : Heap) (locs1 : List Loc), va_P D classes w2 H1 → va_D A w2 → va_S A s.heap H1 locs1 → W p l e R s m args below meth c H1 locs1 cells slots Q (F0 m (pc + 1) ls rest)) : W p l e R s m args below meth c H locs cells slots Q (F0 m pc ls (.int (nI x) :: .int (nI k) :: .ref a :: rest)) := by
  subst hw
  refine va_iast C.x C.b C.k hP hD hS q0 0 he rfl (vp_in_nI hk hn) hd ?_
  rw [nI_clamp (Nat.lt_trans hk hn), up_nI]
  exact kk
theorem bst {a n k x : Nat} {t : Nat → Nat} {w2 : va_W} (C : Cx p s m args meth c D cI cB cc nL own ret nm) (hP : va_P D classes ws H) (hD : va_D A ws) (hS : va_S A s.heap H locs) (q0 : Nat) (he : ws[q0]? = some (aB cB a n t)) (hk : k < n) (hn : n < 2 ^ 31) (hw : ws.set q0 (aB cB a n (va_up t k x)) = w2) (hd : decode cc pc = .ok (.bastore, 1))
    (kk : ∀ (H1 : Heap) (locs1 : List Loc), va_P D classes w2 H1 → va_D A w2 → va_S A s.heap H1 locs1 → W p l e R s m args below meth c H1 locs1 cells slots Q (F0 m (pc + 1) ls rest)) : W p l e R s m args below meth c H locs cells slots Q (F0 m pc ls (.int (sb_b x) :: .int (nI k) :: .ref a :: rest)) := by
  subst hw
  refine va_bast C.x C.b C.k hP hD hS q0 1 he rfl (vp_in_nI hk hn) hd ?_
  rw [nI_clamp (Nat.lt_trans hk hn), show vp_nar .byte (sb_b x) = sb_b x from pk_vb (nI x), up_sb]
  exact kk
theorem alB {a n : Nat} {t : Nat → Nat} (C : Cx p s m args meth c D cI cB cc nL own ret nm) (hP : va_P D classes ws H) (q0 : Nat) (he : ws[q0]? = some (aB cB a n t)) (hd : decode cc pc = .ok (.arraylength, 1))
    (kk : W p l e R s m args below meth c H locs cells slots Q (F0 m (pc + 1) ls (.int (nI n) :: rest))) : W p l e R s m args below meth c H locs cells slots Q (F0 m pc ls (.ref a :: rest)) := va_alen C.x C.b C.k hP q0 1 he rfl rfl hd kk
theorem alI {a n : Nat} {v : Nat → Nat} (C : Cx p s m args meth c D cI cB cc nL own ret nm) (hP : va_P D classes ws H) (q0 : Nat) (he : ws[q0]? = some (aN cI a n v)) (hd : decode cc pc = .ok (.arraylength, 1))
    (kk : W p l e R s m args below meth c H locs cells slots Q (F0 m (pc + 1) ls (.int (nI n) :: rest))) : W p l e R s m args below meth c H locs cells slots Q (F0 m pc ls (.ref a :: rest)) := va_alen C.x C.b C.k hP q0 0 he rfl rfl hd kk
/-- System.arraycopy from 0 to 0 -/
def cpN (f g : Nat → Nat) (n : Nat) : Nat → Nat := fun j => if j < n then f j else g j
theorem cp_eq {α : Type} (h : Nat → α) (f g : Nat → Nat) (n : Nat) : va_cpy (fun j => h (f j)) (fun j => h (g j)) 0 0 n = fun j => h (cpN f g n j) := by
  funext j
  unfold va_cpy cpN
  by_cases hj : j < n
  · rw [if_pos ⟨Nat.zero_le _, by omega⟩, if_pos hj]
    simp
  · rw [if_neg (by omega), if_neg hj]
theorem cpyB {a a0 n0 n1 n : Nat} {f g : Nat → Nat} {w2 : va_W} (C : Cx p s m args meth c D cI cB cc nL own ret nm) (hP : va_P D classes ws H) (hD : va_D A ws) (hS : va_S A s.heap H locs) (hl : ls.size = nL) (hlink : Cond.methodLink own idx arraycopyName ∈ gw) (q0 q1 : Nat) (h0 : ws[q0]? = some (aB cB a0 n0 f)) (h1 : ws[q1]? = some (aB cB a n1 g)) (hn0 : n ≤ n0) (hn1 : n ≤ n1) (hn : n < 2 ^ 31) (hw : ws.set q1 (aB cB a n1 (cpN f g n)) = w2) (hfr : 1 ≤ R.frames) (hlo : (rest.map fun v => v.category).sum + (nativeFrameWords "java/lang/System" "arraycopy" 5 + 11) ≤ R.locals) (hd : decode cc pc = .ok (.invokestatic idx, 3))
    (kk : ∀ (H1 : Heap) (locs1 : List Loc), va_P D classes w2 H1 → va_D A w2 → va_S A s.heap H1 locs1 → W p l e R s m args below meth c H1 locs1 cells slots Q (F0 m (pc + 3) ls rest)) : W p l e R s m args below meth c H locs cells slots Q (F0 m pc ls (.int (nI n) :: .int (nI 0) :: .ref a :: .int (nI 0) :: .ref a0 :: rest)) := by
  subst hw
  have z : (nI 0).toNatClampNeg = 0 := rfl
  refine va_copyi C.x C.b (C.ml.trans hl.symm) C.ow (C.ts _ hlink) (C.ts _ nat_copy) (C.ts _ st_copy) (C.ts _ in_Sys) C.k hP hD hS q0 q1 1 1 h0 h1 rfl rfl rfl (by decide) (by decide) (nI_pos hn) (by rw [z, nI_clamp hn]; omega) (by rw [z, nI_clamp hn]; omega) (fun i _ => sb_fitB _) hfr hlo hd ?_
  rw [z, nI_clamp hn, cp_eq]
  exact kk
theorem cpyI {a a0 n0 n1 n : Nat} {f g : Nat → Nat} {w2 : va_W} (C : Cx p s m args meth c D cI cB cc nL own ret nm) (hP : va_P D classes ws H) (hD : va_D A ws) (hS : va_S A s.heap H locs) (hl : ls.size = nL) (hlink : Cond.methodLink own idx arraycopyName ∈ gw) (q0 q1 : Nat) (h0 : ws[q0]? = some (aN cI a0 n0 f)) (h1 : ws[q1]? = some (aN cI a n1 g)) (hn0 : n ≤ n0) (hn1 : n ≤ n1) (hn : n < 2 ^ 31) (hw : ws.set q1 (aN cI a n1 (cpN f g n)) = w2) (hfr : 1 ≤ R.frames) (hlo : (rest.map fun v => v.category).sum + (nativeFrameWords "java/lang/System" "arraycopy" 5 + 11) ≤ R.locals) (hd : decode cc pc = .ok (.invokestatic idx, 3))
    (kk : ∀ (H1 : Heap) (locs1 : List Loc), va_P D classes w2 H1 → va_D A w2 → va_S A s.heap H1 locs1 → W p l e R s m args below meth c H1 locs1 cells slots Q (F0 m (pc + 3) ls rest)) : W p l e R s m args below meth c H locs cells slots Q (F0 m pc ls (.int (nI n) :: .int (nI 0) :: .ref a :: .int (nI 0) :: .ref a0 :: rest)) := by
  subst hw
  have z : (nI 0).toNatClampNeg = 0 := rfl
  refine va_copyi C.x C.b (C.ml.trans hl.symm) C.ow (C.ts _ hlink) (C.ts _ nat_copy) (C.ts _ st_copy) (C.ts _ in_Sys) C.k hP hD hS q0 q1 0 0 h0 h1 rfl rfl rfl (by decide) (by decide) (nI_pos hn) (by rw [z, nI_clamp hn]; omega) (by rw [z, nI_clamp hn]; omega) (fun i _ => rfl) hfr hlo hd ?_
  rw [z, nI_clamp hn, cp_eq]
  exact kk
end FR
end
section
/-! numbers and bits (the first two families are pasted from the kit's laws/BITS.to-paste) -/
/-! ===== Int32 by its bits: bt x i ===== -/
def bt (x : Int32) (i : Nat) : Bool := x.toBitVec.getLsbD i
theorem b_ext {x y : Int32} (h : ∀ i, i < 32 → bt x i = bt y i) : x = y := Int32.toBitVec_inj.mp (BitVec.eq_of_getLsbD_eq (fun i hi => h i hi))
theorem b_or (x y : Int32) (i : Nat) : bt (x ||| y) i = (bt x i || bt y i) := by unfold bt; rw [Int32.toBitVec_or, BitVec.getLsbD_or]
theorem b_and (x y : Int32) (i : Nat) : bt (x &&& y) i = (bt x i && bt y i) := by unfold bt; rw [Int32.toBitVec_and, BitVec.getLsbD_and]
theorem b_xor (x y : Int32) (i : Nat) : bt (x ^^^ y) i = (bt x i ^^ bt y i) := by unfold bt; rw [Int32.toBitVec_xor, BitVec.getLsbD_xor]
theorem b_big {x : Int32} {i : Nat} (h : 32 ≤ i) : bt x i = false := BitVec.getLsbD_of_ge _ _ h
theorem b_255 (i : Nat) : bt 255 i = decide (i < 8) := by
  rcases Nat.lt_or_ge i 32 with h | h
  · exact (by decide +kernel : ∀ i, i < 32 → bt 255 i = decide (i < 8)) i h
  · rw [b_big h, decide_eq_false (by omega)]
theorem b_65535 (i : Nat) : bt 65535 i = decide (i < 16) := by
  rcases Nat.lt_or_ge i 32 with h | h
  · exact (by decide +kernel : ∀ i, i < 32 → bt 65535 i = decide (i < 16)) i h
  · rw [b_big h, decide_eq_false (by omega)]
theorem b_m1 : ∀ i, i < 32 → bt (-1) i = true := by decide +kernel
theorem b_0 (i : Nat) : bt 0 i = false := BitVec.getLsbD_zero
theorem s_l : ∀ n, n < 32 → ((nI n &&& 31).toBitVec.smod 32).toNat = n := by decide +kernel
theorem s_u : ∀ n, n < 32 → (((nI n).toUInt32 &&& Int32.toUInt32 31).toBitVec % 32).toNat = n := by decide +kernel
theorem b_shl (n : Nat) (hn : n < 32) (x : Int32) {i : Nat} (hi : i < 32) : bt (x <<< (nI n &&& 31)) i = (decide (n ≤ i) && bt x (i - n)) := by
  unfold bt
  rw [Int32.toBitVec_shiftLeft]
  show (x.toBitVec <<< ((nI n &&& 31).toBitVec.smod 32).toNat).getLsbD i = _
  rw [s_l n hn, BitVec.getLsbD_shiftLeft]
  rcases Nat.lt_or_ge i n with h | h
  · simp [h, Nat.not_le.mpr h]
  · simp [hi, h, Nat.not_lt.mpr h]
theorem b_ushr (n : Nat) (hn : n < 32) (x : Int32) (i : Nat) : bt ((x.toUInt32 >>> ((nI n).toUInt32 &&& Int32.toUInt32 31)).toInt32) i = bt x (n + i) := by
  show (x.toUInt32 >>> ((nI n).toUInt32 &&& Int32.toUInt32 31)).toBitVec.getLsbD i = x.toUInt32.toBitVec.getLsbD (n + i)
  rw [UInt32.toBitVec_shiftRight]
  show (x.toUInt32.toBitVec >>> (((nI n).toUInt32 &&& Int32.toUInt32 31).toBitVec % 32).toNat).getLsbD i = _
  rw [s_u n hn, BitVec.getLsbD_ushiftRight]
theorem b_sshr (n : Nat) (hn : n < 32) (x : Int32) {i : Nat} (hi : i < 32) : bt (x >>> (nI n &&& 31)) i = if n + i < 32 then bt x (n + i) else bt x 31 := by
  unfold bt
  rw [Int32.toBitVec_shiftRight]
  show (x.toBitVec.sshiftRight ((nI n &&& 31).toBitVec.smod 32).toNat).getLsbD i = _
  rw [s_l n hn, BitVec.getLsbD_sshiftRight, BitVec.msb_eq_getLsbD_last]
  simp [hi]
theorem b_shl8 (x : Int32) {i : Nat} (hi : i < 32) : bt (x <<< ((8 : Int32) &&& 31)) i = (decide (8 ≤ i) && bt x (i - 8)) := b_shl 8 (by omega) x hi
theorem b_shl16 (x : Int32) {i : Nat} (hi : i < 32) : bt (x <<< ((16 : Int32) &&& 31)) i = (decide (16 ≤ i) && bt x (i - 16)) := b_shl 16 (by omega) x hi
theorem b_shl24 (x : Int32) {i : Nat} (hi : i < 32) : bt (x <<< ((24 : Int32) &&& 31)) i = (decide (24 ≤ i) && bt x (i - 24)) := b_shl 24 (by omega) x hi
theorem b_sshr8 (x : Int32) {i : Nat} (hi : i < 32) : bt (x >>> ((8 : Int32) &&& 31)) i = if 8 + i < 32 then bt x (8 + i) else bt x 31 := b_sshr 8 (by omega) x hi
/-! ===== lN n to 2^64: shifts, and, or, masks, one bit ===== -/
theorem wb_tb (n : Nat) : (lN n).toBitVec = BitVec.ofNat 64 n := rfl
theorem wb_inj {a b : Int64} (h : a.toBitVec = b.toBitVec) : a = b := Int64.toBitVec_inj.mp h
theorem wb_tn {n : Nat} (h : n < 2 ^ 64) : (lN n).toBitVec.toNat = n := by rw [wb_tb, BitVec.toNat_ofNat, Nat.mod_eq_of_lt h]
theorem wb_of (x : Int64) : ∃ n, n < 2 ^ 64 ∧ x = lN n := ⟨x.toBitVec.toNat, x.toBitVec.isLt, wb_inj (by rw [wb_tb]; simp)⟩
theorem wb_of32 (x : Int32) : ∃ n, n < 2 ^ 32 ∧ x = nI n := ⟨x.toBitVec.toNat, x.toBitVec.isLt, Int32.toBitVec_inj.mp (by show _ = BitVec.ofNat 32 _; simp)⟩
theorem wb_c : ∀ k, k < 64 → ((nI k).toInt64 &&& 63) = lN k := by decide +kernel
theorem wb_cu : ∀ k, k < 64 → ((nI k).toInt64.toUInt64 &&& Int64.toUInt64 63) = UInt64.ofNat k := by decide +kernel
theorem wb_sm : ∀ k, k < 64 → (BitVec.ofNat 64 k).smod 64 = BitVec.ofNat 64 k := by decide +kernel
theorem wb_pw {a b : Nat} (h : a ≤ b) : 2 ^ b = 2 ^ a * 2 ^ (b - a) := by rw [← Nat.pow_add]; congr 1; omega
theorem wb_lt2 {a b : Nat} (h : a < b) : 2 ^ a < 2 ^ b := Nat.pow_lt_pow_right (by decide) h
theorem wb_mod (n : Nat) : lN n = lN (n % 2 ^ 64) := wb_inj (by rw [wb_tb, wb_tb]; apply BitVec.eq_of_toNat_eq; rw [BitVec.toNat_ofNat, BitVec.toNat_ofNat, Nat.mod_mod])
theorem wb_shr {n k : Nat} (hn : n < 2 ^ 64) (hk : k < 64) : ((lN n).toUInt64 >>> ((nI k).toInt64.toUInt64 &&& Int64.toUInt64 63)).toInt64 = lN (n / 2 ^ k) := by
  rw [wb_cu k hk]
  apply wb_inj
  apply BitVec.eq_of_toNat_eq
  show ((lN n).toUInt64 >>> UInt64.ofNat k).toNat = (BitVec.ofNat 64 _).toNat
  have h1 : (UInt64.ofNat k).toNat = k := by
    show (BitVec.ofNat 64 k).toNat = k
    rw [BitVec.toNat_ofNat, Nat.mod_eq_of_lt (by omega)]
  have h2 : (lN n).toUInt64.toNat = n := wb_tn hn
  rw [UInt64.toNat_shiftRight, h1, h2, Nat.mod_eq_of_lt hk, Nat.shiftRight_eq_div_pow, BitVec.toNat_ofNat, Nat.mod_eq_of_lt (Nat.lt_of_le_of_lt (Nat.div_le_self _ _) hn)]
theorem wb_shl (n : Nat) {k : Nat} (hk : k < 64) : lN n <<< ((nI k).toInt64 &&& 63) = lN (n * 2 ^ k) := by
  rw [wb_c k hk]
  apply wb_inj
  rw [Int64.toBitVec_shiftLeft, wb_tb, wb_tb, wb_tb, wb_sm k hk]
  apply BitVec.eq_of_toNat_eq
  rw [BitVec.shiftLeft_eq', BitVec.toNat_shiftLeft, BitVec.toNat_ofNat, BitVec.toNat_ofNat, BitVec.toNat_ofNat, Nat.mod_eq_of_lt (show k < 2 ^ 64 by omega), Nat.shiftLeft_eq, Nat.mul_mod, Nat.mod_mod, ← Nat.mul_mod]
theorem wb_and {a b : Nat} (ha : a < 2 ^ 64) (hb : b < 2 ^ 64) : lN a &&& lN b = lN (a &&& b) := by
  apply wb_inj
  rw [Int64.toBitVec_and, wb_tb, wb_tb, wb_tb]
  apply BitVec.eq_of_toNat_eq
  rw [BitVec.toNat_and, BitVec.toNat_ofNat, BitVec.toNat_ofNat, BitVec.toNat_ofNat, Nat.mod_eq_of_lt ha, Nat.mod_eq_of_lt hb, Nat.mod_eq_of_lt (Nat.and_lt_two_pow _ hb)]
theorem wb_or {a b : Nat} (ha : a < 2 ^ 64) (hb : b < 2 ^ 64) : lN a ||| lN b = lN (a ||| b) := by
  apply wb_inj
  rw [Int64.toBitVec_or, wb_tb, wb_tb, wb_tb]
  apply BitVec.eq_of_toNat_eq
  rw [BitVec.toNat_or, BitVec.toNat_ofNat, BitVec.toNat_ofNat, BitVec.toNat_ofNat, Nat.mod_eq_of_lt ha, Nat.mod_eq_of_lt hb, Nat.mod_eq_of_lt (Nat.or_lt_two_pow ha hb)]
theorem wb_mask {n k : Nat} (hn : n < 2 ^ 64) (hk : k < 64) : lN n &&& lN (2 ^ k - 1) = lN (n % 2 ^ k) := by
  rw [wb_and hn (by have := wb_lt2 hk; omega), Nat.and_two_pow_sub_one_eq_mod]
theorem wb_a1 {n : Nat} (hn : n < 2 ^ 64) : lN n &&& 1 = lN (n % 2) := wb_mask (k := 1) hn (by decide)
theorem wb_bit {n k : Nat} (hn : n < 2 ^ 64) (hk : k < 64) : ((lN n).toUInt64 >>> ((nI k).toInt64.toUInt64 &&& Int64.toUInt64 63)).toInt64 &&& 1 = lN (n / 2 ^ k % 2) := by
  rw [wb_shr hn hk, wb_a1 (Nat.lt_of_le_of_lt (Nat.div_le_self _ _) hn)]
/-! ===== own rows: nI and lN under the machine's operations ===== -/
theorem nI_tb (n : Nat) : (nI n).toBitVec = BitVec.ofNat 32 n := rfl
theorem nI_mod (n : Nat) : nI n = nI (n % 2 ^ 32) := Int32.toBitVec_inj.mp (by rw [nI_tb, nI_tb]; apply BitVec.eq_of_toNat_eq; rw [BitVec.toNat_ofNat, BitVec.toNat_ofNat, Nat.mod_mod])
theorem nI_inj {a b : Nat} (ha : a < 2 ^ 32) (hb : b < 2 ^ 32) : nI a = nI b ↔ a = b := by
  constructor
  · intro h
    have h2 : (nI a).toBitVec.toNat = (nI b).toBitVec.toNat := by rw [h]
    rw [nI_tb, nI_tb, BitVec.toNat_ofNat, BitVec.toNat_ofNat, Nat.mod_eq_of_lt ha, Nat.mod_eq_of_lt hb] at h2
    exact h2
  · intro h; rw [h]
theorem ni_and (a b : Nat) : nI a &&& nI b = nI ((a % 2 ^ 32) &&& (b % 2 ^ 32)) := by
  apply Int32.toBitVec_inj.mp
  rw [Int32.toBitVec_and, nI_tb, nI_tb, nI_tb]
  apply BitVec.eq_of_toNat_eq
  rw [BitVec.toNat_and, BitVec.toNat_ofNat, BitVec.toNat_ofNat, BitVec.toNat_ofNat, Nat.mod_eq_of_lt (Nat.and_lt_two_pow _ (Nat.mod_lt _ (by decide)))]
theorem ni_mask (n k : Nat) (hk : k ≤ 31) : nI n &&& nI (2 ^ k - 1) = nI (n % 2 ^ k) := by
  have h1 : 2 ^ k ≤ 2 ^ 31 := Nat.pow_le_pow_right (by decide) hk
  rw [ni_and, Nat.mod_eq_of_lt (show 2 ^ k - 1 < 2 ^ 32 by omega), Nat.and_two_pow_sub_one_eq_mod, Nat.mod_mod_of_dvd _ (Nat.pow_dvd_pow 2 (by omega))]
theorem ni_255 (n : Nat) : nI n &&& nI 255 = nI (n % 256) := ni_mask n 8 (by decide)
theorem ni_127 (n : Nat) : nI n &&& nI 127 = nI (n % 128) := ni_mask n 7 (by decide)
theorem ni_15 (n : Nat) : nI n &&& nI 15 = nI (n % 16) := ni_mask n 4 (by decide)
theorem ni_1 (n : Nat) : nI n &&& nI 1 = nI (n % 2) := ni_mask n 1 (by decide)
theorem ni_or {a b : Nat} (ha : a < 2 ^ 32) (hb : b < 2 ^ 32) : nI a ||| nI b = nI (a ||| b) := by
  apply Int32.toBitVec_inj.mp
  rw [Int32.toBitVec_or, nI_tb, nI_tb, nI_tb]
  apply BitVec.eq_of_toNat_eq
  rw [BitVec.toNat_or, BitVec.toNat_ofNat, BitVec.toNat_ofNat, BitVec.toNat_ofNat, Nat.mod_eq_of_lt ha, Nat.mod_eq_of_lt hb, Nat.mod_eq_of_lt (Nat.or_lt_two_pow ha hb)]
theorem or_sum {a b k : Nat} (ha : a < 2 ^ k) : a ||| b * 2 ^ k = a + b * 2 ^ k := by
  rw [Nat.or_comm, Nat.mul_comm, ← Nat.two_pow_add_eq_or_of_lt ha, Nat.add_comm]
theorem ni_orS {a b k : Nat} (ha : a < 2 ^ k) (h : a + b * 2 ^ k < 2 ^ 32) : nI a ||| nI (b * 2 ^ k) = nI (a + b * 2 ^ k) := by
  rw [ni_or (by omega) (by omega), or_sum ha]
theorem lN_orS {a b k : Nat} (ha : a < 2 ^ k) (h : a + b * 2 ^ k < 2 ^ 64) : lN a ||| lN (b * 2 ^ k) = lN (a + b * 2 ^ k) := by
  rw [wb_or (by omega) (by omega), or_sum ha]
theorem ni_shl (n : Nat) {k : Nat} (hk : k < 32) : nI n <<< (nI k &&& 31) = nI (n * 2 ^ k) := by
  apply Int32.toBitVec_inj.mp
  apply BitVec.eq_of_toNat_eq
  rw [pk_shl (nI n) _ k (s_l k hk), nI_tb, nI_tb, BitVec.toNat_ofNat, BitVec.toNat_ofNat, Nat.mul_mod, Nat.mod_mod, ← Nat.mul_mod]
theorem ni_ushr {n k : Nat} (hn : n < 2 ^ 32) (hk : k < 32) : ((nI n).toUInt32 >>> ((nI k).toUInt32 &&& Int32.toUInt32 31)).toInt32 = nI (n / 2 ^ k) := pk_ushrN hn (nI k) k (s_u k hk)
theorem ni_shr {n k : Nat} (hn : n < 2 ^ 31) (hk : k < 32) : nI n >>> (nI k &&& 31) = nI (n / 2 ^ k) := pk_shrN hn _ k (s_l k hk)
/-- a signed shift, its low byte -/
theorem ni_sshr {n k : Nat} (hn : n < 2 ^ 32) (hk : k ≤ 24) : ∃ c : Nat, c < 2 ^ 32 ∧ nI n >>> (nI k &&& 31) = nI c ∧ c % 256 = n / 2 ^ k % 256 := by
  refine ⟨(nI n >>> (nI k &&& 31)).toBitVec.toNat, BitVec.isLt _, ?_, ?_⟩
  · apply Int32.toBitVec_inj.mp
    rw [nI_tb]
    simp
  · apply Nat.eq_of_testBit_eq
    intro i
    rw [show (256 : Nat) = 2 ^ 8 from rfl, Nat.testBit_mod_two_pow, Nat.testBit_mod_two_pow, Nat.testBit_div_two_pow]
    by_cases hi : i < 8
    · have h1 := b_sshr k (by omega) (nI n) (i := i) (by omega)
      rw [if_pos (by omega)] at h1
      have h2 : (nI n >>> (nI k &&& 31)).toBitVec.toNat.testBit i = bt (nI n >>> (nI k &&& 31)) i := rfl
      have h3 : bt (nI n) (k + i) = n.testBit (k + i) := by
        show (BitVec.ofNat 32 n).getLsbD (k + i) = _
        rw [BitVec.getLsbD_ofNat]
        simp [show k + i < 32 by omega]
      rw [h2, h1, h3, Nat.add_comm]
    · simp [hi]
theorem l_mask32 {n : Nat} (hn : n < 2 ^ 32) : (nI n).toInt64 &&& lN 4294967295 = lN n := by
  apply wb_inj
  rw [Int64.toBitVec_and, wb_tb, wb_tb]
  apply BitVec.eq_of_toNat_eq
  have e : (nI n).toInt64.toBitVec = (BitVec.ofNat 32 n).signExtend 64 := rfl
  rw [e, BitVec.toNat_and, BitVec.toNat_ofNat, BitVec.toNat_ofNat, Nat.mod_eq_of_lt (show 4294967295 < 2 ^ 64 by decide), show (4294967295 : Nat) = 2 ^ 32 - 1 from rfl, Nat.and_two_pow_sub_one_eq_mod, Nat.mod_eq_of_lt (show n < 2 ^ 64 by omega)]
  apply Nat.eq_of_testBit_eq
  intro i
  rw [Nat.testBit_mod_two_pow]
  by_cases hi : i < 32
  · have h2 : ((BitVec.ofNat 32 n).signExtend 64).toNat.testBit i = ((BitVec.ofNat 32 n).signExtend 64).getLsbD i := rfl
    rw [h2, BitVec.getLsbD_signExtend, BitVec.getLsbD_ofNat]
    simp [hi, show i < 64 by omega]
  · rw [Nat.testBit_lt_two_pow (show n < 2 ^ i from Nat.lt_of_lt_of_le hn (Nat.pow_le_pow_right (by decide) (by omega)))]
    simp [hi]
theorem sb_mod (c : Nat) : sb_b (c % 256) = sb_b c := by
  show (nI (c % 256)).toInt8.toInt32 = (nI c).toInt8.toInt32
  congr 1
  apply Int8.toBitVec_inj.mp
  rw [Int32.toBitVec_toInt8, Int32.toBitVec_toInt8, BitVec.signExtend_eq_setWidth_of_le _ (by decide), BitVec.signExtend_eq_setWidth_of_le _ (by decide), nI_tb, nI_tb]
  apply BitVec.eq_of_toNat_eq
  rw [BitVec.toNat_setWidth, BitVec.toNat_setWidth, BitVec.toNat_ofNat, BitVec.toNat_ofNat]
  omega
theorem sb_255 {c : Nat} (hc : c < 256) : sb_b c &&& nI 255 = nI c := (sb_byte c hc).1
theorem nI_subS {a b : Nat} (h : b ≤ a) : nI a - nI b = nI (a - b) := pk_sub h
theorem nI_dec (n : Nat) : nI (n + 1) + Int32.ofInt (-1) = nI n := pk_m1 n
theorem nI_dec8 (n : Nat) : nI (n + 8) + Int32.ofInt (-8) = nI n := by
  rw [← nI_add, show Int32.ofInt (-8) = -(nI 8) from by decide, Int32.add_assoc, Int32.add_right_neg, Int32.add_zero]
theorem nI_inc (n k : Nat) : nI n + Int32.ofInt (k : Int) = nI (n + k) := nI_add n k
end
section
/-! the pure part: streams of bits, lists of bytes, the encoder's and the decoder's answers, in plain numbers -/
/-- n bits of a stream from p on, as a number -/
def bs (f : Nat → Bool) (p : Nat) : Nat → Nat
  | 0 => 0
  | n + 1 => bs f p n + (f (p + n)).toNat * 2 ^ n
theorem bs_lt (f : Nat → Bool) (p n : Nat) : bs f p n < 2 ^ n := by
  induction n with
  | zero => simp [bs]
  | succ n ih =>
    have h : (f (p + n)).toNat ≤ 1 := Bool.toNat_le _
    have h2 : (f (p + n)).toNat * 2 ^ n ≤ 1 * 2 ^ n := Nat.mul_le_mul_right _ h
    show bs f p n + _ < 2 ^ (n + 1)
    rw [Nat.pow_succ]
    omega
theorem bs_app (f : Nat → Bool) (p m n : Nat) : bs f p (m + n) = bs f p m + bs f (p + m) n * 2 ^ m := by
  induction n with
  | zero => simp [bs]
  | succ n ih =>
    show bs f p (m + n) + (f (p + (m + n))).toNat * 2 ^ (m + n) = _ + (bs f (p + m) n + (f (p + m + n)).toNat * 2 ^ n) * 2 ^ m
    rw [ih, Nat.add_mul, Nat.add_assoc p m n, Nat.mul_assoc, ← Nat.pow_add, Nat.add_comm n m, Nat.add_assoc]
theorem bs_mod (f : Nat → Bool) (p : Nat) {m n : Nat} (h : m ≤ n) : bs f p n % 2 ^ m = bs f p m := by
  obtain ⟨k, rfl⟩ := Nat.exists_eq_add_of_le h
  rw [bs_app, Nat.add_mul_mod_self_right, Nat.mod_eq_of_lt (bs_lt f p m)]
theorem bs_div (f : Nat → Bool) (p : Nat) {m n : Nat} (h : m ≤ n) : bs f p n / 2 ^ m = bs f (p + m) (n - m) := by
  obtain ⟨k, rfl⟩ := Nat.exists_eq_add_of_le h
  rw [bs_app, Nat.add_mul_div_right _ _ (Nat.two_pow_pos m), Nat.div_eq_of_lt (bs_lt f p m), Nat.zero_add, Nat.add_sub_cancel_left]
theorem bs_word (g : Nat → Nat) (w j : Nat) : ∀ n, n ≤ w → bs (fun p => (g (p / w)).testBit (p % w)) (w * j) n = g j % 2 ^ n := by
  intro n
  induction n with
  | zero => intro _; simp [bs, Nat.mod_one]
  | succ n ih =>
    intro h
    show bs _ (w * j) n + ((g ((w * j + n) / w)).testBit ((w * j + n) % w)).toNat * 2 ^ n = _
    rw [ih (by omega), Nat.mul_add_mod, Nat.mul_add_div (by omega), Nat.div_eq_of_lt (by omega : n < w), Nat.mod_eq_of_lt (by omega : n < w), Nat.add_zero, Nat.toNat_testBit, Nat.mod_pow_succ, Nat.mul_comm (2 ^ n)]
theorem bs_congr {f g : Nat → Bool} {p q : Nat} : ∀ {n : Nat}, (∀ i, i < n → f (p + i) = g (q + i)) → bs f p n = bs g q n := by
  intro n
  induction n with
  | zero => intro _; rfl
  | succ n ih =>
    intro h
    show bs f p n + (f (p + n)).toNat * 2 ^ n = bs g q n + (g (q + n)).toNat * 2 ^ n
    rw [ih (fun i hi => h i (by omega)), h n (by omega)]
theorem bs_0 {f : Nat → Bool} {p : Nat} : ∀ {n : Nat}, (∀ i, i < n → f (p + i) = false) → bs f p n = 0 := by
  intro n
  induction n with
  | zero => intro _; rfl
  | succ n ih =>
    intro h
    show bs f p n + (f (p + n)).toNat * 2 ^ n = 0
    rw [ih (fun i hi => h i (by omega)), h n (by omega)]
    simp
/-- lists -/
def gt (L : List Nat) (j : Nat) : Nat := L.getD j 0
def Hd (t : Nat → Nat) (L : List Nat) : Prop := ∀ j, j < L.length → t j = gt L j
theorem gt_lo {L M : List Nat} {j : Nat} (h : j < L.length) : gt (L ++ M) j = gt L j := by
  unfold gt
  rw [List.getD_eq_getElem?_getD, List.getD_eq_getElem?_getD, List.getElem?_append_left h]
theorem gt_hi {L M : List Nat} {j : Nat} : gt (L ++ M) (L.length + j) = gt M j := by
  unfold gt
  rw [List.getD_eq_getElem?_getD, List.getD_eq_getElem?_getD, List.getElem?_append_right (by omega), Nat.add_sub_cancel_left]
theorem gt_mem {L : List Nat} {j : Nat} (h : j < L.length) : gt L j ∈ L := by
  unfold gt
  rw [List.getD_eq_getElem?_getD, List.getElem?_eq_getElem h]
  exact List.getElem_mem h
theorem gt_lt {L : List Nat} {B : Nat} (hB : 0 < B) (h : ∀ x ∈ L, x < B) (j : Nat) : gt L j < B := by
  by_cases hj : j < L.length
  · exact h _ (gt_mem hj)
  · unfold gt
    rw [List.getD_eq_getElem?_getD, List.getElem?_eq_none (by omega)]
    exact hB
theorem gt_map {f : Nat → Nat} {n j : Nat} (h : j < n) : gt ((List.range n).map f) j = f j := by
  unfold gt
  rw [List.getD_eq_getElem?_getD, List.getElem?_map, List.getElem?_range h]
  rfl
theorem Hd_nil (t : Nat → Nat) : Hd t [] := fun j h => absurd h (by simp)
theorem Hd_push {t : Nat → Nat} {L : List Nat} (h : Hd t L) (x : Nat) : Hd (va_up t L.length x) (L ++ [x]) := by
  intro j hj
  rw [List.length_append, List.length_singleton] at hj
  unfold va_up
  by_cases e : j = L.length
  · rw [if_pos e, e]
    have := gt_hi (L := L) (M := [x]) (j := 0)
    rw [Nat.add_zero] at this
    rw [this]; rfl
  · rw [if_neg e, gt_lo (by omega)]
    exact h j (by omega)
theorem Hd_cp {t g : Nat → Nat} {L : List Nat} (h : Hd t L) : Hd (cpN t g L.length) L := fun j hj => by
  unfold cpN
  rw [if_pos hj]
  exact h j hj
theorem range_push (f : Nat → Nat) (n : Nat) : (List.range (n + 1)).map f = (List.range n).map f ++ [f n] := by
  rw [List.range_succ, List.map_append]; rfl
/-- how many are the same from k on, d places left -/
def run (v : Nat → Nat) : Nat → Nat → Nat
  | 0, _ => 0
  | d + 1, k => if 0 < d ∧ v k = v (k + 1) then run v d (k + 1) + 1 else 1
theorem run_le (v : Nat → Nat) : ∀ d k, run v d k ≤ d := by
  intro d
  induction d with
  | zero => intro k; exact Nat.le_refl 0
  | succ d ih =>
    intro k
    unfold run
    split
    · have := ih (k + 1); omega
    · omega
theorem run_pos (v : Nat → Nat) {d : Nat} (h : 0 < d) (k : Nat) : 1 ≤ run v d k := by
  obtain ⟨e, rfl⟩ : ∃ e, d = e + 1 := ⟨d - 1, by omega⟩
  unfold run
  split <;> omega
theorem run_uniq (v : Nat → Nat) : ∀ d k r, r ≤ d → (0 < d → 0 < r) → (∀ j, j < r → v (k + j) = v k) → (r < d → v (k + r) ≠ v k) → r = run v d k := by
  intro d
  induction d with
  | zero => intro k r h _ _ _; unfold run; omega
  | succ d ih =>
    intro k r h hp he hn
    have h1 : 0 < r := hp (by omega)
    unfold run
    by_cases hd : 0 < d ∧ v k = v (k + 1)
    · rw [if_pos hd]
      have hr : 2 ≤ r := by
        rcases Nat.lt_or_ge r 2 with q | q
        · exfalso
          have e : r = 1 := by omega
          subst e
          exact hn (by omega) hd.2.symm
        · exact q
      have := ih (k + 1) (r - 1) (by omega) (by omega) (fun j hj => by
        have q := he (j + 1) (by omega)
        rw [show k + 1 + j = k + (j + 1) by omega, q, hd.2]) (fun hlt => by
        rw [show k + 1 + (r - 1) = k + r by omega, ← hd.2]
        exact hn (by omega))
      omega
    · rw [if_neg hd]
      rcases Nat.lt_or_ge r 2 with q | q
      · omega
      · exfalso
        exact hd ⟨by omega, (he 1 (by omega)).symm⟩
/-- the end of the groups from e on -/
def gE (v : Nat → Nat) (n : Nat) : Nat → Nat → Nat
  | 0, e => e
  | f + 1, e => if e < n ∧ run v (n - e) e < 8 then gE v n f (e + 8) else e
theorem gE_spec (v : Nat → Nat) (n : Nat) : ∀ f e, e ≤ gE v n f e ∧ (gE v n f e - e) % 8 = 0 ∧ (e < n + 8 → gE v n f e < n + 8) := by
  intro f
  induction f with
  | zero => intro e; unfold gE; omega
  | succ f ih =>
    intro e
    unfold gE
    split
    · have := ih (e + 8)
      omega
    · omega
/-- a number below 2^14, in sevens -/
def vi (x : Nat) : List Nat := if x < 128 then [x] else [x % 128 + 128, x / 128]
def fx (x nb : Nat) : List Nat := (List.range nb).map (fun i => x / 2 ^ (8 * i) % 256)
def vb (v : Nat → Nat) (n w k : Nat) (p : Nat) : Bool := decide (k + p / w < n) && (v (k + p / w)).testBit (p % w)
def pkL (v : Nat → Nat) (n w k e : Nat) : List Nat := (List.range e).map (fun t => bs (vb v n w k) (8 * t) 8)
def eg (v : Nat → Nat) (n k : Nat) : Nat := (gE v n n (k + 8) - k) / 8
theorem eg_spec (v : Nat → Nat) (n k : Nat) : gE v n n (k + 8) = k + 8 * eg v n k ∧ 1 ≤ eg v n k ∧ (k < n → k + 8 * eg v n k < n + 8) := by
  have h := gE_spec v n n (k + 8)
  unfold eg
  omega
/-- the encoder's bytes from k on -/
def encF (v : Nat → Nat) (n w : Nat) : Nat → Nat → List Nat
  | 0, _ => []
  | f + 1, k => if k < n then
      (if 8 ≤ run v (n - k) k then vi (2 * run v (n - k) k) ++ fx (v k) ((w + 7) / 8) ++ encF v n w f (k + run v (n - k) k)
       else vi (2 * eg v n k + 1) ++ pkL v n w k (w * eg v n k) ++ encF v n w f (k + 8 * eg v n k))
    else []
theorem vi_len (x : Nat) : (vi x).length ≤ 2 := by unfold vi; split <;> simp
theorem fx_len (x nb : Nat) : (fx x nb).length = nb := by simp [fx]
theorem pkL_len (v : Nat → Nat) (n w k e : Nat) : (pkL v n w k e).length = e := by simp [pkL]
theorem encF_len (v : Nat → Nat) {n w : Nat} (hw : w ≤ 32) : ∀ f k, k ≤ n + 7 → 8 * (encF v n w f k).length ≤ 34 * (n + 7 - k) := by
  intro f
  induction f with
  | zero => intro k _; simp [encF]
  | succ f ih =>
    intro k hk
    unfold encF
    split
    · rename_i hkn
      split
      · rename_i h8
        have h1 := run_le v (n - k) k
        have h2 := ih (k + run v (n - k) k) (by omega)
        have h3 := vi_len (2 * run v (n - k) k)
        rw [List.length_append, List.length_append, fx_len]
        omega
      · have h1 := eg_spec v n k
        have h2 := ih (k + 8 * eg v n k) (by omega)
        have h3 := vi_len (2 * eg v n k + 1)
        have h4 : w * eg v n k ≤ 32 * eg v n k := Nat.mul_le_mul_right _ hw
        rw [List.length_append, List.length_append, pkL_len]
        omega
    · simp
theorem vi_byte {x : Nat} (h : x < 16384) : ∀ b ∈ vi x, b < 256 := by
  intro b hb
  unfold vi at hb
  split at hb
  · simp at hb; omega
  · simp at hb; omega
theorem fx_byte (x nb : Nat) : ∀ b ∈ fx x nb, b < 256 := by
  intro b hb
  unfold fx at hb
  obtain ⟨i, _, rfl⟩ := List.mem_map.mp hb
  exact Nat.mod_lt _ (by decide)
theorem pkL_byte (v : Nat → Nat) (n w k e : Nat) : ∀ b ∈ pkL v n w k e, b < 256 := by
  intro b hb
  unfold pkL at hb
  obtain ⟨i, _, rfl⟩ := List.mem_map.mp hb
  exact bs_lt _ _ 8
theorem encF_byte (v : Nat → Nat) {n w : Nat} (hn : n ≤ 4096) : ∀ f k, ∀ b ∈ encF v n w f k, b < 256 := by
  intro f
  induction f with
  | zero => intro k b hb; simp [encF] at hb
  | succ f ih =>
    intro k b hb
    unfold encF at hb
    split at hb
    · rename_i hkn
      have h1 := run_le v (n - k) k
      have h2 := eg_spec v n k
      split at hb
      · rcases List.mem_append.mp hb with hb | hb
        · rcases List.mem_append.mp hb with hb | hb
          · exact vi_byte (by omega) b hb
          · exact fx_byte _ _ b hb
        · exact ih _ b hb
      · rcases List.mem_append.mp hb with hb | hb
        · rcases List.mem_append.mp hb with hb | hb
          · exact vi_byte (by omega) b hb
          · exact pkL_byte _ _ _ _ _ b hb
        · exact ih _ b hb
    · simp at hb
/-- reading: bits of bytes -/
def ib (t : Nat → Nat) (q : Nat) : Bool := (t (q / 8)).testBit (q % 8)
theorem ib_byte {t : Nat → Nat} {a : Nat} (h : t a < 256) : bs (ib t) (8 * a) 8 = t a := by
  have := bs_word t 8 a 8 (by omega)
  rw [Nat.mod_eq_of_lt h] at this
  exact this
/-- a varint from a on: (fault, place, value) -/
def vr (t : Nat → Nat) (E : Nat) : Nat → Nat → Nat → Nat → Nat × Nat × Nat
  | 0, _, a, acc => (0, a, acc)
  | d + 1, i, a, acc => if E ≤ a then (1, a, 0) else if (i = 9 ∧ 1 < t a) ∨ (0 < i ∧ t a = 0) then (2, a + 1, 0)
      else if t a < 128 then (0, a + 1, acc + t a % 128 * 2 ^ (7 * i)) else vr t E d (i + 1) (a + 1) (acc + t a % 128 * 2 ^ (7 * i))
/-- has a number behind the row's end a bit that is set? -/
def bad (t : Nat → Nat) (p w k n : Nat) : Nat → Bool
  | 0 => false
  | i + 1 => bad t p w k n i || (decide (n ≤ k + i) && decide (bs (ib t) (p + w * i) w ≠ 0))
/-- the decoder from place a, number k on: (fault, place, numbers) -/
def dcF (t : Nat → Nat) (E n w : Nat) : Nat → Nat → Nat → (Nat → Nat) → Nat × Nat × (Nat → Nat)
  | 0, a, _, r => (0, a, r)
  | d + 1, a, k, r => if n ≤ k then (0, a, r) else
      if (vr t E 10 0 a 0).1 ≠ 0 then ((vr t E 10 0 a 0).1, (vr t E 10 0 a 0).2.1, r)
      else if (vr t E 10 0 a 0).2.2 / 2 = 0 then (3, (vr t E 10 0 a 0).2.1, r)
      else if (vr t E 10 0 a 0).2.2 % 2 = 0 then
        (if n - k < (vr t E 10 0 a 0).2.2 / 2 then (4, (vr t E 10 0 a 0).2.1, r)
         else if E < (vr t E 10 0 a 0).2.1 + (w + 7) / 8 then (1, (vr t E 10 0 a 0).2.1, r)
         else if bs (ib t) (8 * (vr t E 10 0 a 0).2.1) (8 * ((w + 7) / 8)) / 2 ^ w ≠ 0 then (5, (vr t E 10 0 a 0).2.1, r)
         else dcF t E n w d ((vr t E 10 0 a 0).2.1 + (w + 7) / 8) (k + (vr t E 10 0 a 0).2.2 / 2) (fun j => if k ≤ j then bs (ib t) (8 * (vr t E 10 0 a 0).2.1) (8 * ((w + 7) / 8)) else r j))
      else
        (if (n - k + 7) / 8 < (vr t E 10 0 a 0).2.2 / 2 then (4, (vr t E 10 0 a 0).2.1, r)
         else if E < (vr t E 10 0 a 0).2.1 + (vr t E 10 0 a 0).2.2 / 2 * w then (1, (vr t E 10 0 a 0).2.1, r)
         else if bad t (8 * (vr t E 10 0 a 0).2.1) w k n (8 * ((vr t E 10 0 a 0).2.2 / 2)) = true then (5, (vr t E 10 0 a 0).2.1, r)
         else dcF t E n w d ((vr t E 10 0 a 0).2.1 + (vr t E 10 0 a 0).2.2 / 2 * w) (min (k + 8 * ((vr t E 10 0 a 0).2.2 / 2)) n) (fun j => if k ≤ j then bs (ib t) (8 * (vr t E 10 0 a 0).2.1 + w * (j - k)) w else r j))
/-- the whole: fault (6: more bytes than read) and numbers -/
def dcA (t : Nat → Nat) (E n w : Nat) : Nat × (Nat → Nat) :=
  (if (dcF t E n w n 0 0 (fun _ => 0)).1 = 0 ∧ (dcF t E n w n 0 0 (fun _ => 0)).2.1 < E then 6 else (dcF t E n w n 0 0 (fun _ => 0)).1, (dcF t E n w n 0 0 (fun _ => 0)).2.2)
/-- capacity in units of 8192 -/
def gr (u n : Nat) : Nat := if n ≤ 8192 * u then u else if n ≤ 16384 * u then 2 * u else 4 * u
theorem gr_ge (u n : Nat) : u ≤ gr u n := by
  unfold gr
  repeat' split
  all_goals omega
theorem gr_mono {u n n2 : Nat} (h : n ≤ n2) : gr u n ≤ gr u n2 := by
  unfold gr
  repeat' split
  all_goals omega
theorem gr_len {u n : Nat} (h : n ≤ 32768 * u) : n ≤ 8192 * gr u n := by
  unfold gr
  repeat' split
  all_goals omega
end
section
/-! the objects' cells -/
abbrev oB (a r s t f : Nat) : Nat × va_E := (a, .inr (0, [.ref r, .int (nI s), .int (nI t), .int (nI f)]))
abbrev oU (a r : Nat) : Nat × va_E := (a, .inr (1, [.ref r]))
abbrev oX (a t i o u r s n w : Nat) : Nat × va_E := (a, .inr (2, [.ref t, .ref i, .ref o, .ref u, .ref r, .ref s, .int (nI n), .int (nI w)]))
abbrev oM (a co r s n w tn im om at_ fl t i o : Nat) : Nat × va_E := (a, .inr (3, [.int (nI co), .ref r, .ref s, .int (nI n), .int (nI w), .int (nI tn), .int (nI im), .int (nI om), .int (nI at_), .int (nI fl), .ref t, .ref i, .ref o]))
end
section
/-! contracts of Bytes: fail, clear, get, put (printed by gen/bytes.py) -/
set_option maxHeartbeats 4000000 in
set_option maxRecDepth 100000 in
/-- fail(x): the first fault stays -/
theorem c_B_fail (l : Launch) (D : va_G) (cI cB : ClassId) (b r sz at_ f x : Nat) (hf : f < 2 ^ 31) : Kv l D cI cB y_B_fail b_B_fail 2 0 0 0 0 [.ref b, .int (nI x)] [oB b r sz at_ f] (fun w1 => w1 = [oB b r sz at_ (if f = 0 then x else f)]) := by
  refine ent (fun A => va_Qv _ (BW D A) A) (by decide) (Nat.le_of_ble_eq_true rfl) ?_
  intro p e s m below meth c A ls C hA hP hD hS hl
  have hl : lv_has ls 2 [(0, .ref b), (1, .int (nI x))] := hl
  refine lv_aload_n C.x C.b d_B_fail_0 rfl (lv_at hl 0 rfl) ?_
  refine gf C hP 0 0 3 rfl rfl (by decide) fl_B_22 rfl d_B_fail_1 ?_
  refine jz_ne (tgt := 12) C d_B_fail_4 (by decide) (by omega) (fun h => ?_) (fun h => ?_)
  · exact retv C hP hD hS d_B_fail_12 (by omega) (by omega) (by rw [if_neg h])
  · refine lv_aload_n C.x C.b d_B_fail_7 rfl (lv_at hl 0 rfl) ?_
    refine lv_iload_n C.x C.b d_B_fail_8 rfl (lv_at hl 1 rfl) ?_
    refine pf (w2 := [oB b r sz at_ x]) C hP hD hS 0 0 3 (.int) rfl rfl (by decide) fl_B_22 rfl (by decide +kernel) rfl rfl (Nat.le_of_ble_eq_true rfl) rfl d_B_fail_9 (fun H locs hP hD hS => ?_)
    exact retv C hP hD hS d_B_fail_12 (by omega) (by omega) (by rw [if_pos h])
set_option maxHeartbeats 4000000 in
set_option maxRecDepth 100000 in
/-- clear -/
theorem c_B_clear (l : Launch) (D : va_G) (cI cB : ClassId) (b r sz at_ f : Nat) : Kv l D cI cB y_B_clear b_B_clear 1 0 0 0 0 [.ref b] [oB b r sz at_ f] (fun w1 => w1 = [oB b r 0 0 0]) := by
  refine ent (fun A => va_Qv _ (BW D A) A) (by decide) (Nat.le_of_ble_eq_true rfl) ?_
  intro p e s m below meth c A ls C hA hP hD hS hl
  have hl : lv_has ls 1 [(0, .ref b)] := hl
  refine lv_aload_n C.x C.b d_B_clear_0 rfl (lv_at hl 0 rfl) ?_
  refine lv_iconst (v := nI 0) C.x C.b d_B_clear_1 (by decide) ?_
  refine pf (w2 := [oB b r 0 at_ f]) C hP hD hS 0 0 1 (.int) rfl rfl (by decide) fl_B_15 rfl (by decide +kernel) rfl rfl (Nat.le_of_ble_eq_true rfl) rfl d_B_clear_2 (fun H locs hP hD hS => ?_)
  refine lv_aload_n C.x C.b d_B_clear_5 rfl (lv_at hl 0 rfl) ?_
  refine lv_iconst (v := nI 0) C.x C.b d_B_clear_6 (by decide) ?_
  refine pf (w2 := [oB b r 0 0 f]) C hP hD hS 0 0 2 (.int) rfl rfl (by decide) fl_B_19 rfl (by decide +kernel) rfl rfl (Nat.le_of_ble_eq_true rfl) rfl d_B_clear_7 (fun H locs hP hD hS => ?_)
  refine lv_aload_n C.x C.b d_B_clear_10 rfl (lv_at hl 0 rfl) ?_
  refine lv_iconst (v := nI 0) C.x C.b d_B_clear_11 (by decide) ?_
  refine pf (w2 := [oB b r 0 0 0]) C hP hD hS 0 0 3 (.int) rfl rfl (by decide) fl_B_22 rfl (by decide +kernel) rfl rfl (Nat.le_of_ble_eq_true rfl) rfl d_B_clear_12 (fun H locs hP hD hS => ?_)
  exact retv C hP hD hS d_B_clear_15 (by omega) (by omega) (rfl)
set_option maxHeartbeats 4000000 in
set_option maxRecDepth 100000 in
/-- get(k) -/
theorem c_B_get (l : Launch) (D : va_G) (cI cB : ClassId) (b r sz at_ f cap k : Nat) (t : Nat → Nat) (hk : k < cap) (hcap : cap < 2 ^ 31) (ht : t k < 256) : Ki l D cI cB y_B_get b_B_get 2 0 0 0 0 .int [.ref b, .int (nI k)] [oB b r sz at_ f, aB cB r cap t] (fun v w1 => v = nI (t k) ∧ w1 = [oB b r sz at_ f, aB cB r cap t]) := by
  refine ent (fun A => va_Qi _ (BW D A) A) (by decide) (Nat.le_of_ble_eq_true rfl) ?_
  intro p e s m below meth c A ls C hA hP hD hS hl
  have hl : lv_has ls 2 [(0, .ref b), (1, .int (nI k))] := hl
  refine lv_aload_n C.x C.b d_B_get_0 rfl (lv_at hl 0 rfl) ?_
  refine gf C hP 0 0 0 rfl rfl (by decide) fl_B_9 rfl d_B_get_1 ?_
  refine lv_iload_n C.x C.b d_B_get_4 rfl (lv_at hl 1 rfl) ?_
  refine bld C hP 1 rfl (by omega) (by omega) d_B_get_5 ?_
  refine lv_sipush (v := nI 255) C.x C.b d_B_get_6 (by decide) ?_
  refine lv_iand C.x C.b d_B_get_9 ?_
  refine ra_i (y := nI (t k)) (sb_255 ht) ?_
  exact reti C hP hD hS d_B_get_10 (rfl) (by omega) (by omega) (⟨rfl, rfl⟩)
set_option maxHeartbeats 4000000 in
set_option maxRecDepth 100000 in
/-- put(x): one byte more; the row doubles where it is full -/
theorem c_B_put (l : Launch) (D : va_G) (cI cB : ClassId) (b r at_ f x u u2 : Nat) (L : List Nat) (t : Nat → Nat) (hL : Hd t L) (hu : (L.length < 8192 * u ∧ u2 = u) ∨ (L.length = 8192 * u ∧ u2 = 2 * u)) (hl2 : L.length ≤ 32767) (h1 : 1 ≤ u) (h4 : u ≤ 65536) : Kv l D cI cB y_B_put b_B_put 3 1 18 (u2 - u) (16384 * (u2 - u)) [.ref b, .int (nI x)] [oB b r L.length at_ f, aB cB r (8192 * u) t] (fun w1 => ∃ (r2 : Nat) (t2 : Nat → Nat), w1 = [oB b r2 (L.length + 1) at_ f, aB cB r2 (8192 * u2) t2] ∧ Hd t2 (L ++ [x % 256])) := by
  refine ent (fun A => va_Qv _ (BW D A) A) (by decide) (Nat.le_of_ble_eq_true rfl) ?_
  intro p e s m below meth c A ls C hA hP hD hS hl
  have hl : lv_has ls 3 [(0, .ref b), (1, .int (nI x))] := hl
  refine lv_aload_n C.x C.b d_B_put_0 rfl (lv_at hl 0 rfl) ?_
  refine gf C hP 0 0 1 rfl rfl (by decide) fl_B_15 rfl d_B_put_1 ?_
  refine lv_aload_n C.x C.b d_B_put_4 rfl (lv_at hl 0 rfl) ?_
  refine gf C hP 0 0 0 rfl rfl (by decide) fl_B_9 rfl d_B_put_5 ?_
  refine alB C hP 1 rfl d_B_put_8 ?_
  refine jc_ne (tgt := 40) C d_B_put_9 (by decide) (by omega) (by omega) (fun h => ?_) (fun h => ?_)
  · obtain ⟨hlt, rfl⟩ : L.length < 8192 * u ∧ u2 = u := by omega
    refine lv_aload_n C.x C.b d_B_put_40 rfl (lv_at hl 0 rfl) ?_
    refine gf C hP 0 0 0 rfl rfl (by decide) fl_B_9 rfl d_B_put_41 ?_
    refine lv_aload_n C.x C.b d_B_put_44 rfl (lv_at hl 0 rfl) ?_
    refine gf C hP 0 0 1 rfl rfl (by decide) fl_B_15 rfl d_B_put_45 ?_
    refine lv_iload_n C.x C.b d_B_put_48 rfl (lv_at hl 1 rfl) ?_
    refine lv_i2b (v := sb_b x) C.x C.b d_B_put_49 rfl ?_
    refine ra_i (y := sb_b (x % 256)) ((sb_mod x).symm) ?_
    refine bst (w2 := [oB b r L.length at_ f, aB cB r (8192 * u2) (va_up t L.length (x % 256))]) C hP hD hS 1 rfl (by omega) (by omega) rfl d_B_put_50 (fun H locs hP hD hS => ?_)
    refine lv_aload_n C.x C.b d_B_put_51 rfl (lv_at hl 0 rfl) ?_
    refine lv_dup C.x C.b d_B_put_52 rfl ?_
    refine gf C hP 0 0 1 rfl rfl (by decide) fl_B_15 rfl d_B_put_53 ?_
    refine lv_iconst (v := nI 1) C.x C.b d_B_put_56 (by decide) ?_
    refine lv_iadd C.x C.b d_B_put_57 ?_
    refine ra_i (nI_add _ _) ?_
    refine pf (w2 := [oB b r (L.length + 1) at_ f, aB cB r (8192 * u2) (va_up t L.length (x % 256))]) C hP hD hS 0 0 1 (.int) rfl rfl (by decide) fl_B_15 rfl (by decide +kernel) rfl rfl (Nat.le_of_ble_eq_true rfl) rfl d_B_put_58 (fun H locs hP hD hS => ?_)
    have hP : va_P D classes [oB b r (L.length + 1) at_ f, aB cB r (8192 * u2) (va_up t L.length (x % 256))] H := hP.sub [0, 1] rfl
    have hD : va_D A [oB b r (L.length + 1) at_ f, aB cB r (8192 * u2) (va_up t L.length (x % 256))] := hD.sub [0, 1] (by decide) rfl
    exact retv C hP hD hS d_B_put_61 (by omega) (by omega) (⟨_, _, rfl, Hd_push hL _⟩)
  · have hu2 : u2 = 2 * u := by omega
    refine lv_iconst (v := nI 2) C.x C.b d_B_put_12 (by decide) ?_
    refine lv_aload_n C.x C.b d_B_put_13 rfl (lv_at hl 0 rfl) ?_
    refine gf C hP 0 0 1 rfl rfl (by decide) fl_B_15 rfl d_B_put_14 ?_
    refine lv_imul C.x C.b d_B_put_17 ?_
    refine ra_i (pk_mul _ _) ?_
    refine newB C hA hP hD hS (by omega) (by show 0 + 1 ≤ u2 - u; omega) (by show 0 + 2 * L.length ≤ 16384 * (u2 - u); omega) d_B_put_18 (fun q H hP hD hS => ?_)
    have hP : va_P D classes [oB b r L.length at_ f, aB cB r (8192 * u) t, aB cB q (2 * L.length) (fun _ => 0)] H := hP
    have hD : va_D A [oB b r L.length at_ f, aB cB r (8192 * u) t, aB cB q (2 * L.length) (fun _ => 0)] := hD
    refine lv_astore_n (lv' := [(2, .ref q), (0, .ref b), (1, .int (nI x))]) C.x C.b d_B_put_20 rfl hl (by decide) rfl (fun ls hl => ?_)
    refine lv_aload_n C.x C.b d_B_put_21 rfl (lv_at hl 1 rfl) ?_
    refine gf C hP 0 0 0 rfl rfl (by decide) fl_B_9 rfl d_B_put_22 ?_
    refine lv_iconst (v := nI 0) C.x C.b d_B_put_25 (by decide) ?_
    refine lv_aload_n C.x C.b d_B_put_26 rfl (lv_at hl 0 rfl) ?_
    refine lv_iconst (v := nI 0) C.x C.b d_B_put_27 (by decide) ?_
    refine lv_aload_n C.x C.b d_B_put_28 rfl (lv_at hl 1 rfl) ?_
    refine gf C hP 0 0 1 rfl rfl (by decide) fl_B_15 rfl d_B_put_29 ?_
    refine cpyB (w2 := [oB b r L.length at_ f, aB cB r (8192 * u) t, aB cB q (2 * L.length) (cpN t (fun _ => 0) L.length)]) C hP hD hS hl.1 ml_B_25 1 2 rfl rfl (by omega) (by omega) (by omega) rfl (Nat.le_of_ble_eq_true rfl) (Nat.le_of_ble_eq_true rfl) d_B_put_32 (fun H locs hP hD hS => ?_)
    refine lv_aload_n C.x C.b d_B_put_35 rfl (lv_at hl 1 rfl) ?_
    refine lv_aload_n C.x C.b d_B_put_36 rfl (lv_at hl 0 rfl) ?_
    refine pf (w2 := [oB b q L.length at_ f, aB cB r (8192 * u) t, aB cB q (2 * L.length) (cpN t (fun _ => 0) L.length)]) C hP hD hS 0 0 0 (.array .byte) rfl rfl (by decide) fl_B_9 rfl (by decide +kernel) rfl rfl (Nat.le_of_ble_eq_true rfl) rfl d_B_put_37 (fun H locs hP hD hS => ?_)
    have e9 : 2 * L.length = 8192 * u2 := by omega
    rw [e9] at hP hD
    refine lv_aload_n C.x C.b d_B_put_40 rfl (lv_at hl 1 rfl) ?_
    refine gf C hP 0 0 0 rfl rfl (by decide) fl_B_9 rfl d_B_put_41 ?_
    refine lv_aload_n C.x C.b d_B_put_44 rfl (lv_at hl 1 rfl) ?_
    refine gf C hP 0 0 1 rfl rfl (by decide) fl_B_15 rfl d_B_put_45 ?_
    refine lv_iload_n C.x C.b d_B_put_48 rfl (lv_at hl 2 rfl) ?_
    refine lv_i2b (v := sb_b x) C.x C.b d_B_put_49 rfl ?_
    refine ra_i (y := sb_b (x % 256)) ((sb_mod x).symm) ?_
    refine bst (w2 := [oB b q L.length at_ f, aB cB r (8192 * u) t, aB cB q (8192 * u2) (va_up (cpN t (fun _ => 0) L.length) L.length (x % 256))]) C hP hD hS 2 rfl (by omega) (by omega) rfl d_B_put_50 (fun H locs hP hD hS => ?_)
    refine lv_aload_n C.x C.b d_B_put_51 rfl (lv_at hl 1 rfl) ?_
    refine lv_dup C.x C.b d_B_put_52 rfl ?_
    refine gf C hP 0 0 1 rfl rfl (by decide) fl_B_15 rfl d_B_put_53 ?_
    refine lv_iconst (v := nI 1) C.x C.b d_B_put_56 (by decide) ?_
    refine lv_iadd C.x C.b d_B_put_57 ?_
    refine ra_i (nI_add _ _) ?_
    refine pf (w2 := [oB b q (L.length + 1) at_ f, aB cB r (8192 * u) t, aB cB q (8192 * u2) (va_up (cpN t (fun _ => 0) L.length) L.length (x % 256))]) C hP hD hS 0 0 1 (.int) rfl rfl (by decide) fl_B_15 rfl (by decide +kernel) rfl rfl (Nat.le_of_ble_eq_true rfl) rfl d_B_put_58 (fun H locs hP hD hS => ?_)
    have hP : va_P D classes [oB b q (L.length + 1) at_ f, aB cB q (8192 * u2) (va_up (cpN t (fun _ => 0) L.length) L.length (x % 256))] H := hP.sub [0, 2] rfl
    have hD : va_D A [oB b q (L.length + 1) at_ f, aB cB q (8192 * u2) (va_up (cpN t (fun _ => 0) L.length) L.length (x % 256))] := hD.sub [0, 2] (by decide) rfl
    exact retv C hP hD hS d_B_put_61 (by omega) (by omega) (⟨_, _, rfl, Hd_push (Hd_cp hL) _⟩)
end
section
/-! contracts of Bytes: putFixed, putVarint (printed by gen/bytes2.py) -/
theorem gr_pt {u0 k : Nat} (h0 : 1 ≤ u0) (h : k + 1 ≤ 32768 * u0) : (k < 8192 * gr u0 k ∧ gr u0 (k + 1) = gr u0 k) ∨ (k = 8192 * gr u0 k ∧ gr u0 (k + 1) = 2 * gr u0 k) := by
  unfold gr
  repeat' split
  all_goals omega
theorem gr_pos {u0 k : Nat} (h0 : 1 ≤ u0) : 1 ≤ gr u0 k := Nat.le_trans h0 (gr_ge _ _)
theorem gr_4 (u k : Nat) : gr u k ≤ 4 * u := by
  unfold gr
  repeat' split
  all_goals omega
theorem l_m128 {x : Nat} (hx : x < 2 ^ 64) : lN x &&& (-128) = lN (x / 128 * 128) := by
  rw [show (-128 : Int64) = lN (2 ^ 64 - 128) from by decide, wb_and hx (by decide)]
  congr 1
  apply Nat.eq_of_testBit_eq
  intro i
  rw [Nat.testBit_and, show (2 ^ 64 - 128 : Nat) = 2 ^ 64 - (127 + 1) from rfl, Nat.testBit_two_pow_sub_succ (by decide), show (127 : Nat) = 2 ^ 7 - 1 from rfl, Nat.testBit_two_pow_sub_one, show (128 : Nat) = 2 ^ 7 from rfl, Nat.mul_comm, Nat.testBit_two_pow_mul, Nat.testBit_div_two_pow]
  by_cases h7 : 7 ≤ i
  · rw [show i - 7 + 7 = i by omega]
    by_cases h64 : i < 64
    · simp [h7, h64, show ¬ i < 7 by omega]
    · rw [Nat.testBit_lt_two_pow (show x < 2 ^ i from Nat.lt_of_lt_of_le hx (Nat.pow_le_pow_right (by decide) (by omega)))]
      simp
  · simp [h7, show i < 7 by omega]
set_option maxHeartbeats 4000000 in
set_option maxRecDepth 100000 in
/-- putFixed: the loop -/
theorem lp_B_putFixed {p : Program} {l : Launch} {e : Env} {R : Room} {s : State} {m : MethodId} {args : Array Value} {below : List Frame} {meth : Method} {c : Code} {D : va_G} {cI cB : ClassId} {A : Nat → Prop} {Q : State → Prop} (C : Cx p s m args meth c D cI cB b_B_putFixed 5 R_B none "putFixed") (hA : ∀ q : Nat, s.heap.size ≤ q → A q) (b at_ f x nb u0 : Nat) (L : List Nat) (h0 : 1 ≤ u0) (h65 : u0 ≤ 16384) (hx : x < 2 ^ 64) (hnb : nb ≤ 4) (hb : L.length + nb ≤ 32768) (hR1 : 2 ≤ R.frames) (hR2 : 40 ≤ R.locals) (hRc : gr u0 (L.length + nb) - gr u0 L.length ≤ R.cells) (hRs : 16384 * (gr u0 (L.length + nb) - gr u0 L.length) ≤ R.slots) (kk : ∀ (r : Nat) (t : Nat → Nat) (H : Heap) (locs : List Loc) (ls : Array Slot), Hd t (L ++ fx x nb) → va_P D classes [oB b r (L ++ fx x nb).length at_ f, aB cB r (8192 * gr u0 (L ++ fx x nb).length) t] H → va_D A [oB b r (L ++ fx x nb).length at_ f, aB cB r (8192 * gr u0 (L ++ fx x nb).length) t] → va_S A s.heap H locs → lv_has ls 5 [(0, .ref b), (1, .long (lN x)), (3, .int (nI nb)), (4, .int (nI nb))] → W p l e R s m args below meth c H locs (gr u0 (L ++ fx x nb).length - gr u0 L.length) (16384 * (gr u0 (L ++ fx x nb).length - gr u0 L.length)) Q (F0 m 27 ls [])) : ∀ (d i : Nat) (M : List Nat) (r : Nat) (t : Nat → Nat), i + d = nb → M = L ++ fx x i → Hd t M → ∀ (H : Heap) (locs : List Loc) (ls : Array Slot), va_P D classes [oB b r M.length at_ f, aB cB r (8192 * gr u0 M.length) t] H → va_D A [oB b r M.length at_ f, aB cB r (8192 * gr u0 M.length) t] → va_S A s.heap H locs → lv_has ls 5 [(0, .ref b), (1, .long (lN x)), (3, .int (nI nb)), (4, .int (nI i))] → W p l e R s m args below meth c H locs (gr u0 M.length - gr u0 L.length) (16384 * (gr u0 M.length - gr u0 L.length)) (Q) (F0 m 3 ls []) := by
  intro d
  induction d with
  | zero =>
    intro i M r t hi hM hL H locs ls hP hD hS hl
    refine lv_iload C.x C.b d_B_putFixed_3 (lv_at hl 3 rfl) ?_
    refine lv_iload_n C.x C.b d_B_putFixed_5 rfl (lv_at hl 2 rfl) ?_
    refine jc_ge (tgt := 27) C d_B_putFixed_6 (by decide) (by omega) (by omega) (fun h => ?_) (fun h => ?_)
    · obtain rfl : i = nb := by omega
      subst hM
      exact kk r t H locs ls hL hP hD hS hl
    · exfalso; omega
  | succ d ih =>
    intro i M r t hi hM hL H locs ls hP hD hS hl
    have hml : M.length = L.length + i := by rw [hM, List.length_append, fx_len]
    refine lv_iload C.x C.b d_B_putFixed_3 (lv_at hl 3 rfl) ?_
    refine lv_iload_n C.x C.b d_B_putFixed_5 rfl (lv_at hl 2 rfl) ?_
    refine jc_ge (tgt := 27) C d_B_putFixed_6 (by decide) (by omega) (by omega) (fun h => ?_) (fun h => ?_)
    · exfalso; omega
    · refine lv_aload_n C.x C.b d_B_putFixed_9 rfl (lv_at hl 0 rfl) ?_
      refine lv_lload_n C.x C.b d_B_putFixed_10 rfl (lv_at hl 1 rfl) ?_
      refine lv_bipush (v := nI 8) C.x C.b d_B_putFixed_11 (by decide) ?_
      refine lv_iload C.x C.b d_B_putFixed_13 (lv_at hl 3 rfl) ?_
      refine lv_imul C.x C.b d_B_putFixed_15 ?_
      refine ra_i (pk_mul _ _) ?_
      refine lv_lushr C.x C.b d_B_putFixed_16 (wb_shr (by omega) (by omega)) ?_
      refine lv_l2i C.x C.b d_B_putFixed_17 (lN_i _) ?_
      have g11 := gr_pt (u0 := u0) (k := M.length) h0 (by omega)
      have g21 := gr_mono (u := u0) (show L.length ≤ M.length by omega)
      have g31 := gr_mono (u := u0) (show M.length ≤ M.length + 1 by omega)
      have g41 := gr_mono (u := u0) (show M.length + 1 ≤ (L.length + nb) by omega)
      refine cvV (wr := []) C hA hP hD hS hl.1 (c_B_put l D cI cB b r at_ f (x / 2 ^ (8 * i)) _ _ M t hL g11 (by omega) (gr_pos h0) (by have := gr_4 u0 M.length; omega)) ok_B_31 [] [0, 1] [] 0 0 rfl rfl rfl rfl (by decide) rfl (by decide) (by decide) rfl rfl (Nat.le_of_ble_eq_true rfl) (⟨by (try dsimp only [rmO]); omega, by (try dsimp only [rmO]); omega⟩) (⟨by (try dsimp only [rmO]); omega, by (try dsimp only [rmO]); omega⟩) d_B_putFixed_18 ?_
      intro w1 H locs hw hP hD hS
      obtain ⟨r1, t1, rfl, hL1⟩ := hw
      have hP : va_P D classes [oB b r1 (M.length + 1) at_ f, aB cB r1 (8192 * gr u0 (M.length + 1)) t1] H := hP
      have hD : va_D A [oB b r1 (M.length + 1) at_ f, aB cB r1 (8192 * gr u0 (M.length + 1)) t1] := hD
      refine W.widen (k := gr u0 (M.length + 1) - gr u0 L.length) (n := 16384 * (gr u0 (M.length + 1) - gr u0 L.length)) (by omega) (by omega) ?_
      obtain ⟨M2, hM2⟩ : ∃ M2, M2 = M ++ [x / 2 ^ (8 * i) % 256] := ⟨_, rfl⟩
      rw [← hM2] at hL1
      have el2 : M.length + 1 = M2.length := by rw [hM2]; simp
      rw [el2] at hP hD
      rw [el2]
      refine lv_iinc (v := (nI (i + 1))) (lv' := [(4, .int (nI (i + 1))), (0, .ref b), (1, .long (lN x)), (3, .int (nI nb))]) C.x C.b d_B_putFixed_21 hl (k := 3) rfl (nI_inc _ 1) (by decide) rfl (fun ls hl => ?_)
      refine lv_goto (tgt := 3) C.x C.b d_B_putFixed_24 (by decide) ?_
      exact ih (i + 1) M2 r1 t1 (by omega) (by rw [hM2, hM, List.append_assoc]; congr 1; exact (range_push _ i).symm) hL1 H locs ls hP hD hS (lv_sub hl [1, 2, 3, 0] rfl)
set_option maxHeartbeats 4000000 in
set_option maxRecDepth 100000 in
/-- putFixed(x, nb) -/
theorem c_B_putFixed (l : Launch) (D : va_G) (cI cB : ClassId) (b r at_ f x nb u0 : Nat) (L : List Nat) (t : Nat → Nat) (hL : Hd t L) (h0 : 1 ≤ u0) (h65 : u0 ≤ 16384) (hx : x < 2 ^ 64) (hnb : nb ≤ 4) (hb : L.length + nb ≤ 32768) : Kv l D cI cB y_B_putFixed b_B_putFixed 5 2 40 (gr u0 (L.length + nb) - gr u0 L.length) (16384 * (gr u0 (L.length + nb) - gr u0 L.length)) [.ref b, .long (lN x), .int (nI nb)] [oB b r L.length at_ f, aB cB r (8192 * gr u0 L.length) t] (fun w1 => ∃ (r2 : Nat) (t2 : Nat → Nat), w1 = [oB b r2 (L ++ fx x nb).length at_ f, aB cB r2 (8192 * gr u0 (L ++ fx x nb).length) t2] ∧ Hd t2 (L ++ fx x nb)) := by
  refine ent (fun A => va_Qv _ (BW D A) A) (by decide) (Nat.le_of_ble_eq_true rfl) ?_
  intro p e s m below meth c A ls C hA hP hD hS hl
  have hl : lv_has ls 5 [(0, .ref b), (1, .long (lN x)), (3, .int (nI nb))] := hl
  refine lv_iconst (v := nI 0) C.x C.b d_B_putFixed_0 (by decide) ?_
  refine lv_istore (lv' := [(4, .int (nI 0)), (0, .ref b), (1, .long (lN x)), (3, .int (nI nb))]) C.x C.b d_B_putFixed_1 hl (by decide) rfl (fun ls hl => ?_)
  have eL : (L ++ fx x 0) = L := by simp [fx]
  refine W.widen (k := gr u0 L.length - gr u0 L.length) (n := 16384 * (gr u0 L.length - gr u0 L.length)) (by omega) (by omega) ?_
  refine lp_B_putFixed C hA b at_ f x nb u0 L h0 h65 hx hnb hb (Nat.le_refl 2) (Nat.le_refl 40) (Nat.le_refl _) (Nat.le_refl _) (fun r t H locs ls hL hP hD hS hl => ?_) nb 0 L r t (by omega) eL.symm hL _ _ ls hP hD hS (lv_sub hl [1, 2, 3, 0] rfl)
  have e1 : (L ++ fx x nb).length = L.length + nb := by rw [List.length_append, fx_len]
  exact retv C hP hD hS d_B_putFixed_27 (by rw [e1]; exact Nat.le_refl _) (by rw [e1]; exact Nat.le_refl _) (⟨r, t, rfl, hL⟩)
set_option maxHeartbeats 4000000 in
set_option maxRecDepth 100000 in
/-- putVarint(x), x below 2^14 -/
theorem c_B_putVarint (l : Launch) (D : va_G) (cI cB : ClassId) (b r at_ f x u0 : Nat) (L : List Nat) (t : Nat → Nat) (hL : Hd t L) (h0 : 1 ≤ u0) (h65 : u0 ≤ 16384) (hx : x < 16384) (hb : L.length + (vi x).length ≤ 32768) : Kv l D cI cB y_B_putVarint b_B_putVarint 5 2 40 (gr u0 (L.length + (vi x).length) - gr u0 L.length) (16384 * (gr u0 (L.length + (vi x).length) - gr u0 L.length)) [.ref b, .long (lN x)] [oB b r L.length at_ f, aB cB r (8192 * gr u0 L.length) t] (fun w1 => ∃ (r2 : Nat) (t2 : Nat → Nat), w1 = [oB b r2 (L ++ vi x).length at_ f, aB cB r2 (8192 * gr u0 (L ++ vi x).length) t2] ∧ Hd t2 (L ++ vi x)) := by
  refine ent (fun A => va_Qv _ (BW D A) A) (by decide) (Nat.le_of_ble_eq_true rfl) ?_
  intro p e s m below meth c A ls C hA hP hD hS hl
  have hl : lv_has ls 5 [(0, .ref b), (1, .long (lN x))] := hl
  refine W.widen (k := gr u0 L.length - gr u0 L.length) (n := 16384 * (gr u0 L.length - gr u0 L.length)) (by omega) (by omega) ?_
  refine lv_lload_n C.x C.b d_B_putVarint_0 rfl (lv_at hl 1 rfl) ?_
  refine lv_lstore_n (lv' := [(3, .long (lN x)), (0, .ref b), (1, .long (lN x))]) C.x C.b d_B_putVarint_1 rfl hl (by decide) rfl (fun ls hl => ?_)
  refine lv_lload_n C.x C.b d_B_putVarint_2 rfl (lv_at hl 0 rfl) ?_
  refine lv_ldc2 C.x C.b C.ow (C.ts _ ct_B_35) d_B_putVarint_3 ?_
  refine lv_land C.x C.b d_B_putVarint_6 ?_
  refine ra_l (y := lN (x / 128 * 128)) (l_m128 (by omega)) ?_
  refine lv_lconst (v := lN 0) C.x C.b d_B_putVarint_7 (by decide) ?_
  refine jl_eq (tgt := 34) C d_B_putVarint_8 d_B_putVarint_9 (by decide) (by omega) (by omega) (fun h => ?_) (fun h => ?_)
  · have hx1 : x < 128 := by omega
    have ev : vi x = [x] := if_pos hx1
    have e1 : (vi x).length = 1 := by rw [ev]; rfl
    refine lv_aload_n C.x C.b d_B_putVarint_34 rfl (lv_at hl 1 rfl) ?_
    refine lv_lload_n C.x C.b d_B_putVarint_35 rfl (lv_at hl 0 rfl) ?_
    refine lv_l2i C.x C.b d_B_putVarint_36 (lN_i _) ?_
    have g11 := gr_pt (u0 := u0) (k := L.length) h0 (by omega)
    have g21 := gr_mono (u := u0) (show L.length ≤ L.length by omega)
    have g31 := gr_mono (u := u0) (show L.length ≤ L.length + 1 by omega)
    have g41 := gr_mono (u := u0) (show L.length + 1 ≤ (L.length + (vi x).length) by omega)
    refine cvV (wr := []) C hA hP hD hS hl.1 (c_B_put l D cI cB b r at_ f x _ _ L t hL g11 (by omega) (gr_pos h0) (by have := gr_4 u0 L.length; omega)) ok_B_31 [] [0, 1] [] 0 0 rfl rfl rfl rfl (by decide) rfl (by decide) (by decide) rfl rfl (Nat.le_of_ble_eq_true rfl) (⟨by (try dsimp only [rmO]); omega, by (try dsimp only [rmO]); omega⟩) (⟨by (try dsimp only [rmO]); omega, by (try dsimp only [rmO]); omega⟩) d_B_putVarint_37 ?_
    intro w1 H locs hw hP hD hS
    obtain ⟨r1, t1, rfl, hL1⟩ := hw
    have hP : va_P D classes [oB b r1 (L.length + 1) at_ f, aB cB r1 (8192 * gr u0 (L.length + 1)) t1] H := hP
    have hD : va_D A [oB b r1 (L.length + 1) at_ f, aB cB r1 (8192 * gr u0 (L.length + 1)) t1] := hD
    refine W.widen (k := gr u0 (L.length + 1) - gr u0 L.length) (n := 16384 * (gr u0 (L.length + 1) - gr u0 L.length)) (by omega) (by omega) ?_
    exact retv C hP hD hS d_B_putVarint_40 (by omega) (by omega) (by
        have q : x % 256 = x := by omega
        rw [q] at hL1
        refine ⟨r1, t1, ?_, by rw [ev]; exact hL1⟩
        rw [List.length_append, e1])
  · have hx1 : ¬ x < 128 := by omega
    have ev : vi x = [x % 128 + 128, x / 128] := if_neg hx1
    have e1 : (vi x).length = 2 := by rw [ev]; rfl
    refine lv_aload_n C.x C.b d_B_putVarint_12 rfl (lv_at hl 1 rfl) ?_
    refine lv_lload_n C.x C.b d_B_putVarint_13 rfl (lv_at hl 0 rfl) ?_
    refine lv_ldc2 C.x C.b C.ow (C.ts _ ct_B_37) d_B_putVarint_14 ?_
    refine ra_l (y := lN 127) (by decide) ?_
    refine lv_land C.x C.b d_B_putVarint_17 ?_
    refine ra_l (y := lN (x % 128)) (wb_mask (k := 7) (by omega) (by decide)) ?_
    refine lv_l2i C.x C.b d_B_putVarint_18 (lN_i _) ?_
    refine lv_sipush (v := nI 128) C.x C.b d_B_putVarint_19 (by decide) ?_
    refine lv_ior C.x C.b d_B_putVarint_22 ?_
    refine ra_i (y := nI (x % 128 + 1 * 2 ^ 7)) (ni_orS (k := 7) (b := 1) (by omega) (by omega)) ?_
    refine ra_i (y := nI (x % 128 + 128)) (rfl) ?_
    have g11 := gr_pt (u0 := u0) (k := L.length) h0 (by omega)
    have g21 := gr_mono (u := u0) (show L.length ≤ L.length by omega)
    have g31 := gr_mono (u := u0) (show L.length ≤ L.length + 1 by omega)
    have g41 := gr_mono (u := u0) (show L.length + 1 ≤ (L.length + (vi x).length) by omega)
    refine cvV (wr := []) C hA hP hD hS hl.1 (c_B_put l D cI cB b r at_ f (x % 128 + 128) _ _ L t hL g11 (by omega) (gr_pos h0) (by have := gr_4 u0 L.length; omega)) ok_B_31 [] [0, 1] [] 0 0 rfl rfl rfl rfl (by decide) rfl (by decide) (by decide) rfl rfl (Nat.le_of_ble_eq_true rfl) (⟨by (try dsimp only [rmO]); omega, by (try dsimp only [rmO]); omega⟩) (⟨by (try dsimp only [rmO]); omega, by (try dsimp only [rmO]); omega⟩) d_B_putVarint_23 ?_
    intro w1 H locs hw hP hD hS
    obtain ⟨r1, t1, rfl, hL1⟩ := hw
    have hP : va_P D classes [oB b r1 (L.length + 1) at_ f, aB cB r1 (8192 * gr u0 (L.length + 1)) t1] H := hP
    have hD : va_D A [oB b r1 (L.length + 1) at_ f, aB cB r1 (8192 * gr u0 (L.length + 1)) t1] := hD
    refine W.widen (k := gr u0 (L.length + 1) - gr u0 L.length) (n := 16384 * (gr u0 (L.length + 1) - gr u0 L.length)) (by omega) (by omega) ?_
    obtain ⟨M, hM⟩ : ∃ M, M = L ++ [(x % 128 + 128) % 256] := ⟨_, rfl⟩
    rw [← hM] at hL1
    have el2 : L.length + 1 = M.length := by rw [hM]; simp
    rw [el2] at hP hD
    rw [el2]
    refine lv_lload_n C.x C.b d_B_putVarint_26 rfl (lv_at hl 0 rfl) ?_
    refine lv_bipush (v := nI 7) C.x C.b d_B_putVarint_27 (by decide) ?_
    refine lv_lushr C.x C.b d_B_putVarint_29 (wb_shr (by omega) (by omega)) ?_
    refine lv_lstore_n (lv' := [(3, .long (lN (x / 2 ^ 7))), (0, .ref b), (1, .long (lN x))]) C.x C.b d_B_putVarint_30 rfl hl (by decide) rfl (fun ls hl => ?_)
    refine lv_goto (tgt := 2) C.x C.b d_B_putVarint_31 (by decide) ?_
    refine lv_lload_n C.x C.b d_B_putVarint_2 rfl (lv_at hl 0 rfl) ?_
    refine lv_ldc2 C.x C.b C.ow (C.ts _ ct_B_35) d_B_putVarint_3 ?_
    refine lv_land C.x C.b d_B_putVarint_6 ?_
    refine ra_l (y := lN (x / 128 / 128 * 128)) (l_m128 (by omega)) ?_
    refine lv_lconst (v := lN 0) C.x C.b d_B_putVarint_7 (by decide) ?_
    refine jl_eq (tgt := 34) C d_B_putVarint_8 d_B_putVarint_9 (by decide) (by omega) (by omega) (fun h2 => ?_) (fun h2 => ?_)
    · refine lv_aload_n C.x C.b d_B_putVarint_34 rfl (lv_at hl 1 rfl) ?_
      refine lv_lload_n C.x C.b d_B_putVarint_35 rfl (lv_at hl 0 rfl) ?_
      refine lv_l2i C.x C.b d_B_putVarint_36 (lN_i _) ?_
      have g13 := gr_pt (u0 := u0) (k := M.length) h0 (by omega)
      have g23 := gr_mono (u := u0) (show L.length ≤ M.length by omega)
      have g33 := gr_mono (u := u0) (show M.length ≤ M.length + 1 by omega)
      have g43 := gr_mono (u := u0) (show M.length + 1 ≤ (L.length + (vi x).length) by omega)
      refine cvV (wr := []) C hA hP hD hS hl.1 (c_B_put l D cI cB b r1 at_ f (x / 128) _ _ M t1 hL1 g13 (by omega) (gr_pos h0) (by have := gr_4 u0 M.length; omega)) ok_B_31 [] [0, 1] [] 0 0 rfl rfl rfl rfl (by decide) rfl (by decide) (by decide) rfl rfl (Nat.le_of_ble_eq_true rfl) (⟨by (try dsimp only [rmO]); omega, by (try dsimp only [rmO]); omega⟩) (⟨by (try dsimp only [rmO]); omega, by (try dsimp only [rmO]); omega⟩) d_B_putVarint_37 ?_
      intro w1 H locs hw hP hD hS
      obtain ⟨r3, t3, rfl, hL3⟩ := hw
      have hP : va_P D classes [oB b r3 (M.length + 1) at_ f, aB cB r3 (8192 * gr u0 (M.length + 1)) t3] H := hP
      have hD : va_D A [oB b r3 (M.length + 1) at_ f, aB cB r3 (8192 * gr u0 (M.length + 1)) t3] := hD
      refine W.widen (k := gr u0 (M.length + 1) - gr u0 L.length) (n := 16384 * (gr u0 (M.length + 1) - gr u0 L.length)) (by omega) (by omega) ?_
      exact retv C hP hD hS d_B_putVarint_40 (by omega) (by omega) (by
          have q1 : (x % 128 + 128) % 256 = x % 128 + 128 := by omega
          have q2 : x / 128 % 256 = x / 128 := by omega
          have q3 : L ++ vi x = M ++ [x / 128 % 256] := by rw [hM, ev, q1, q2]; simp
          refine ⟨r3, t3, ?_, by rw [q3]; exact hL3⟩
          rw [q3, List.length_append]; rfl)
    · exfalso; omega
end
section
/-! contracts of Bytes: take, takeFixed (printed by gen/bytes3.py) -/
set_option maxHeartbeats 4000000 in
set_option maxRecDepth 100000 in
/-- take(E): the next byte, or fault 1 -/
theorem c_B_take (l : Launch) (D : va_G) (cI cB : ClassId) (b r sz k f E cap : Nat) (I : List Nat) (t : Nat → Nat) (hI : Hd t I) (hI8 : ∀ x ∈ I, x < 256) (hE : E ≤ I.length) (hIc : I.length ≤ cap) (hcap : cap ≤ 65536) (hf : f < 2 ^ 31) (hk : k ≤ 65536) : Ki l D cI cB y_B_take b_B_take 2 1 21 0 0 .int [.ref b, .int (nI E)] [oB b r sz k f, aB cB r cap t] (fun v w1 => (k < E ∧ v = nI (gt I k) ∧ w1 = [oB b r sz (k + 1) f, aB cB r cap t]) ∨ (E ≤ k ∧ v = nI 0 ∧ w1 = [oB b r sz k (if f = 0 then 1 else f), aB cB r cap t])) := by
  refine ent (fun A => va_Qi _ (BW D A) A) (by decide) (Nat.le_of_ble_eq_true rfl) ?_
  intro p e s m below meth c A ls C hA hP hD hS hl
  have hl : lv_has ls 2 [(0, .ref b), (1, .int (nI E))] := hl
  refine lv_aload_n C.x C.b d_B_take_0 rfl (lv_at hl 0 rfl) ?_
  refine gf C hP 0 0 2 rfl rfl (by decide) fl_B_19 rfl d_B_take_1 ?_
  refine lv_iload_n C.x C.b d_B_take_4 rfl (lv_at hl 1 rfl) ?_
  refine jc_lt (tgt := 15) C d_B_take_5 (by decide) (by omega) (by omega) (fun h => ?_) (fun h => ?_)
  · refine lv_aload_n C.x C.b d_B_take_15 rfl (lv_at hl 0 rfl) ?_
    refine lv_dup C.x C.b d_B_take_16 rfl ?_
    refine gf C hP 0 0 2 rfl rfl (by decide) fl_B_19 rfl d_B_take_17 ?_
    refine lv_iconst (v := nI 1) C.x C.b d_B_take_20 (by decide) ?_
    refine lv_iadd C.x C.b d_B_take_21 ?_
    refine ra_i (nI_add _ _) ?_
    refine pf (w2 := [oB b r sz (k + 1) f, aB cB r cap t]) C hP hD hS 0 0 2 (.int) rfl rfl (by decide) fl_B_19 rfl (by decide +kernel) rfl rfl (Nat.le_of_ble_eq_true rfl) rfl d_B_take_22 (fun H locs hP hD hS => ?_)
    refine lv_aload_n C.x C.b d_B_take_25 rfl (lv_at hl 0 rfl) ?_
    refine gf C hP 0 0 0 rfl rfl (by decide) fl_B_9 rfl d_B_take_26 ?_
    refine lv_aload_n C.x C.b d_B_take_29 rfl (lv_at hl 0 rfl) ?_
    refine gf C hP 0 0 2 rfl rfl (by decide) fl_B_19 rfl d_B_take_30 ?_
    refine lv_iconst (v := nI 1) C.x C.b d_B_take_33 (by decide) ?_
    refine lv_isub C.x C.b d_B_take_34 ?_
    refine ra_i (nI_subS (by omega)) ?_
    refine bld C hP 1 rfl (by omega) (by omega) d_B_take_35 ?_
    refine lv_sipush (v := nI 255) C.x C.b d_B_take_36 (by decide) ?_
    refine lv_iand C.x C.b d_B_take_39 ?_
    refine ra_i (y := nI (gt I k)) (by rw [Nat.add_sub_cancel, hI k (by omega)]; exact sb_255 (gt_lt (by decide) hI8 k)) ?_
    exact reti C hP hD hS d_B_take_40 (rfl) (by omega) (by omega) (Or.inl ⟨h, rfl, rfl⟩)
  · refine lv_aload_n C.x C.b d_B_take_8 rfl (lv_at hl 0 rfl) ?_
    refine lv_iconst (v := nI 1) C.x C.b d_B_take_9 (by decide) ?_
    refine cvV (wr := [aB cB r cap t]) C hA hP hD hS hl.1 (c_B_fail l D cI cB b r sz k f 1 hf) ok_B_39 [] [0] [1] 0 0 rfl rfl rfl rfl (by decide) rfl (by decide) (by decide) rfl rfl (Nat.le_of_ble_eq_true rfl) (⟨by (try dsimp only [rmO]); omega, by (try dsimp only [rmO]); omega⟩) (⟨by (try dsimp only [rmO]); omega, by (try dsimp only [rmO]); omega⟩) d_B_take_10 ?_
    intro w1 H locs hw hP hD hS
    obtain rfl := hw
    have hP : va_P D classes [aB cB r cap t, oB b r sz k (if f = 0 then 1 else f)] H := hP
    have hD : va_D A [aB cB r cap t, oB b r sz k (if f = 0 then 1 else f)] := hD
    have hP : va_P D classes [oB b r sz k (if f = 0 then 1 else f), aB cB r cap t] H := hP.sub [1, 0] rfl
    have hD : va_D A [oB b r sz k (if f = 0 then 1 else f), aB cB r cap t] := hD.sub [1, 0] (by decide) rfl
    refine lv_iconst (v := nI 0) C.x C.b d_B_take_13 (by decide) ?_
    exact reti C hP hD hS d_B_take_14 (rfl) (by omega) (by omega) (Or.inr ⟨h, rfl, rfl⟩)
set_option maxHeartbeats 4000000 in
set_option maxRecDepth 100000 in
/-- takeFixed: the loop when a fault is there -/
theorem lp_B_takeF {p : Program} {l : Launch} {e : Env} {R : Room} {s : State} {m : MethodId} {args : Array Value} {below : List Frame} {meth : Method} {c : Code} {D : va_G} {cI cB : ClassId} {A : Nat → Prop} {Q : State → Prop} {cells slots : Nat} (C : Cx p s m args meth c D cI cB b_B_takeFixed 6 R_B (some .long) "takeFixed") (hA : ∀ q : Nat, s.heap.size ≤ q → A q) (b r sz k E cap nb : Nat) (I : List Nat) (t : Nat → Nat) (hI : Hd t I) (hI8 : ∀ x ∈ I, x < 256) (hE : E ≤ I.length) (hIc : I.length ≤ cap) (hcap : cap ≤ 65536) (hk : E ≤ k) (hk2 : k ≤ 65536) (hnb : nb ≤ 4) (hR1 : 2 ≤ R.frames) (hR2 : 42 ≤ R.locals) (hRc : cells ≤ R.cells) (hRs : slots ≤ R.slots) (kk : ∀ (v : Int64) (H : Heap) (locs : List Loc) (ls : Array Slot), va_P D classes [oB b r sz k 1, aB cB r cap t] H → va_D A [oB b r sz k 1, aB cB r cap t] → va_S A s.heap H locs → lv_has ls 6 [(0, .ref b), (1, .int (nI nb)), (2, .int (nI E)), (3, .long v), (5, .int (nI nb))] → W p l e R s m args below meth c H locs cells slots Q (F0 m 32 ls [])) : ∀ (d i : Nat) (v : Int64), i + d = nb → ∀ (H : Heap) (locs : List Loc) (ls : Array Slot), va_P D classes [oB b r sz k 1, aB cB r cap t] H → va_D A [oB b r sz k 1, aB cB r cap t] → va_S A s.heap H locs → lv_has ls 6 [(0, .ref b), (1, .int (nI nb)), (2, .int (nI E)), (3, .long v), (5, .int (nI i))] → W p l e R s m args below meth c H locs cells slots (Q) (F0 m 5 ls []) := by
  intro d
  induction d with
  | zero =>
    intro i v hi H locs ls hP hD hS hl
    refine lv_iload C.x C.b d_B_takeFixed_5 (lv_at hl 4 rfl) ?_
    refine lv_iload_n C.x C.b d_B_takeFixed_7 rfl (lv_at hl 1 rfl) ?_
    refine jc_ge (tgt := 32) C d_B_takeFixed_8 (by decide) (by omega) (by omega) (fun h => ?_) (fun h => ?_)
    · obtain rfl : i = nb := by omega
      exact kk v H locs ls hP hD hS hl
    · exfalso; omega
  | succ d ih =>
    intro i v hi H locs ls hP hD hS hl
    refine lv_iload C.x C.b d_B_takeFixed_5 (lv_at hl 4 rfl) ?_
    refine lv_iload_n C.x C.b d_B_takeFixed_7 rfl (lv_at hl 1 rfl) ?_
    refine jc_ge (tgt := 32) C d_B_takeFixed_8 (by decide) (by omega) (by omega) (fun h => ?_) (fun h => ?_)
    · exfalso; omega
    · refine lv_lload_n C.x C.b d_B_takeFixed_11 rfl (lv_at hl 3 rfl) ?_
      refine lv_aload_n C.x C.b d_B_takeFixed_12 rfl (lv_at hl 0 rfl) ?_
      refine lv_iload_n C.x C.b d_B_takeFixed_13 rfl (lv_at hl 2 rfl) ?_
      refine ciV (wr := []) C hA hP hD hS hl.1 (c_B_take l D cI cB b r sz k 1 E cap I t hI hI8 hE hIc hcap (by decide) (by omega)) ok_B_42 [.long v] [0, 1] [] 0 0 rfl rfl rfl rfl (by decide) rfl (by decide) (by decide) rfl rfl (Nat.le_of_ble_eq_true rfl) (⟨by omega, by omega⟩) (⟨by omega, by omega⟩) d_B_takeFixed_14 ?_
      intro rv w1 H locs hw hP hD hS
      rcases hw with ⟨hk2, -, -⟩ | ⟨-, rfl, rfl⟩
      · exfalso; omega
      have hP : va_P D classes [oB b r sz k 1, aB cB r cap t] H := hP
      have hD : va_D A [oB b r sz k 1, aB cB r cap t] := hD
      refine lv_i2l C.x C.b d_B_takeFixed_17 (nI_l (by omega)) ?_
      refine lv_bipush (v := nI 8) C.x C.b d_B_takeFixed_18 (by decide) ?_
      refine lv_iload C.x C.b d_B_takeFixed_20 (lv_at hl 4 rfl) ?_
      refine lv_imul C.x C.b d_B_takeFixed_22 ?_
      refine ra_i (pk_mul _ _) ?_
      refine lv_lshl C.x C.b d_B_takeFixed_23 (wb_shl _ (by omega)) ?_
      refine lv_lor C.x C.b d_B_takeFixed_24 ?_
      refine lv_lstore_n (lv' := [(3, .long (v ||| lN (0 * 2 ^ (8 * i)))), (0, .ref b), (1, .int (nI nb)), (2, .int (nI E)), (5, .int (nI i))]) C.x C.b d_B_takeFixed_25 rfl hl (by decide) rfl (fun ls hl => ?_)
      refine lv_iinc (v := (nI (i + 1))) (lv' := [(5, .int (nI (i + 1))), (3, .long (v ||| lN (0 * 2 ^ (8 * i)))), (0, .ref b), (1, .int (nI nb)), (2, .int (nI E))]) C.x C.b d_B_takeFixed_26 hl (k := 4) rfl (nI_inc _ 1) (by decide) rfl (fun ls hl => ?_)
      refine lv_goto (tgt := 5) C.x C.b d_B_takeFixed_29 (by decide) ?_
      exact ih (i + 1) _ (by omega) H locs ls hP hD hS (lv_sub hl [2, 3, 4, 1, 0] rfl)
set_option maxHeartbeats 4000000 in
set_option maxRecDepth 100000 in
/-- takeFixed: the loop -/
theorem lp_B_takeFixed {p : Program} {l : Launch} {e : Env} {R : Room} {s : State} {m : MethodId} {args : Array Value} {below : List Frame} {meth : Method} {c : Code} {D : va_G} {cI cB : ClassId} {A : Nat → Prop} {Q : State → Prop} {cells slots : Nat} (C : Cx p s m args meth c D cI cB b_B_takeFixed 6 R_B (some .long) "takeFixed") (hA : ∀ q : Nat, s.heap.size ≤ q → A q) (b r sz k E cap nb : Nat) (I : List Nat) (t : Nat → Nat) (hI : Hd t I) (hI8 : ∀ x ∈ I, x < 256) (hE : E ≤ I.length) (hIc : I.length ≤ cap) (hcap : cap ≤ 65536) (hnb : nb ≤ 4) (hR1 : 2 ≤ R.frames) (hR2 : 42 ≤ R.locals) (hRc : cells ≤ R.cells) (hRs : slots ≤ R.slots) (kk1 : k + nb ≤ E → ∀ (H : Heap) (locs : List Loc) (ls : Array Slot), va_P D classes [oB b r sz (k + nb) 0, aB cB r cap t] H → va_D A [oB b r sz (k + nb) 0, aB cB r cap t] → va_S A s.heap H locs → lv_has ls 6 [(0, .ref b), (1, .int (nI nb)), (2, .int (nI E)), (3, .long (lN (bs (ib (gt I)) (8 * k) (8 * nb)))), (5, .int (nI nb))] → W p l e R s m args below meth c H locs cells slots Q (F0 m 32 ls [])) (kk2 : E < k + nb → ∀ (k2 : Nat), k2 ≤ 65536 → ∀ (v : Int64) (H : Heap) (locs : List Loc) (ls : Array Slot), va_P D classes [oB b r sz k2 1, aB cB r cap t] H → va_D A [oB b r sz k2 1, aB cB r cap t] → va_S A s.heap H locs → lv_has ls 6 [(0, .ref b), (1, .int (nI nb)), (2, .int (nI E)), (3, .long v), (5, .int (nI nb))] → W p l e R s m args below meth c H locs cells slots Q (F0 m 32 ls [])) : ∀ (d i : Nat), i + d = nb → k + i ≤ E → ∀ (H : Heap) (locs : List Loc) (ls : Array Slot), va_P D classes [oB b r sz (k + i) 0, aB cB r cap t] H → va_D A [oB b r sz (k + i) 0, aB cB r cap t] → va_S A s.heap H locs → lv_has ls 6 [(0, .ref b), (1, .int (nI nb)), (2, .int (nI E)), (3, .long (lN (bs (ib (gt I)) (8 * k) (8 * i)))), (5, .int (nI i))] → W p l e R s m args below meth c H locs cells slots (Q) (F0 m 5 ls []) := by
  intro d
  induction d with
  | zero =>
    intro i hi hki H locs ls hP hD hS hl
    refine lv_iload C.x C.b d_B_takeFixed_5 (lv_at hl 4 rfl) ?_
    refine lv_iload_n C.x C.b d_B_takeFixed_7 rfl (lv_at hl 1 rfl) ?_
    refine jc_ge (tgt := 32) C d_B_takeFixed_8 (by decide) (by omega) (by omega) (fun h => ?_) (fun h => ?_)
    · obtain rfl : i = nb := by omega
      exact kk1 hki H locs ls hP hD hS hl
    · exfalso; omega
  | succ d ih =>
    intro i hi hki H locs ls hP hD hS hl
    refine lv_iload C.x C.b d_B_takeFixed_5 (lv_at hl 4 rfl) ?_
    refine lv_iload_n C.x C.b d_B_takeFixed_7 rfl (lv_at hl 1 rfl) ?_
    refine jc_ge (tgt := 32) C d_B_takeFixed_8 (by decide) (by omega) (by omega) (fun h => ?_) (fun h => ?_)
    · exfalso; omega
    · refine lv_lload_n C.x C.b d_B_takeFixed_11 rfl (lv_at hl 3 rfl) ?_
      refine lv_aload_n C.x C.b d_B_takeFixed_12 rfl (lv_at hl 0 rfl) ?_
      refine lv_iload_n C.x C.b d_B_takeFixed_13 rfl (lv_at hl 2 rfl) ?_
      refine ciV (wr := []) C hA hP hD hS hl.1 (c_B_take l D cI cB b r sz (k + i) 0 E cap I t hI hI8 hE hIc hcap (by decide) (by omega)) ok_B_42 [.long (lN (bs (ib (gt I)) (8 * k) (8 * i)))] [0, 1] [] 0 0 rfl rfl rfl rfl (by decide) rfl (by decide) (by decide) rfl rfl (Nat.le_of_ble_eq_true rfl) (⟨by omega, by omega⟩) (⟨by omega, by omega⟩) d_B_takeFixed_14 ?_
      intro rv w1 H locs hw hP hD hS
      rcases hw with ⟨hk2, rfl, rfl⟩ | ⟨hk2, rfl, rfl⟩
      · have hP : va_P D classes [oB b r sz (k + i + 1) 0, aB cB r cap t] H := hP
        have hD : va_D A [oB b r sz (k + i + 1) 0, aB cB r cap t] := hD
        have hg := gt_lt (by decide) hI8 (k + i)
        refine lv_i2l C.x C.b d_B_takeFixed_17 (nI_l (by omega)) ?_
        refine lv_bipush (v := nI 8) C.x C.b d_B_takeFixed_18 (by decide) ?_
        refine lv_iload C.x C.b d_B_takeFixed_20 (lv_at hl 4 rfl) ?_
        refine lv_imul C.x C.b d_B_takeFixed_22 ?_
        refine ra_i (pk_mul _ _) ?_
        have hb8 := bs_lt (ib (gt I)) (8 * k) (8 * i)
        have hp : (2 : Nat) ^ (8 * i) ≤ 2 ^ 24 := Nat.pow_le_pow_right (by decide) (by omega)
        have hm : gt I (k + i) * 2 ^ (8 * i) ≤ 255 * 2 ^ 24 := Nat.mul_le_mul (by omega) hp
        have es : bs (ib (gt I)) (8 * k) (8 * (i + 1)) = bs (ib (gt I)) (8 * k) (8 * i) + gt I (k + i) * 2 ^ (8 * i) := by rw [Nat.mul_add 8 i 1, bs_app, ← Nat.mul_add, ib_byte hg]
        refine lv_lshl C.x C.b d_B_takeFixed_23 (wb_shl _ (by omega)) ?_
        refine lv_lor C.x C.b d_B_takeFixed_24 ?_
        refine ra_l (y := lN (bs (ib (gt I)) (8 * k) (8 * (i + 1)))) (by rw [es]; exact lN_orS hb8 (by omega)) ?_
        refine lv_lstore_n (lv' := [(3, .long (lN (bs (ib (gt I)) (8 * k) (8 * (i + 1))))), (0, .ref b), (1, .int (nI nb)), (2, .int (nI E)), (5, .int (nI i))]) C.x C.b d_B_takeFixed_25 rfl hl (by decide) rfl (fun ls hl => ?_)
        refine lv_iinc (v := (nI (i + 1))) (lv' := [(5, .int (nI (i + 1))), (3, .long (lN (bs (ib (gt I)) (8 * k) (8 * (i + 1))))), (0, .ref b), (1, .int (nI nb)), (2, .int (nI E))]) C.x C.b d_B_takeFixed_26 hl (k := 4) rfl (nI_inc _ 1) (by decide) rfl (fun ls hl => ?_)
        refine lv_goto (tgt := 5) C.x C.b d_B_takeFixed_29 (by decide) ?_
        exact ih (i + 1) (by omega) (by omega) H locs ls hP hD hS (lv_sub hl [2, 3, 4, 1, 0] rfl)
      · have hP : va_P D classes [oB b r sz (k + i) 1, aB cB r cap t] H := hP
        have hD : va_D A [oB b r sz (k + i) 1, aB cB r cap t] := hD
        refine lv_i2l C.x C.b d_B_takeFixed_17 (nI_l (by omega)) ?_
        refine lv_bipush (v := nI 8) C.x C.b d_B_takeFixed_18 (by decide) ?_
        refine lv_iload C.x C.b d_B_takeFixed_20 (lv_at hl 4 rfl) ?_
        refine lv_imul C.x C.b d_B_takeFixed_22 ?_
        refine ra_i (pk_mul _ _) ?_
        refine lv_lshl C.x C.b d_B_takeFixed_23 (wb_shl _ (by omega)) ?_
        refine lv_lor C.x C.b d_B_takeFixed_24 ?_
        refine lv_lstore_n (lv' := [(3, .long (lN (bs (ib (gt I)) (8 * k) (8 * i)) ||| lN (0 * 2 ^ (8 * i)))), (0, .ref b), (1, .int (nI nb)), (2, .int (nI E)), (5, .int (nI i))]) C.x C.b d_B_takeFixed_25 rfl hl (by decide) rfl (fun ls hl => ?_)
        refine lv_iinc (v := (nI (i + 1))) (lv' := [(5, .int (nI (i + 1))), (3, .long (lN (bs (ib (gt I)) (8 * k) (8 * i)) ||| lN (0 * 2 ^ (8 * i)))), (0, .ref b), (1, .int (nI nb)), (2, .int (nI E))]) C.x C.b d_B_takeFixed_26 hl (k := 4) rfl (nI_inc _ 1) (by decide) rfl (fun ls hl => ?_)
        refine lv_goto (tgt := 5) C.x C.b d_B_takeFixed_29 (by decide) ?_
        exact lp_B_takeF C hA b r sz (k + i) E cap nb I t hI hI8 hE hIc hcap hk2 (by omega) hnb hR1 hR2 hRc hRs (fun v H locs ls hP hD hS hl => kk2 (by omega) (k + i) (by omega) v H locs ls hP hD hS hl) d (i + 1) _ (by omega) H locs ls hP hD hS (lv_sub hl [2, 3, 4, 1, 0] rfl)
set_option maxHeartbeats 4000000 in
set_option maxRecDepth 100000 in
/-- takeFixed(nb, E) -/
theorem c_B_takeFixed (l : Launch) (D : va_G) (cI cB : ClassId) (b r sz k E cap nb : Nat) (I : List Nat) (t : Nat → Nat) (hI : Hd t I) (hI8 : ∀ x ∈ I, x < 256) (hE : E ≤ I.length) (hIc : I.length ≤ cap) (hcap : cap ≤ 65536) (hnb : nb ≤ 4) (hk : k ≤ E) : Kl l D cI cB y_B_takeFixed b_B_takeFixed 6 2 42 0 0 [.ref b, .int (nI nb), .int (nI E)] [oB b r sz k 0, aB cB r cap t] (fun v w1 => (k + nb ≤ E ∧ v = lN (bs (ib (gt I)) (8 * k) (8 * nb)) ∧ w1 = [oB b r sz (k + nb) 0, aB cB r cap t]) ∨ (E < k + nb ∧ ∃ k2, k2 ≤ 65536 ∧ w1 = [oB b r sz k2 1, aB cB r cap t])) := by
  refine ent (fun A => va_Ql _ (BW D A) A) (by decide) (Nat.le_of_ble_eq_true rfl) ?_
  intro p e s m below meth c A ls C hA hP hD hS hl
  have hl : lv_has ls 6 [(0, .ref b), (1, .int (nI nb)), (2, .int (nI E))] := hl
  refine lv_lconst (v := lN 0) C.x C.b d_B_takeFixed_0 (by decide) ?_
  refine lv_lstore_n (lv' := [(3, .long (lN 0)), (0, .ref b), (1, .int (nI nb)), (2, .int (nI E))]) C.x C.b d_B_takeFixed_1 rfl hl (by decide) rfl (fun ls hl => ?_)
  refine lv_iconst (v := nI 0) C.x C.b d_B_takeFixed_2 (by decide) ?_
  refine lv_istore (lv' := [(5, .int (nI 0)), (3, .long (lN 0)), (0, .ref b), (1, .int (nI nb)), (2, .int (nI E))]) C.x C.b d_B_takeFixed_3 hl (by decide) rfl (fun ls hl => ?_)
  have hl : lv_has ls 6 [(0, .ref b), (1, .int (nI nb)), (2, .int (nI E)), (3, .long (lN (bs (ib (gt I)) (8 * k) (8 * 0)))), (5, .int (nI 0))] := lv_sub hl [2, 3, 4, 1, 0] rfl
  refine lp_B_takeFixed C hA b r sz k E cap nb I t hI hI8 hE hIc hcap hnb (Nat.le_refl 2) (Nat.le_refl 42) (Nat.le_refl 0) (Nat.le_refl 0) (fun h H locs ls hP hD hS hl => ?_) (fun h k2 hk2 v H locs ls hP hD hS hl => ?_) nb 0 (by omega) hk _ _ ls hP hD hS hl
  · refine lv_lload_n C.x C.b d_B_takeFixed_32 rfl (lv_at hl 3 rfl) ?_
    exact retl C hP hD hS d_B_takeFixed_33 (by omega) (by omega) (Or.inl ⟨h, rfl, rfl⟩)
  · refine lv_lload_n C.x C.b d_B_takeFixed_32 rfl (lv_at hl 3 rfl) ?_
    exact retl C hP hD hS d_B_takeFixed_33 (by omega) (by omega) (Or.inr ⟨h, k2, hk2, rfl⟩)
end
section
/-! contracts of Bytes: takeVarint, the constructor (printed by gen/bytes4.py) -/
theorem vr_cut {t : Nat → Nat} {E d i a acc : Nat} (h : E ≤ a) : vr t E (d + 1) i a acc = (1, a, 0) := by
  unfold vr
  rw [if_pos h]
theorem vr_bad {t : Nat → Nat} {E d i a acc : Nat} (h : a < E) (h2 : (i = 9 ∧ 1 < t a) ∨ (0 < i ∧ t a = 0)) : vr t E (d + 1) i a acc = (2, a + 1, 0) := by
  unfold vr
  rw [if_neg (by omega), if_pos h2]
theorem vr_end {t : Nat → Nat} {E d i a acc : Nat} (h : a < E) (h2 : ¬ ((i = 9 ∧ 1 < t a) ∨ (0 < i ∧ t a = 0))) (h3 : t a < 128) : vr t E (d + 1) i a acc = (0, a + 1, acc + t a % 128 * 2 ^ (7 * i)) := by
  unfold vr
  rw [if_neg (by omega), if_neg h2, if_pos h3]
theorem vr_go {t : Nat → Nat} {E d i a acc : Nat} (h : a < E) (h2 : ¬ ((i = 9 ∧ 1 < t a) ∨ (0 < i ∧ t a = 0))) (h3 : 128 ≤ t a) : vr t E (d + 1) i a acc = vr t E d (i + 1) (a + 1) (acc + t a % 128 * 2 ^ (7 * i)) := by
  rw [vr, if_neg (by omega), if_neg h2, if_neg (by omega)]
theorem vr_acc {i b acc : Nat} (h : acc < 2 ^ (7 * i)) : acc + b % 128 * 2 ^ (7 * i) < 2 ^ (7 * (i + 1)) := by
  have h1 : b % 128 * 2 ^ (7 * i) ≤ 127 * 2 ^ (7 * i) := Nat.mul_le_mul_right _ (by omega)
  rw [Nat.mul_add, Nat.pow_add]
  omega
theorem vr_sum {i b acc : Nat} (hi : i ≤ 9) (h9 : i = 9 → b ≤ 1) (h : acc < 2 ^ (7 * i)) : acc + b % 128 * 2 ^ (7 * i) < 2 ^ 64 := by
  rcases Nat.lt_or_ge i 9 with q | q
  · exact Nat.lt_of_lt_of_le (vr_acc h) (Nat.pow_le_pow_right (by decide) (by omega))
  · obtain rfl : i = 9 := by omega
    have h1 : b % 128 * 2 ^ (7 * 9) ≤ 1 * 2 ^ (7 * 9) := Nat.mul_le_mul_right _ (by have := h9 rfl; omega)
    omega
theorem vr_lt {t : Nat → Nat} {E : Nat} : ∀ d i a acc, i + d = 10 → i ≤ 9 → acc < 2 ^ (7 * i) → (vr t E d i a acc).2.2 < 2 ^ 64 := by
  intro d
  induction d with
  | zero => intro i a acc h h2; omega
  | succ d ih =>
    intro i a acc h h2 h3
    by_cases c1 : E ≤ a
    · rw [vr_cut c1]; exact Nat.two_pow_pos 64
    · by_cases c2 : (i = 9 ∧ 1 < t a) ∨ (0 < i ∧ t a = 0)
      · rw [vr_bad (by omega) c2]; exact Nat.two_pow_pos 64
      · by_cases c3 : t a < 128
        · rw [vr_end (by omega) c2 c3]; exact vr_sum h2 (by omega) h3
        · rw [vr_go (by omega) c2 (by omega)]
          exact ih _ _ _ (by omega) (by omega) (vr_acc h3)
theorem vr_at {t : Nat → Nat} {E : Nat} : ∀ d i a acc, a ≤ E → (vr t E d i a acc).2.1 ≤ E := by
  intro d
  induction d with
  | zero => intro i a acc h; exact h
  | succ d ih =>
    intro i a acc h
    by_cases c1 : E ≤ a
    · rw [vr_cut c1]; exact h
    · by_cases c2 : (i = 9 ∧ 1 < t a) ∨ (0 < i ∧ t a = 0)
      · rw [vr_bad (by omega) c2]; show a + 1 ≤ E; omega
      · by_cases c3 : t a < 128
        · rw [vr_end (by omega) c2 c3]; show a + 1 ≤ E; omega
        · rw [vr_go (by omega) c2 (by omega)]
          exact ih _ _ _ (by omega)
theorem vr_f {t : Nat → Nat} {E : Nat} : ∀ d i a acc, (vr t E d i a acc).1 ≤ 2 := by
  intro d
  induction d with
  | zero => intro i a acc; exact Nat.zero_le _
  | succ d ih =>
    intro i a acc
    by_cases c1 : E ≤ a
    · rw [vr_cut c1]; show 1 ≤ 2; omega
    · by_cases c2 : (i = 9 ∧ 1 < t a) ∨ (0 < i ∧ t a = 0)
      · rw [vr_bad (by omega) c2]; exact Nat.le_refl 2
      · by_cases c3 : t a < 128
        · rw [vr_end (by omega) c2 c3]; exact Nat.zero_le _
        · rw [vr_go (by omega) c2 (by omega)]
          exact ih _ _ _
set_option maxHeartbeats 4000000 in
set_option maxRecDepth 100000 in
/-- takeVarint: the loop -/
theorem lp_B_takeVarint {p : Program} {l : Launch} {e : Env} {R : Room} {s : State} {m : MethodId} {args : Array Value} {below : List Frame} {meth : Method} {c : Code} {D : va_G} {cI cB : ClassId} {A : Nat → Prop} (C : Cx p s m args meth c D cI cB b_B_takeVarint 6 R_B (some .long) "takeVarint") (hA : ∀ q : Nat, s.heap.size ≤ q → A q) (b r sz E cap : Nat) (I : List Nat) (t : Nat → Nat) (hI : Hd t I) (hI8 : ∀ x ∈ I, x < 256) (hE : E ≤ I.length) (hIc : I.length ≤ cap) (hcap : cap ≤ 65536) (post : Int64 → va_W → Prop) (hR1 : 2 ≤ R.frames) (hR2 : 42 ≤ R.locals) : ∀ (d i k acc : Nat), i + d = 10 → i ≤ 9 → acc < 2 ^ (7 * i) → k ≤ E → (∀ (v : Int64) (w1 : va_W), (w1 = [oB b r sz (vr (gt I) E d i k acc).2.1 (vr (gt I) E d i k acc).1, aB cB r cap t] ∧ ((vr (gt I) E d i k acc).1 = 0 → v = lN (vr (gt I) E d i k acc).2.2)) → post v w1) → ∀ (H : Heap) (locs : List Loc) (ls : Array Slot), va_P D classes [oB b r sz k 0, aB cB r cap t] H → va_D A [oB b r sz k 0, aB cB r cap t] → va_S A s.heap H locs → lv_has ls 6 [(0, .ref b), (1, .int (nI E)), (2, .long (lN acc)), (4, .int (nI i))] → W p l e R s m args below meth c H locs 0 0 (MQ below (va_Ql post (BW D A) A) args s 0 0 A) (F0 m 5 ls []) := by
  intro d
  induction d with
  | zero => intro i k acc hi hi9; exfalso; omega
  | succ d ih =>
    intro i k acc hi hi9 hacc hk hp H locs ls hP hD hS hl
    refine lv_iload C.x C.b d_B_takeVarint_5 (lv_at hl 3 rfl) ?_
    refine lv_bipush (v := nI 10) C.x C.b d_B_takeVarint_7 (by decide) ?_
    refine jc_ge (tgt := 89) C d_B_takeVarint_9 (by decide) (by omega) (by omega) (fun h => ?_) (fun h => ?_)
    · exfalso; omega
    · refine lv_aload_n C.x C.b d_B_takeVarint_12 rfl (lv_at hl 0 rfl) ?_
      refine lv_iload_n C.x C.b d_B_takeVarint_13 rfl (lv_at hl 1 rfl) ?_
      refine ciV (wr := []) C hA hP hD hS hl.1 (c_B_take l D cI cB b r sz k 0 E cap I t hI hI8 hE hIc hcap (by decide) (by omega)) ok_B_42 [] [0, 1] [] 0 0 rfl rfl rfl rfl (by decide) rfl (by decide) (by decide) rfl rfl (Nat.le_of_ble_eq_true rfl) (⟨by omega, by omega⟩) (⟨by omega, by omega⟩) d_B_takeVarint_14 ?_
      intro rv w1 H locs hw hP hD hS
      rcases hw with ⟨hk2, rfl, rfl⟩ | ⟨hk2, rfl, rfl⟩
      · have hP : va_P D classes [oB b r sz (k + 1) 0, aB cB r cap t] H := hP
        have hD : va_D A [oB b r sz (k + 1) 0, aB cB r cap t] := hD
        have hg := gt_lt (by decide) hI8 k
        refine lv_istore (lv' := [(5, .int (nI (gt I k))), (0, .ref b), (1, .int (nI E)), (2, .long (lN acc)), (4, .int (nI i))]) C.x C.b d_B_takeVarint_17 hl (by decide) rfl (fun ls hl => ?_)
        refine lv_aload_n C.x C.b d_B_takeVarint_19 rfl (lv_at hl 1 rfl) ?_
        refine gf C hP 0 0 3 rfl rfl (by decide) fl_B_22 rfl d_B_takeVarint_20 ?_
        refine jz_eq (tgt := 28) C d_B_takeVarint_23 (by decide) (by omega) (fun h2 => ?_) (fun h2 => ?_)
        · refine lv_iload C.x C.b d_B_takeVarint_28 (lv_at hl 4 rfl) ?_
          refine lv_bipush (v := nI 9) C.x C.b d_B_takeVarint_30 (by decide) ?_
          refine jc_ne (tgt := 41) C d_B_takeVarint_32 (by decide) (by omega) (by omega) (fun h9 => ?_) (fun h9 => ?_)
          · refine lv_iload C.x C.b d_B_takeVarint_41 (lv_at hl 4 rfl) ?_
            refine jz_le (tgt := 58) C d_B_takeVarint_43 (by decide) (by omega) (fun h3 => ?_) (fun h3 => ?_)
            · have hnb : ¬ ((i = 9 ∧ 1 < gt I k) ∨ (0 < i ∧ gt I k = 0)) := by omega
              have hsum := vr_sum (b := gt I k) hi9 (by omega) hacc
              refine lv_lload_n C.x C.b d_B_takeVarint_58 rfl (lv_at hl 3 rfl) ?_
              refine lv_iload C.x C.b d_B_takeVarint_59 (lv_at hl 0 rfl) ?_
              refine lv_bipush (v := nI 127) C.x C.b d_B_takeVarint_61 (by decide) ?_
              refine lv_iand C.x C.b d_B_takeVarint_63 ?_
              refine ra_i (ni_127 _) ?_
              refine lv_i2l C.x C.b d_B_takeVarint_64 (nI_l (by omega)) ?_
              refine lv_bipush (v := nI 7) C.x C.b d_B_takeVarint_65 (by decide) ?_
              refine lv_iload C.x C.b d_B_takeVarint_67 (lv_at hl 4 rfl) ?_
              refine lv_imul C.x C.b d_B_takeVarint_69 ?_
              refine ra_i (pk_mul _ _) ?_
              refine lv_lshl C.x C.b d_B_takeVarint_70 (wb_shl _ (by omega)) ?_
              refine lv_lor C.x C.b d_B_takeVarint_71 ?_
              refine ra_l (y := lN (acc + gt I k % 128 * 2 ^ (7 * i))) (lN_orS hacc hsum) ?_
              refine lv_lstore_n (lv' := [(2, .long (lN (acc + gt I k % 128 * 2 ^ (7 * i)))), (5, .int (nI (gt I k))), (0, .ref b), (1, .int (nI E)), (4, .int (nI i))]) C.x C.b d_B_takeVarint_72 rfl hl (by decide) rfl (fun ls hl => ?_)
              refine lv_iload C.x C.b d_B_takeVarint_73 (lv_at hl 1 rfl) ?_
              refine lv_sipush (v := nI 128) C.x C.b d_B_takeVarint_75 (by decide) ?_
              refine jc_ge (tgt := 83) C d_B_takeVarint_78 (by decide) (by omega) (by omega) (fun h5 => ?_) (fun h5 => ?_)
              · refine lv_iinc (v := (nI (i + 1))) (lv' := [(4, .int (nI (i + 1))), (2, .long (lN (acc + gt I k % 128 * 2 ^ (7 * i)))), (5, .int (nI (gt I k))), (0, .ref b), (1, .int (nI E))]) C.x C.b d_B_takeVarint_83 hl (k := 4) rfl (nI_inc _ 1) (by decide) rfl (fun ls hl => ?_)
                refine lv_goto (tgt := 5) C.x C.b d_B_takeVarint_86 (by decide) ?_
                exact ih (i + 1) (k + 1) _ (by omega) (by omega) (vr_acc hacc) (by omega) (fun v w1 q => hp v w1 (by rw [vr_go hk2 hnb h5]; exact q)) H locs ls hP hD hS (lv_sub hl [3, 4, 1, 0] rfl)
              · refine lv_lload_n C.x C.b d_B_takeVarint_81 rfl (lv_at hl 0 rfl) ?_
                exact retl C hP hD hS d_B_takeVarint_82 (by omega) (by omega) (hp _ _ (by rw [vr_end hk2 hnb h5]; exact ⟨rfl, fun _ => rfl⟩))
            · refine lv_iload C.x C.b d_B_takeVarint_46 (lv_at hl 0 rfl) ?_
              refine jz_ne (tgt := 58) C d_B_takeVarint_48 (by decide) (by omega) (fun h4 => ?_) (fun h4 => ?_)
              · have hnb : ¬ ((i = 9 ∧ 1 < gt I k) ∨ (0 < i ∧ gt I k = 0)) := by omega
                have hsum := vr_sum (b := gt I k) hi9 (by omega) hacc
                refine lv_lload_n C.x C.b d_B_takeVarint_58 rfl (lv_at hl 3 rfl) ?_
                refine lv_iload C.x C.b d_B_takeVarint_59 (lv_at hl 0 rfl) ?_
                refine lv_bipush (v := nI 127) C.x C.b d_B_takeVarint_61 (by decide) ?_
                refine lv_iand C.x C.b d_B_takeVarint_63 ?_
                refine ra_i (ni_127 _) ?_
                refine lv_i2l C.x C.b d_B_takeVarint_64 (nI_l (by omega)) ?_
                refine lv_bipush (v := nI 7) C.x C.b d_B_takeVarint_65 (by decide) ?_
                refine lv_iload C.x C.b d_B_takeVarint_67 (lv_at hl 4 rfl) ?_
                refine lv_imul C.x C.b d_B_takeVarint_69 ?_
                refine ra_i (pk_mul _ _) ?_
                refine lv_lshl C.x C.b d_B_takeVarint_70 (wb_shl _ (by omega)) ?_
                refine lv_lor C.x C.b d_B_takeVarint_71 ?_
                refine ra_l (y := lN (acc + gt I k % 128 * 2 ^ (7 * i))) (lN_orS hacc hsum) ?_
                refine lv_lstore_n (lv' := [(2, .long (lN (acc + gt I k % 128 * 2 ^ (7 * i)))), (5, .int (nI (gt I k))), (0, .ref b), (1, .int (nI E)), (4, .int (nI i))]) C.x C.b d_B_takeVarint_72 rfl hl (by decide) rfl (fun ls hl => ?_)
                refine lv_iload C.x C.b d_B_takeVarint_73 (lv_at hl 1 rfl) ?_
                refine lv_sipush (v := nI 128) C.x C.b d_B_takeVarint_75 (by decide) ?_
                refine jc_ge (tgt := 83) C d_B_takeVarint_78 (by decide) (by omega) (by omega) (fun h5 => ?_) (fun h5 => ?_)
                · refine lv_iinc (v := (nI (i + 1))) (lv' := [(4, .int (nI (i + 1))), (2, .long (lN (acc + gt I k % 128 * 2 ^ (7 * i)))), (5, .int (nI (gt I k))), (0, .ref b), (1, .int (nI E))]) C.x C.b d_B_takeVarint_83 hl (k := 4) rfl (nI_inc _ 1) (by decide) rfl (fun ls hl => ?_)
                  refine lv_goto (tgt := 5) C.x C.b d_B_takeVarint_86 (by decide) ?_
                  exact ih (i + 1) (k + 1) _ (by omega) (by omega) (vr_acc hacc) (by omega) (fun v w1 q => hp v w1 (by rw [vr_go hk2 hnb h5]; exact q)) H locs ls hP hD hS (lv_sub hl [3, 4, 1, 0] rfl)
                · refine lv_lload_n C.x C.b d_B_takeVarint_81 rfl (lv_at hl 0 rfl) ?_
                  exact retl C hP hD hS d_B_takeVarint_82 (by omega) (by omega) (hp _ _ (by rw [vr_end hk2 hnb h5]; exact ⟨rfl, fun _ => rfl⟩))
              · refine lv_aload_n C.x C.b d_B_takeVarint_51 rfl (lv_at hl 1 rfl) ?_
                refine lv_iconst (v := nI 2) C.x C.b d_B_takeVarint_52 (by decide) ?_
                refine cvV (wr := [aB cB r cap t]) C hA hP hD hS hl.1 (c_B_fail l D cI cB b r sz (k + 1) 0 2 (by decide)) ok_B_39 [] [0] [1] 0 0 rfl rfl rfl rfl (by decide) rfl (by decide) (by decide) rfl rfl (Nat.le_of_ble_eq_true rfl) (⟨by (try dsimp only [rmO]); omega, by (try dsimp only [rmO]); omega⟩) (⟨by (try dsimp only [rmO]); omega, by (try dsimp only [rmO]); omega⟩) d_B_takeVarint_53 ?_
                intro w1 H locs hw hP hD hS
                obtain rfl := hw
                have hP : va_P D classes [aB cB r cap t, oB b r sz (k + 1) 2] H := hP
                have hD : va_D A [aB cB r cap t, oB b r sz (k + 1) 2] := hD
                have hP : va_P D classes [oB b r sz (k + 1) 2, aB cB r cap t] H := hP.sub [1, 0] rfl
                have hD : va_D A [oB b r sz (k + 1) 2, aB cB r cap t] := hD.sub [1, 0] (by decide) rfl
                refine lv_lconst (v := lN 0) C.x C.b d_B_takeVarint_56 (by decide) ?_
                exact retl C hP hD hS d_B_takeVarint_57 (by omega) (by omega) (hp _ _ (by rw [vr_bad hk2 (Or.inr ⟨h3, h4⟩)]; exact ⟨rfl, fun q => absurd q (Nat.succ_ne_zero _)⟩))
          · refine lv_iload C.x C.b d_B_takeVarint_35 (lv_at hl 0 rfl) ?_
            refine lv_iconst (v := nI 1) C.x C.b d_B_takeVarint_37 (by decide) ?_
            refine jc_gt (tgt := 51) C d_B_takeVarint_38 (by decide) (by omega) (by omega) (fun h6 => ?_) (fun h6 => ?_)
            · refine lv_aload_n C.x C.b d_B_takeVarint_51 rfl (lv_at hl 1 rfl) ?_
              refine lv_iconst (v := nI 2) C.x C.b d_B_takeVarint_52 (by decide) ?_
              refine cvV (wr := [aB cB r cap t]) C hA hP hD hS hl.1 (c_B_fail l D cI cB b r sz (k + 1) 0 2 (by decide)) ok_B_39 [] [0] [1] 0 0 rfl rfl rfl rfl (by decide) rfl (by decide) (by decide) rfl rfl (Nat.le_of_ble_eq_true rfl) (⟨by (try dsimp only [rmO]); omega, by (try dsimp only [rmO]); omega⟩) (⟨by (try dsimp only [rmO]); omega, by (try dsimp only [rmO]); omega⟩) d_B_takeVarint_53 ?_
              intro w1 H locs hw hP hD hS
              obtain rfl := hw
              have hP : va_P D classes [aB cB r cap t, oB b r sz (k + 1) 2] H := hP
              have hD : va_D A [aB cB r cap t, oB b r sz (k + 1) 2] := hD
              have hP : va_P D classes [oB b r sz (k + 1) 2, aB cB r cap t] H := hP.sub [1, 0] rfl
              have hD : va_D A [oB b r sz (k + 1) 2, aB cB r cap t] := hD.sub [1, 0] (by decide) rfl
              refine lv_lconst (v := lN 0) C.x C.b d_B_takeVarint_56 (by decide) ?_
              exact retl C hP hD hS d_B_takeVarint_57 (by omega) (by omega) (hp _ _ (by rw [vr_bad hk2 (Or.inl ⟨h9, h6⟩)]; exact ⟨rfl, fun q => absurd q (Nat.succ_ne_zero _)⟩))
            · refine lv_iload C.x C.b d_B_takeVarint_41 (lv_at hl 4 rfl) ?_
              refine jz_le (tgt := 58) C d_B_takeVarint_43 (by decide) (by omega) (fun h3 => ?_) (fun h3 => ?_)
              · have hnb : ¬ ((i = 9 ∧ 1 < gt I k) ∨ (0 < i ∧ gt I k = 0)) := by omega
                have hsum := vr_sum (b := gt I k) hi9 (by omega) hacc
                refine lv_lload_n C.x C.b d_B_takeVarint_58 rfl (lv_at hl 3 rfl) ?_
                refine lv_iload C.x C.b d_B_takeVarint_59 (lv_at hl 0 rfl) ?_
                refine lv_bipush (v := nI 127) C.x C.b d_B_takeVarint_61 (by decide) ?_
                refine lv_iand C.x C.b d_B_takeVarint_63 ?_
                refine ra_i (ni_127 _) ?_
                refine lv_i2l C.x C.b d_B_takeVarint_64 (nI_l (by omega)) ?_
                refine lv_bipush (v := nI 7) C.x C.b d_B_takeVarint_65 (by decide) ?_
                refine lv_iload C.x C.b d_B_takeVarint_67 (lv_at hl 4 rfl) ?_
                refine lv_imul C.x C.b d_B_takeVarint_69 ?_
                refine ra_i (pk_mul _ _) ?_
                refine lv_lshl C.x C.b d_B_takeVarint_70 (wb_shl _ (by omega)) ?_
                refine lv_lor C.x C.b d_B_takeVarint_71 ?_
                refine ra_l (y := lN (acc + gt I k % 128 * 2 ^ (7 * i))) (lN_orS hacc hsum) ?_
                refine lv_lstore_n (lv' := [(2, .long (lN (acc + gt I k % 128 * 2 ^ (7 * i)))), (5, .int (nI (gt I k))), (0, .ref b), (1, .int (nI E)), (4, .int (nI i))]) C.x C.b d_B_takeVarint_72 rfl hl (by decide) rfl (fun ls hl => ?_)
                refine lv_iload C.x C.b d_B_takeVarint_73 (lv_at hl 1 rfl) ?_
                refine lv_sipush (v := nI 128) C.x C.b d_B_takeVarint_75 (by decide) ?_
                refine jc_ge (tgt := 83) C d_B_takeVarint_78 (by decide) (by omega) (by omega) (fun h5 => ?_) (fun h5 => ?_)
                · refine lv_iinc (v := (nI (i + 1))) (lv' := [(4, .int (nI (i + 1))), (2, .long (lN (acc + gt I k % 128 * 2 ^ (7 * i)))), (5, .int (nI (gt I k))), (0, .ref b), (1, .int (nI E))]) C.x C.b d_B_takeVarint_83 hl (k := 4) rfl (nI_inc _ 1) (by decide) rfl (fun ls hl => ?_)
                  refine lv_goto (tgt := 5) C.x C.b d_B_takeVarint_86 (by decide) ?_
                  exact ih (i + 1) (k + 1) _ (by omega) (by omega) (vr_acc hacc) (by omega) (fun v w1 q => hp v w1 (by rw [vr_go hk2 hnb h5]; exact q)) H locs ls hP hD hS (lv_sub hl [3, 4, 1, 0] rfl)
                · refine lv_lload_n C.x C.b d_B_takeVarint_81 rfl (lv_at hl 0 rfl) ?_
                  exact retl C hP hD hS d_B_takeVarint_82 (by omega) (by omega) (hp _ _ (by rw [vr_end hk2 hnb h5]; exact ⟨rfl, fun _ => rfl⟩))
              · refine lv_iload C.x C.b d_B_takeVarint_46 (lv_at hl 0 rfl) ?_
                refine jz_ne (tgt := 58) C d_B_takeVarint_48 (by decide) (by omega) (fun h4 => ?_) (fun h4 => ?_)
                · have hnb : ¬ ((i = 9 ∧ 1 < gt I k) ∨ (0 < i ∧ gt I k = 0)) := by omega
                  have hsum := vr_sum (b := gt I k) hi9 (by omega) hacc
                  refine lv_lload_n C.x C.b d_B_takeVarint_58 rfl (lv_at hl 3 rfl) ?_
                  refine lv_iload C.x C.b d_B_takeVarint_59 (lv_at hl 0 rfl) ?_
                  refine lv_bipush (v := nI 127) C.x C.b d_B_takeVarint_61 (by decide) ?_
                  refine lv_iand C.x C.b d_B_takeVarint_63 ?_
                  refine ra_i (ni_127 _) ?_
                  refine lv_i2l C.x C.b d_B_takeVarint_64 (nI_l (by omega)) ?_
                  refine lv_bipush (v := nI 7) C.x C.b d_B_takeVarint_65 (by decide) ?_
                  refine lv_iload C.x C.b d_B_takeVarint_67 (lv_at hl 4 rfl) ?_
                  refine lv_imul C.x C.b d_B_takeVarint_69 ?_
                  refine ra_i (pk_mul _ _) ?_
                  refine lv_lshl C.x C.b d_B_takeVarint_70 (wb_shl _ (by omega)) ?_
                  refine lv_lor C.x C.b d_B_takeVarint_71 ?_
                  refine ra_l (y := lN (acc + gt I k % 128 * 2 ^ (7 * i))) (lN_orS hacc hsum) ?_
                  refine lv_lstore_n (lv' := [(2, .long (lN (acc + gt I k % 128 * 2 ^ (7 * i)))), (5, .int (nI (gt I k))), (0, .ref b), (1, .int (nI E)), (4, .int (nI i))]) C.x C.b d_B_takeVarint_72 rfl hl (by decide) rfl (fun ls hl => ?_)
                  refine lv_iload C.x C.b d_B_takeVarint_73 (lv_at hl 1 rfl) ?_
                  refine lv_sipush (v := nI 128) C.x C.b d_B_takeVarint_75 (by decide) ?_
                  refine jc_ge (tgt := 83) C d_B_takeVarint_78 (by decide) (by omega) (by omega) (fun h5 => ?_) (fun h5 => ?_)
                  · refine lv_iinc (v := (nI (i + 1))) (lv' := [(4, .int (nI (i + 1))), (2, .long (lN (acc + gt I k % 128 * 2 ^ (7 * i)))), (5, .int (nI (gt I k))), (0, .ref b), (1, .int (nI E))]) C.x C.b d_B_takeVarint_83 hl (k := 4) rfl (nI_inc _ 1) (by decide) rfl (fun ls hl => ?_)
                    refine lv_goto (tgt := 5) C.x C.b d_B_takeVarint_86 (by decide) ?_
                    exact ih (i + 1) (k + 1) _ (by omega) (by omega) (vr_acc hacc) (by omega) (fun v w1 q => hp v w1 (by rw [vr_go hk2 hnb h5]; exact q)) H locs ls hP hD hS (lv_sub hl [3, 4, 1, 0] rfl)
                  · refine lv_lload_n C.x C.b d_B_takeVarint_81 rfl (lv_at hl 0 rfl) ?_
                    exact retl C hP hD hS d_B_takeVarint_82 (by omega) (by omega) (hp _ _ (by rw [vr_end hk2 hnb h5]; exact ⟨rfl, fun _ => rfl⟩))
                · refine lv_aload_n C.x C.b d_B_takeVarint_51 rfl (lv_at hl 1 rfl) ?_
                  refine lv_iconst (v := nI 2) C.x C.b d_B_takeVarint_52 (by decide) ?_
                  refine cvV (wr := [aB cB r cap t]) C hA hP hD hS hl.1 (c_B_fail l D cI cB b r sz (k + 1) 0 2 (by decide)) ok_B_39 [] [0] [1] 0 0 rfl rfl rfl rfl (by decide) rfl (by decide) (by decide) rfl rfl (Nat.le_of_ble_eq_true rfl) (⟨by (try dsimp only [rmO]); omega, by (try dsimp only [rmO]); omega⟩) (⟨by (try dsimp only [rmO]); omega, by (try dsimp only [rmO]); omega⟩) d_B_takeVarint_53 ?_
                  intro w1 H locs hw hP hD hS
                  obtain rfl := hw
                  have hP : va_P D classes [aB cB r cap t, oB b r sz (k + 1) 2] H := hP
                  have hD : va_D A [aB cB r cap t, oB b r sz (k + 1) 2] := hD
                  have hP : va_P D classes [oB b r sz (k + 1) 2, aB cB r cap t] H := hP.sub [1, 0] rfl
                  have hD : va_D A [oB b r sz (k + 1) 2, aB cB r cap t] := hD.sub [1, 0] (by decide) rfl
                  refine lv_lconst (v := lN 0) C.x C.b d_B_takeVarint_56 (by decide) ?_
                  exact retl C hP hD hS d_B_takeVarint_57 (by omega) (by omega) (hp _ _ (by rw [vr_bad hk2 (Or.inr ⟨h3, h4⟩)]; exact ⟨rfl, fun q => absurd q (Nat.succ_ne_zero _)⟩))
        · exact absurd rfl h2
      · have hP : va_P D classes [oB b r sz k 1, aB cB r cap t] H := hP
        have hD : va_D A [oB b r sz k 1, aB cB r cap t] := hD
        refine lv_istore (lv' := [(5, .int (nI 0)), (0, .ref b), (1, .int (nI E)), (2, .long (lN acc)), (4, .int (nI i))]) C.x C.b d_B_takeVarint_17 hl (by decide) rfl (fun ls hl => ?_)
        refine lv_aload_n C.x C.b d_B_takeVarint_19 rfl (lv_at hl 1 rfl) ?_
        refine gf C hP 0 0 3 rfl rfl (by decide) fl_B_22 rfl d_B_takeVarint_20 ?_
        refine jz_eq (tgt := 28) C d_B_takeVarint_23 (by decide) (by omega) (fun h2 => ?_) (fun h2 => ?_)
        · exfalso; omega
        · refine lv_lconst (v := lN 0) C.x C.b d_B_takeVarint_26 (by decide) ?_
          exact retl C hP hD hS d_B_takeVarint_27 (by omega) (by omega) (hp _ _ (by rw [vr_cut hk2]; exact ⟨rfl, fun q => absurd q (Nat.succ_ne_zero _)⟩))
set_option maxHeartbeats 4000000 in
set_option maxRecDepth 100000 in
/-- takeVarint(E) -/
theorem c_B_takeVarint (l : Launch) (D : va_G) (cI cB : ClassId) (b r sz k E cap : Nat) (I : List Nat) (t : Nat → Nat) (hI : Hd t I) (hI8 : ∀ x ∈ I, x < 256) (hE : E ≤ I.length) (hIc : I.length ≤ cap) (hcap : cap ≤ 65536) (hk : k ≤ E) : Kl l D cI cB y_B_takeVarint b_B_takeVarint 6 2 42 0 0 [.ref b, .int (nI E)] [oB b r sz k 0, aB cB r cap t] (fun v w1 => w1 = [oB b r sz (vr (gt I) E 10 0 k 0).2.1 (vr (gt I) E 10 0 k 0).1, aB cB r cap t] ∧ ((vr (gt I) E 10 0 k 0).1 = 0 → v = lN (vr (gt I) E 10 0 k 0).2.2)) := by
  refine ent (fun A => va_Ql _ (BW D A) A) (by decide) (Nat.le_of_ble_eq_true rfl) ?_
  intro p e s m below meth c A ls C hA hP hD hS hl
  have hl : lv_has ls 6 [(0, .ref b), (1, .int (nI E))] := hl
  refine lv_lconst (v := lN 0) C.x C.b d_B_takeVarint_0 (by decide) ?_
  refine lv_lstore_n (lv' := [(2, .long (lN 0)), (0, .ref b), (1, .int (nI E))]) C.x C.b d_B_takeVarint_1 rfl hl (by decide) rfl (fun ls hl => ?_)
  refine lv_iconst (v := nI 0) C.x C.b d_B_takeVarint_2 (by decide) ?_
  refine lv_istore (lv' := [(4, .int (nI 0)), (2, .long (lN 0)), (0, .ref b), (1, .int (nI E))]) C.x C.b d_B_takeVarint_3 hl (by decide) rfl (fun ls hl => ?_)
  exact lp_B_takeVarint C hA b r sz E cap I t hI hI8 hE hIc hcap _ (Nat.le_refl 2) (Nat.le_refl 42) 10 0 k 0 rfl (by decide) (by decide) hk (fun v w1 q => q) _ _ ls hP hD hS (lv_sub hl [2, 3, 1, 0] rfl)
set_option maxHeartbeats 4000000 in
set_option maxRecDepth 100000 in
/-- Bytes(cap) -/
theorem c_B_init (l : Launch) (D : va_G) (cI cB : ClassId) (b cap : Nat) (hcap : cap ≤ 65536) : Kv l D cI cB y_B_init b_B_init 2 1 12 1 cap [.ref b, .int (nI cap)] [(b, .inr (0, [.null, .int (nI 0), .int (nI 0), .int (nI 0)]))] (fun w1 => ∃ q : Nat, w1 = [oB b q 0 0 0, aB cB q cap (fun _ => 0)]) := by
  refine ent (fun A => va_Qv _ (BW D A) A) (by decide) (Nat.le_of_ble_eq_true rfl) ?_
  intro p e s m below meth c A ls C hA hP hD hS hl
  have hl : lv_has ls 2 [(0, .ref b), (1, .int (nI cap))] := hl
  refine lv_aload_n C.x C.b d_B_init_0 rfl (lv_at hl 0 rfl) ?_
  refine oinit C hl.1 ml_B_3 (Nat.le_refl 1) (Nat.le_of_ble_eq_true rfl) d_B_init_1 ?_
  refine lv_aload_n C.x C.b d_B_init_4 rfl (lv_at hl 0 rfl) ?_
  refine lv_iload_n C.x C.b d_B_init_5 rfl (lv_at hl 1 rfl) ?_
  refine newB C hA hP hD hS (by omega) (Nat.le_refl 1) (by show 0 + cap ≤ cap; omega) d_B_init_6 (fun q H hP hD hS => ?_)
  have hP : va_P D classes [(b, .inr (0, [.null, .int (nI 0), .int (nI 0), .int (nI 0)])), aB cB q cap (fun _ => 0)] H := hP
  have hD : va_D A [(b, .inr (0, [.null, .int (nI 0), .int (nI 0), .int (nI 0)])), aB cB q cap (fun _ => 0)] := hD
  refine pf (w2 := [oB b q 0 0 0, aB cB q cap (fun _ => 0)]) C hP hD hS 0 0 0 (.array .byte) rfl rfl (by decide) fl_B_9 rfl (by decide +kernel) rfl rfl (Nat.le_of_ble_eq_true rfl) rfl d_B_init_8 (fun H locs hP hD hS => ?_)
  exact retv C hP hD hS d_B_init_11 (by omega) (by omega) (⟨q, rfl⟩)
end
section
/-! contracts of Runs: the constructor, fits, look (printed by gen/runs1.py) -/
section RW
variable {p : Program} {l : Launch} {e : Env} {R : Room} {s : State} {m : MethodId} {args : Array Value} {below : List Frame} {meth : Method} {c : Code} {H : Heap} {locs : List Loc} {cells slots : Nat} {Q : State → Prop}
variable {D : va_G} {cI cB : ClassId} {cc : ByteArray} {nL : Nat} {own : String} {ret : Option FieldType} {nm : String} {pc : Nat} {ls : Array Slot} {rest : List Value}
theorem jcw_ne (C : Cx p s m args meth c D cI cB cc nL own ret nm) {off : Int} {tgt a b : Nat} (hd : decode cc pc = .ok (.if_icmp .ne off, 3)) (ht : (pc : Int) + off = (tgt : Int)) (ha : a < 2 ^ 32) (hb : b < 2 ^ 32) (kt : a ≠ b → W p l e R s m args below meth c H locs cells slots Q (F0 m tgt ls rest)) (kf : a = b → W p l e R s m args below meth c H locs cells slots Q (F0 m (pc + 3) ls rest)) : W p l e R s m args below meth c H locs cells slots Q (F0 m pc ls (.int (nI b) :: .int (nI a) :: rest)) := lv_icmp_ne C.x C.b hd ht (fun h => kt (fun h2 => h ((nI_inj ha hb).mpr h2))) (fun h => kf ((nI_inj ha hb).mp h))
theorem jzw_ne (C : Cx p s m args meth c D cI cB cc nL own ret nm) {off : Int} {tgt a : Nat} (hd : decode cc pc = .ok (.ifCond .ne off, 3)) (ht : (pc : Int) + off = (tgt : Int)) (ha : a < 2 ^ 32) (kt : a ≠ 0 → W p l e R s m args below meth c H locs cells slots Q (F0 m tgt ls rest)) (kf : a = 0 → W p l e R s m args below meth c H locs cells slots Q (F0 m (pc + 3) ls rest)) : W p l e R s m args below meth c H locs cells slots Q (F0 m pc ls (.int (nI a) :: rest)) := lv_if_ne C.x C.b hd ht (fun h => kt (fun h2 => h ((nI_inj ha (by decide)).mpr h2))) (fun h => kf ((nI_inj (b := 0) ha (by decide)).mp h))
theorem jzw_eq (C : Cx p s m args meth c D cI cB cc nL own ret nm) {off : Int} {tgt a : Nat} (hd : decode cc pc = .ok (.ifCond .eq off, 3)) (ht : (pc : Int) + off = (tgt : Int)) (ha : a < 2 ^ 32) (kt : a = 0 → W p l e R s m args below meth c H locs cells slots Q (F0 m tgt ls rest)) (kf : a ≠ 0 → W p l e R s m args below meth c H locs cells slots Q (F0 m (pc + 3) ls rest)) : W p l e R s m args below meth c H locs cells slots Q (F0 m pc ls (.int (nI a) :: rest)) := lv_if_eq C.x C.b hd ht (fun h => kt ((nI_inj (b := 0) ha (by decide)).mp h)) (fun h => kf (fun h2 => h ((nI_inj ha (by decide)).mpr h2)))
end RW
theorem run_in {v : Nat → Nat} {n j : Nat} (h : j + 1 < n) (h2 : v j = v (j + 1)) : run v (n - j) j = run v (n - (j + 1)) (j + 1) + 1 := by
  obtain ⟨d, hd⟩ : ∃ d, n - j = d + 1 := ⟨n - j - 1, by omega⟩
  rw [hd, run, if_pos ⟨by omega, h2⟩, show n - (j + 1) = d by omega]
theorem run_one {v : Nat → Nat} {n j : Nat} (h : j < n) (h2 : ¬ (j + 1 < n ∧ v j = v (j + 1))) : run v (n - j) j = 1 := by
  obtain ⟨d, hd⟩ : ∃ d, n - j = d + 1 := ⟨n - j - 1, by omega⟩
  rw [hd, run, if_neg (fun q => h2 ⟨by omega, q.2⟩)]
theorem up_same {f : Nat → Nat} {k x : Nat} : va_up f k x k = x := va_up_self f k x
theorem up_other {f : Nat → Nat} {k x j : Nat} (h : j ≠ k) : va_up f k x j = f j := by unfold va_up; rw [if_neg h]
set_option maxHeartbeats 4000000 in
set_option maxRecDepth 100000 in
/-- Runs() -/
theorem c_U_init (l : Launch) (D : va_G) (cI cB : ClassId) (u : Nat) : Kv l D cI cB y_U_init b_U_init 1 1 12 1 4096 [.ref u] [(u, .inr (1, [.null]))] (fun w1 => ∃ q : Nat, w1 = [oU u q, aN cI q 4096 (fun _ => 0)]) := by
  refine ent (fun A => va_Qv _ (BW D A) A) (by decide) (Nat.le_of_ble_eq_true rfl) ?_
  intro p e s m below meth c A ls C hA hP hD hS hl
  have hl : lv_has ls 1 [(0, .ref u)] := hl
  refine lv_aload_n C.x C.b d_U_init_0 rfl (lv_at hl 0 rfl) ?_
  refine oinit C hl.1 ml_U_3 (Nat.le_refl 1) (Nat.le_of_ble_eq_true rfl) d_U_init_1 ?_
  refine lv_aload_n C.x C.b d_U_init_4 rfl (lv_at hl 0 rfl) ?_
  refine lv_sipush (v := nI 4096) C.x C.b d_U_init_5 (by decide) ?_
  refine newI C hA hP hD hS (by omega) (Nat.le_refl 1) (Nat.le_of_ble_eq_true rfl) d_U_init_8 (fun q H hP hD hS => ?_)
  have hP : va_P D classes [(u, .inr (1, [.null])), aN cI q 4096 (fun _ => 0)] H := hP
  have hD : va_D A [(u, .inr (1, [.null])), aN cI q 4096 (fun _ => 0)] := hD
  refine pf (w2 := [oU u q, aN cI q 4096 (fun _ => 0)]) C hP hD hS 0 1 0 (.array .int) rfl rfl (by decide) fl_U_9 rfl (by decide +kernel) rfl rfl (Nat.le_of_ble_eq_true rfl) rfl d_U_init_10 (fun H locs hP hD hS => ?_)
  exact retv C hP hD hS d_U_init_13 (by omega) (by omega) (⟨q, rfl⟩)
set_option maxHeartbeats 4000000 in
set_option maxRecDepth 100000 in
/-- fits(x, w) -/
theorem c_U_fits (l : Launch) (D : va_G) (cI cB : ClassId) (x w : Nat) (hx : x < 2 ^ 32) (hw : w ≤ 32) : Ki l D cI cB y_U_fits b_U_fits 2 0 0 0 0 .boolean [.int (nI x), .int (nI w)] [] (fun v w1 => v = nI (if x / 2 ^ w = 0 then 1 else 0) ∧ w1 = []) := by
  refine ent (fun A => va_Qi _ (BW D A) A) (by decide) (Nat.le_of_ble_eq_true rfl) ?_
  intro p e s m below meth c A ls C hA hP hD hS hl
  have hl : lv_has ls 2 [(0, .int (nI x)), (1, .int (nI w))] := hl
  refine lv_iload_n C.x C.b d_U_fits_0 rfl (lv_at hl 1 rfl) ?_
  refine lv_bipush (v := nI 32) C.x C.b d_U_fits_1 (by decide) ?_
  refine jc_eq (tgt := 12) C d_U_fits_3 (by decide) (by omega) (by omega) (fun h => ?_) (fun h => ?_)
  · refine lv_iconst (v := nI 1) C.x C.b d_U_fits_12 (by decide) ?_
    refine lv_goto (tgt := 17) C.x C.b d_U_fits_13 (by decide) ?_
    have hz : x / 2 ^ w = 0 := by rw [h]; exact Nat.div_eq_of_lt hx
    exact reti C hP hD hS d_U_fits_17 (by decide) (by omega) (by omega) (⟨by rw [if_pos hz], rfl⟩)
  · refine lv_iload_n C.x C.b d_U_fits_6 rfl (lv_at hl 0 rfl) ?_
    refine lv_iload_n C.x C.b d_U_fits_7 rfl (lv_at hl 1 rfl) ?_
    refine lv_iushr C.x C.b d_U_fits_8 (ni_ushr (hx) (by omega)) ?_
    refine jzw_ne (tgt := 16) C d_U_fits_9 (by decide) (Nat.lt_of_le_of_lt (Nat.div_le_self _ _) hx) (fun h2 => ?_) (fun h2 => ?_)
    · refine lv_iconst (v := nI 0) C.x C.b d_U_fits_16 (by decide) ?_
      exact reti C hP hD hS d_U_fits_17 (by decide) (by omega) (by omega) (⟨by rw [if_neg h2], rfl⟩)
    · refine lv_iconst (v := nI 1) C.x C.b d_U_fits_12 (by decide) ?_
      refine lv_goto (tgt := 17) C.x C.b d_U_fits_13 (by decide) ?_
      exact reti C hP hD hS d_U_fits_17 (by decide) (by omega) (by omega) (⟨by rw [if_pos h2], rfl⟩)
set_option maxHeartbeats 4000000 in
set_option maxRecDepth 100000 in
/-- look: the loop, from behind -/
theorem lp_U_look {p : Program} {l : Launch} {e : Env} {R : Room} {s : State} {m : MethodId} {args : Array Value} {below : List Frame} {meth : Method} {c : Code} {D : va_G} {cI cB : ClassId} {A : Nat → Prop} {Q : State → Prop} {cells slots : Nat} (C : Cx p s m args meth c D cI cB b_U_look 4 R_U none "look") (hA : ∀ q : Nat, s.heap.size ≤ q → A q) (u sm ro n : Nat) (V : List Nat) (v : Nat → Nat) (hV : Hd v V) (hV32 : ∀ x ∈ V, x < 2 ^ 32) (hVn : V.length = n) (hn : n ≤ 4096) (kk : ∀ (S : Nat → Nat), (∀ i, i < n → S i = run (gt V) (n - i) i) → ∀ (H : Heap) (locs : List Loc) (ls : Array Slot), va_P D classes [oU u sm, aN cI sm 4096 S, aN cI ro 4096 v] H → va_D A [oU u sm, aN cI sm 4096 S, aN cI ro 4096 v] → va_S A s.heap H locs → W p l e R s m args below meth c H locs cells slots Q (F0 m 78 ls [])) : ∀ (j : Nat) (S : Nat → Nat), j ≤ n → (∀ i, j ≤ i → i < n → S i = run (gt V) (n - i) i) → ∀ (H : Heap) (locs : List Loc) (ls : Array Slot), va_P D classes [oU u sm, aN cI sm 4096 S, aN cI ro 4096 v] H → va_D A [oU u sm, aN cI sm 4096 S, aN cI ro 4096 v] → va_S A s.heap H locs → lv_has ls 4 [(0, .ref u), (1, .ref ro), (2, .int (nI n)), (3, .int (nI j - nI 1))] → W p l e R s m args below meth c H locs cells slots (Q) (F0 m 30 ls []) := by
  intro j
  induction j with
  | zero =>
    intro S hj hS0 H locs ls hP hD hS hl
    refine lv_iload_n C.x C.b d_U_look_30 rfl (lv_at hl 3 rfl) ?_
    refine lv_if_lt (tgt := 78) C.x C.b d_U_look_31 (by decide) (fun _ => ?_) (fun h => absurd (by decide) h)
    exact kk S (fun i hi => hS0 i (Nat.zero_le _) hi) H locs ls hP hD hS
  | succ j ih =>
    intro S hj hS0 H locs ls hP hD hS hl
    have ej : nI (j + 1) - nI 1 = nI j := by rw [nI_subS (by omega)]; rfl
    rw [ej] at hl
    refine lv_iload_n C.x C.b d_U_look_30 rfl (lv_at hl 3 rfl) ?_
    refine jz_lt (tgt := 78) C d_U_look_31 (by decide) (by omega) (fun h => ?_) (fun h => ?_)
    · exfalso; omega
    · refine lv_aload_n C.x C.b d_U_look_34 rfl (lv_at hl 0 rfl) ?_
      refine gf C hP 0 1 0 rfl rfl (by decide) fl_U_9 rfl d_U_look_35 ?_
      refine lv_iload_n C.x C.b d_U_look_38 rfl (lv_at hl 3 rfl) ?_
      refine lv_iload_n C.x C.b d_U_look_39 rfl (lv_at hl 3 rfl) ?_
      refine lv_iconst (v := nI 1) C.x C.b d_U_look_40 (by decide) ?_
      refine lv_iadd C.x C.b d_U_look_41 ?_
      refine ra_i (nI_add _ _) ?_
      refine lv_iload_n C.x C.b d_U_look_42 rfl (lv_at hl 2 rfl) ?_
      refine jc_ge (tgt := 70) C d_U_look_43 (by decide) (by omega) (by omega) (fun h1 => ?_) (fun h1 => ?_)
      · refine lv_iconst (v := nI 1) C.x C.b d_U_look_70 (by decide) ?_
        have hr : 1 = run (gt V) (n - j) j := (run_one (by omega) (fun q => by omega)).symm
        refine ra_i (y := nI (run (gt V) (n - j) j)) (by rw [hr]) ?_
        refine ist (w2 := [oU u sm, aN cI sm 4096 (va_up S j (run (gt V) (n - j) j)), aN cI ro 4096 v]) C hP hD hS 1 rfl (by omega) (by omega) rfl d_U_look_71 (fun H locs hP hD hS => ?_)
        refine lv_iinc (v := (nI j - nI 1)) (lv' := [(3, .int (nI j - nI 1)), (0, .ref u), (1, .ref ro), (2, .int (nI n))]) C.x C.b d_U_look_72 hl (k := 3) rfl (by rw [Int32.sub_eq_add_neg]; rfl) (by decide) rfl (fun ls hl => ?_)
        refine lv_goto (tgt := 30) C.x C.b d_U_look_75 (by decide) ?_
        exact ih _ (by omega) (fun i h1 h2 => by
          by_cases q : i = j
          · rw [q]; exact up_same
          · rw [up_other q]; exact hS0 i (by omega) h2) H locs ls hP hD hS (lv_sub hl [1, 2, 3, 0] rfl)
      · refine lv_aload_n C.x C.b d_U_look_46 rfl (lv_at hl 1 rfl) ?_
        refine lv_iload_n C.x C.b d_U_look_47 rfl (lv_at hl 3 rfl) ?_
        refine ild C hP 2 rfl (by omega) (by omega) d_U_look_48 ?_
        refine ra_i (y := nI (gt V j)) (by rw [hV j (by omega)]) ?_
        refine lv_aload_n C.x C.b d_U_look_49 rfl (lv_at hl 1 rfl) ?_
        refine lv_iload_n C.x C.b d_U_look_50 rfl (lv_at hl 3 rfl) ?_
        refine lv_iconst (v := nI 1) C.x C.b d_U_look_51 (by decide) ?_
        refine lv_iadd C.x C.b d_U_look_52 ?_
        refine ra_i (nI_add _ _) ?_
        refine ild C hP 2 rfl (by omega) (by omega) d_U_look_53 ?_
        refine ra_i (y := nI (gt V (j + 1))) (by rw [hV (j + 1) (by omega)]) ?_
        refine jcw_ne (tgt := 70) C d_U_look_54 (by decide) (gt_lt (by decide) hV32 _) (gt_lt (by decide) hV32 _) (fun h2 => ?_) (fun h2 => ?_)
        · refine lv_iconst (v := nI 1) C.x C.b d_U_look_70 (by decide) ?_
          have hr : 1 = run (gt V) (n - j) j := (run_one (by omega) (fun q => h2 q.2)).symm
          refine ra_i (y := nI (run (gt V) (n - j) j)) (by rw [hr]) ?_
          refine ist (w2 := [oU u sm, aN cI sm 4096 (va_up S j (run (gt V) (n - j) j)), aN cI ro 4096 v]) C hP hD hS 1 rfl (by omega) (by omega) rfl d_U_look_71 (fun H locs hP hD hS => ?_)
          refine lv_iinc (v := (nI j - nI 1)) (lv' := [(3, .int (nI j - nI 1)), (0, .ref u), (1, .ref ro), (2, .int (nI n))]) C.x C.b d_U_look_72 hl (k := 3) rfl (by rw [Int32.sub_eq_add_neg]; rfl) (by decide) rfl (fun ls hl => ?_)
          refine lv_goto (tgt := 30) C.x C.b d_U_look_75 (by decide) ?_
          exact ih _ (by omega) (fun i h1 h2 => by
            by_cases q : i = j
            · rw [q]; exact up_same
            · rw [up_other q]; exact hS0 i (by omega) h2) H locs ls hP hD hS (lv_sub hl [1, 2, 3, 0] rfl)
        · refine lv_aload_n C.x C.b d_U_look_57 rfl (lv_at hl 0 rfl) ?_
          refine gf C hP 0 1 0 rfl rfl (by decide) fl_U_9 rfl d_U_look_58 ?_
          refine lv_iload_n C.x C.b d_U_look_61 rfl (lv_at hl 3 rfl) ?_
          refine lv_iconst (v := nI 1) C.x C.b d_U_look_62 (by decide) ?_
          refine lv_iadd C.x C.b d_U_look_63 ?_
          refine ra_i (nI_add _ _) ?_
          refine ild C hP 1 rfl (by omega) (by omega) d_U_look_64 ?_
          refine ra_i (y := nI (run (gt V) (n - (j + 1)) (j + 1))) (by rw [hS0 (j + 1) (by omega) (by omega)]) ?_
          refine lv_iconst (v := nI 1) C.x C.b d_U_look_65 (by decide) ?_
          refine lv_iadd C.x C.b d_U_look_66 ?_
          refine ra_i (nI_add _ _) ?_
          refine lv_goto (tgt := 71) C.x C.b d_U_look_67 (by decide) ?_
          have hr : run (gt V) (n - (j + 1)) (j + 1) + 1 = run (gt V) (n - j) j := (run_in h1 h2).symm
          refine ra_i (y := nI (run (gt V) (n - j) j)) (by rw [hr]) ?_
          refine ist (w2 := [oU u sm, aN cI sm 4096 (va_up S j (run (gt V) (n - j) j)), aN cI ro 4096 v]) C hP hD hS 1 rfl (by omega) (by omega) rfl d_U_look_71 (fun H locs hP hD hS => ?_)
          refine lv_iinc (v := (nI j - nI 1)) (lv' := [(3, .int (nI j - nI 1)), (0, .ref u), (1, .ref ro), (2, .int (nI n))]) C.x C.b d_U_look_72 hl (k := 3) rfl (by rw [Int32.sub_eq_add_neg]; rfl) (by decide) rfl (fun ls hl => ?_)
          refine lv_goto (tgt := 30) C.x C.b d_U_look_75 (by decide) ?_
          exact ih _ (by omega) (fun i h1 h2 => by
            by_cases q : i = j
            · rw [q]; exact up_same
            · rw [up_other q]; exact hS0 i (by omega) h2) H locs ls hP hD hS (lv_sub hl [1, 2, 3, 0] rfl)
set_option maxHeartbeats 4000000 in
set_option maxRecDepth 100000 in
/-- look: how many are the same from each place on -/
theorem c_U_look (l : Launch) (D : va_G) (cI cB : ClassId) (u sm ro n : Nat) (S : Nat → Nat) (V : List Nat) (v : Nat → Nat) (hV : Hd v V) (hV32 : ∀ x ∈ V, x < 2 ^ 32) (hVn : V.length = n) (hn : n ≤ 4096) : Kv l D cI cB y_U_look b_U_look 4 0 0 0 0 [.ref u, .ref ro, .int (nI n)] [oU u sm, aN cI sm 4096 S, aN cI ro 4096 v] (fun w1 => ∃ S : Nat → Nat, w1 = [oU u sm, aN cI sm 4096 S, aN cI ro 4096 v] ∧ ∀ i, i < n → S i = run (gt V) (n - i) i) := by
  refine ent (fun A => va_Qv _ (BW D A) A) (by decide) (Nat.le_of_ble_eq_true rfl) ?_
  intro p e s m below meth c A ls C hA hP hD hS hl
  have hl : lv_has ls 4 [(0, .ref u), (1, .ref ro), (2, .int (nI n))] := hl
  refine lv_aload_n C.x C.b d_U_look_0 rfl (lv_at hl 0 rfl) ?_
  refine gf C hP 0 1 0 rfl rfl (by decide) fl_U_9 rfl d_U_look_1 ?_
  refine alI C hP 1 rfl d_U_look_4 ?_
  refine lv_iload_n C.x C.b d_U_look_5 rfl (lv_at hl 2 rfl) ?_
  refine jc_ge (tgt := 26) C d_U_look_6 (by decide) (by omega) (by omega) (fun h => ?_) (fun h => ?_)
  · refine lv_iload_n C.x C.b d_U_look_26 rfl (lv_at hl 2 rfl) ?_
    refine lv_iconst (v := nI 1) C.x C.b d_U_look_27 (by decide) ?_
    refine lv_isub C.x C.b d_U_look_28 ?_
    refine lv_istore_n (lv' := [(3, .int (nI n - nI 1)), (0, .ref u), (1, .ref ro), (2, .int (nI n))]) C.x C.b d_U_look_29 rfl hl (by decide) rfl (fun ls hl => ?_)
    refine lp_U_look C hA u sm ro n V v hV hV32 hVn hn (fun S hS0 H locs ls hP hD hS => ?_) n S (Nat.le_refl n) (fun i h1 h2 => by omega) _ _ ls hP hD hS (lv_sub hl [1, 2, 3, 0] rfl)
    exact retv C hP hD hS d_U_look_78 (by omega) (by omega) (⟨S, rfl, hS0⟩)
  · exfalso; omega
end
section
/-! contracts of Runs: pack (printed by gen/runs2.py) -/
theorem vb_word {v : Nat → Nat} {n w k i : Nat} (hv : ∀ j, j < n → v j < 2 ^ w) : bs (vb v n w k) (w * i) w = if k + i < n then v (k + i) else 0 := by
  rcases Nat.eq_zero_or_pos w with h0 | h0
  · subst h0
    show 0 = _
    by_cases h : k + i < n
    · rw [if_pos h]; have := hv _ h; omega
    · rw [if_neg h]
  · have e : vb v n w k = fun p => ((fun q => if k + q < n then v (k + q) else 0) (p / w)).testBit (p % w) := by
      funext p
      unfold vb
      by_cases h : k + p / w < n
      · simp [h]
      · simp [h]
    rw [e]
    refine (bs_word (fun q => if k + q < n then v (k + q) else 0) w i w (Nat.le_refl w)).trans ?_
    by_cases h : k + i < n
    · simp only [if_pos h]; exact Nat.mod_eq_of_lt (hv _ h)
    · simp only [if_neg h]; exact Nat.zero_mod _
set_option maxHeartbeats 4000000 in
set_option maxRecDepth 100000 in
/-- pack: the inner loop -/
theorem lp_U_pack1 {p : Program} {l : Launch} {e : Env} {R : Room} {s : State} {m : MethodId} {args : Array Value} {below : List Frame} {meth : Method} {c : Code} {D : va_G} {cI cB : ClassId} {A : Nat → Prop} {Q : State → Prop} (C : Cx p s m args meth c D cI cB b_U_pack 10 R_U none "pack") (hA : ∀ q : Nat, s.heap.size ≤ q → A q) (b ro k n to w g at_ f u0 : Nat) (L V : List Nat) (v : Nat → Nat) (hV : Hd v V) (hVn : V.length = n) (hn : n ≤ 4096) (hV32 : ∀ x ∈ V, x < 2 ^ 32) (hw : w ≤ 32) (hvw : ∀ j, j < n → gt V j < 2 ^ w) (hk : k + 8 * g ≤ 8192) (hto : to ≤ n ∧ to ≤ k + 8 * g ∧ (to = n ∨ to = k + 8 * g)) (h0 : 1 ≤ u0) (h65 : u0 ≤ 16384) (hb : L.length + w * g ≤ 32768) (i : Nat) (hi : i < 8 * g) (hR1 : 2 ≤ R.frames) (hR2 : 40 ≤ R.locals) (hRc : gr u0 (L.length + w * g) - gr u0 L.length ≤ R.cells) (hRs : 16384 * (gr u0 (L.length + w * g) - gr u0 L.length) ≤ R.slots) (kk : ∀ (y h : Nat) (M : List Nat) (r : Nat) (t : Nat → Nat) (H : Heap) (locs : List Loc) (ls : Array Slot), h < 8 → 8 * y + h = w * (i + 1) → M = L ++ pkL (gt V) n w k  y → Hd t M → va_P D classes [aN cI ro 4096 v, oB b r M.length at_ f, aB cB r (8192 * gr u0 M.length) t] H → va_D A [aN cI ro 4096 v, oB b r M.length at_ f, aB cB r (8192 * gr u0 M.length) t] → va_S A s.heap H locs → lv_has ls 10 [(0, .ref ro), (1, .int (nI k)), (2, .int (nI to)), (3, .int (nI (k + 8 * g))), (4, .int (nI w)), (5, .ref b), (6, .long (lN (bs (vb (gt V) n w k) (8 * y) h))), (8, .int (nI h)), (9, .int (nI (k + i)))] → W p l e R s m args below meth c H locs (gr u0 M.length - gr u0 L.length) (16384 * (gr u0 M.length - gr u0 L.length)) Q (F0 m 77 ls [])) : ∀ (q y h : Nat) (M : List Nat) (r : Nat) (t : Nat → Nat), h < 8 * (q + 1) ∧ h ≤ 39 → 8 * y + h = w * (i + 1) → M = L ++ pkL (gt V) n w k  y → Hd t M → ∀ (H : Heap) (locs : List Loc) (ls : Array Slot), va_P D classes [aN cI ro 4096 v, oB b r M.length at_ f, aB cB r (8192 * gr u0 M.length) t] H → va_D A [aN cI ro 4096 v, oB b r M.length at_ f, aB cB r (8192 * gr u0 M.length) t] → va_S A s.heap H locs → lv_has ls 10 [(0, .ref ro), (1, .int (nI k)), (2, .int (nI to)), (3, .int (nI (k + 8 * g))), (4, .int (nI w)), (5, .ref b), (6, .long (lN (bs (vb (gt V) n w k) (8 * y) h))), (8, .int (nI h)), (9, .int (nI (k + i)))] → W p l e R s m args below meth c H locs (gr u0 M.length - gr u0 L.length) (16384 * (gr u0 M.length - gr u0 L.length)) (Q) (F0 m 49 ls []) := by
  intro q
  induction q with
  | zero =>
    intro y h M r t hh he hM hL H locs ls hP hD hS hl
    refine lv_iload C.x C.b d_U_pack_49 (lv_at hl 7 rfl) ?_
    refine lv_bipush (v := nI 8) C.x C.b d_U_pack_51 (by decide) ?_
    refine jc_lt (tgt := 77) C d_U_pack_53 (by decide) (by omega) (by omega) (fun h8 => ?_) (fun h8 => ?_)
    · exact kk y h M r t H locs ls h8 he hM hL hP hD hS hl
    · exfalso; omega
  | succ q ih =>
    intro y h M r t hh he hM hL H locs ls hP hD hS hl
    refine lv_iload C.x C.b d_U_pack_49 (lv_at hl 7 rfl) ?_
    refine lv_bipush (v := nI 8) C.x C.b d_U_pack_51 (by decide) ?_
    refine jc_lt (tgt := 77) C d_U_pack_53 (by decide) (by omega) (by omega) (fun h8 => ?_) (fun h8 => ?_)
    · exact kk y h M r t H locs ls h8 he hM hL hP hD hS hl
    · obtain ⟨h2, rfl⟩ : ∃ h2, h = h2 + 8 := ⟨h - 8, by omega⟩
      have hml : M.length = L.length + y := by rw [hM, List.length_append, pkL_len]
      have hwg : w * (i + 1) ≤ w * (8 * g) := Nat.mul_le_mul_left _ (by omega)
      have hwg2 : w * (8 * g) = 8 * (w * g) := by rw [Nat.mul_left_comm]
      have hbs := bs_lt (vb (gt V) n w k) (8 * y) (h2 + 8)
      have hp2 : (2 : Nat) ^ (h2 + 8) ≤ 2 ^ 40 := Nat.pow_le_pow_right (by decide) (by omega)
      refine lv_aload C.x C.b d_U_pack_56 (lv_at hl 5 rfl) ?_
      refine lv_lload C.x C.b d_U_pack_58 (lv_at hl 6 rfl) ?_
      refine lv_l2i C.x C.b d_U_pack_60 (lN_i _) ?_
      have g11 := gr_pt (u0 := u0) (k := M.length) h0 (by omega)
      have g21 := gr_mono (u := u0) (show L.length ≤ M.length by omega)
      have g31 := gr_mono (u := u0) (show M.length ≤ M.length + 1 by omega)
      have g41 := gr_mono (u := u0) (show M.length + 1 ≤ (L.length + w * g) by omega)
      refine cvV (wr := [aN cI ro 4096 v]) C hA hP hD hS hl.1 (c_B_put l D cI cB b r at_ f (bs (vb (gt V) n w k) (8 * y) (h2 + 8)) _ _ M t hL g11 (by omega) (gr_pos h0) (by have := gr_4 u0 M.length; omega)) ok_U_43 [] [1, 2] [0] 0 0 rfl rfl rfl rfl (by decide) rfl (by decide) (by decide) rfl rfl (Nat.le_of_ble_eq_true rfl) (⟨by (try dsimp only [rmO]); omega, by (try dsimp only [rmO]); omega⟩) (⟨by (try dsimp only [rmO]); omega, by (try dsimp only [rmO]); omega⟩) d_U_pack_61 ?_
      intro w1 H locs hw hP hD hS
      obtain ⟨r1, t1, rfl, hL1⟩ := hw
      have hP : va_P D classes [aN cI ro 4096 v, oB b r1 (M.length + 1) at_ f, aB cB r1 (8192 * gr u0 (M.length + 1)) t1] H := hP
      have hD : va_D A [aN cI ro 4096 v, oB b r1 (M.length + 1) at_ f, aB cB r1 (8192 * gr u0 (M.length + 1)) t1] := hD
      refine W.widen (k := gr u0 (M.length + 1) - gr u0 L.length) (n := 16384 * (gr u0 (M.length + 1) - gr u0 L.length)) (by omega) (by omega) ?_
      have eb : bs (vb (gt V) n w k) (8 * y) (h2 + 8) % 256 = bs (vb (gt V) n w k) (8 * y) 8 := bs_mod (m := 8) _ _ (by omega)
      rw [eb] at hL1
      obtain ⟨M2, hM2⟩ : ∃ M2, M2 = M ++ [bs (vb (gt V) n w k) (8 * y) 8] := ⟨_, rfl⟩
      rw [← hM2] at hL1
      have el2 : M.length + 1 = M2.length := by rw [hM2]; simp
      rw [el2] at hP hD
      rw [el2]
      refine lv_lload C.x C.b d_U_pack_64 (lv_at hl 6 rfl) ?_
      refine lv_bipush (v := nI 8) C.x C.b d_U_pack_66 (by decide) ?_
      refine lv_lushr C.x C.b d_U_pack_68 (wb_shr (by omega) (by omega)) ?_
      refine ra_l (y := lN (bs (vb (gt V) n w k) (8 * (y + 1)) h2)) (by rw [bs_div _ _ (by omega), Nat.mul_add 8 y 1, Nat.add_sub_cancel]) ?_
      refine lv_lstore (lv' := [(6, .long (lN (bs (vb (gt V) n w k) (8 * (y + 1)) h2))), (0, .ref ro), (1, .int (nI k)), (2, .int (nI to)), (3, .int (nI (k + 8 * g))), (4, .int (nI w)), (5, .ref b), (8, .int (nI (h2 + 8))), (9, .int (nI (k + i)))]) C.x C.b d_U_pack_69 hl (by decide) rfl (fun ls hl => ?_)
      refine lv_iinc (v := (nI h2)) (lv' := [(8, .int (nI h2)), (6, .long (lN (bs (vb (gt V) n w k) (8 * (y + 1)) h2))), (0, .ref ro), (1, .int (nI k)), (2, .int (nI to)), (3, .int (nI (k + 8 * g))), (4, .int (nI w)), (5, .ref b), (9, .int (nI (k + i)))]) C.x C.b d_U_pack_71 hl (k := 7) rfl (nI_dec8 _) (by decide) rfl (fun ls hl => ?_)
      refine lv_goto (tgt := 49) C.x C.b d_U_pack_74 (by decide) ?_
      have hP : va_P D classes [aN cI ro 4096 v, oB b r1 M2.length at_ f, aB cB r1 (8192 * gr u0 M2.length) t1] H := hP.sub [0, 1, 2] rfl
      have hD : va_D A [aN cI ro 4096 v, oB b r1 M2.length at_ f, aB cB r1 (8192 * gr u0 M2.length) t1] := hD.sub [0, 1, 2] (by decide) rfl
      exact ih (y + 1) h2 M2 r1 t1 (by omega) (by omega) (by rw [hM2, hM, List.append_assoc]; congr 1; exact (range_push _ y).symm) hL1 H locs ls hP hD hS (lv_sub hl [2, 3, 4, 5, 6, 7, 1, 0, 8] rfl)
set_option maxHeartbeats 4000000 in
set_option maxRecDepth 100000 in
/-- pack: the outer loop -/
theorem lp_U_pack {p : Program} {l : Launch} {e : Env} {R : Room} {s : State} {m : MethodId} {args : Array Value} {below : List Frame} {meth : Method} {c : Code} {D : va_G} {cI cB : ClassId} {A : Nat → Prop} {Q : State → Prop} (C : Cx p s m args meth c D cI cB b_U_pack 10 R_U none "pack") (hA : ∀ q : Nat, s.heap.size ≤ q → A q) (b ro k n to w g at_ f u0 : Nat) (L V : List Nat) (v : Nat → Nat) (hV : Hd v V) (hVn : V.length = n) (hn : n ≤ 4096) (hV32 : ∀ x ∈ V, x < 2 ^ 32) (hw : w ≤ 32) (hvw : ∀ j, j < n → gt V j < 2 ^ w) (hk : k + 8 * g ≤ 8192) (hto : to ≤ n ∧ to ≤ k + 8 * g ∧ (to = n ∨ to = k + 8 * g)) (h0 : 1 ≤ u0) (h65 : u0 ≤ 16384) (hb : L.length + w * g ≤ 32768) (hR1 : 2 ≤ R.frames) (hR2 : 40 ≤ R.locals) (hRc : gr u0 (L.length + w * g) - gr u0 L.length ≤ R.cells) (hRs : 16384 * (gr u0 (L.length + w * g) - gr u0 L.length) ≤ R.slots) (kk : ∀ (r : Nat) (t : Nat → Nat) (H : Heap) (locs : List Loc) (ls : Array Slot), Hd t (L ++ pkL (gt V) n w k  (w * g)) → va_P D classes [aN cI ro 4096 v, oB b r ((L ++ pkL (gt V) n w k (w * g)).length) at_ f, aB cB r (8192 * gr u0 (L ++ pkL (gt V) n w k (w * g)).length) t] H → va_D A [aN cI ro 4096 v, oB b r ((L ++ pkL (gt V) n w k (w * g)).length) at_ f, aB cB r (8192 * gr u0 (L ++ pkL (gt V) n w k (w * g)).length) t] → va_S A s.heap H locs → W p l e R s m args below meth c H locs (gr u0 (L ++ pkL (gt V) n w k  (w * g)).length - gr u0 L.length) (16384 * (gr u0 (L ++ pkL (gt V) n w k  (w * g)).length - gr u0 L.length)) Q (F0 m 83 ls [])) : ∀ (d i y h : Nat) (M : List Nat) (r : Nat) (t : Nat → Nat), i + d = 8 * g → h < 8 → 8 * y + h = w * i → M = L ++ pkL (gt V) n w k  y → Hd t M → ∀ (H : Heap) (locs : List Loc) (ls : Array Slot), va_P D classes [aN cI ro 4096 v, oB b r M.length at_ f, aB cB r (8192 * gr u0 M.length) t] H → va_D A [aN cI ro 4096 v, oB b r M.length at_ f, aB cB r (8192 * gr u0 M.length) t] → va_S A s.heap H locs → lv_has ls 10 [(0, .ref ro), (1, .int (nI k)), (2, .int (nI to)), (3, .int (nI (k + 8 * g))), (4, .int (nI w)), (5, .ref b), (6, .long (lN (bs (vb (gt V) n w k) (8 * y) h))), (8, .int (nI h)), (9, .int (nI (k + i)))] → W p l e R s m args below meth c H locs (gr u0 M.length - gr u0 L.length) (16384 * (gr u0 M.length - gr u0 L.length)) (Q) (F0 m 9 ls []) := by
  intro d
  induction d with
  | zero =>
    intro i y h M r t hi hh he hM hL H locs ls hP hD hS hl
    have hwg2 : w * (8 * g) = 8 * (w * g) := by rw [Nat.mul_left_comm]
    refine lv_iload C.x C.b d_U_pack_9 (lv_at hl 8 rfl) ?_
    refine lv_iload_n C.x C.b d_U_pack_11 rfl (lv_at hl 3 rfl) ?_
    refine jc_ge (tgt := 83) C d_U_pack_12 (by decide) (by omega) (by omega) (fun h8 => ?_) (fun h8 => ?_)
    · obtain rfl : i = 8 * g := by omega
      obtain rfl : y = w * g := by omega
      subst hM
      exact kk r t H locs ls hL hP hD hS
    · exfalso; omega
  | succ d ih =>
    intro i y h M r t hi hh he hM hL H locs ls hP hD hS hl
    refine lv_iload C.x C.b d_U_pack_9 (lv_at hl 8 rfl) ?_
    refine lv_iload_n C.x C.b d_U_pack_11 rfl (lv_at hl 3 rfl) ?_
    refine jc_ge (tgt := 83) C d_U_pack_12 (by decide) (by omega) (by omega) (fun h8 => ?_) (fun h8 => ?_)
    · exfalso; omega
    · refine lv_lload C.x C.b d_U_pack_15 (lv_at hl 6 rfl) ?_
      refine lv_iload C.x C.b d_U_pack_17 (lv_at hl 8 rfl) ?_
      refine lv_iload_n C.x C.b d_U_pack_19 rfl (lv_at hl 2 rfl) ?_
      refine jc_ge (tgt := 35) C d_U_pack_20 (by decide) (by omega) (by omega) (fun h9 => ?_) (fun h9 => ?_)
      · refine lv_lconst (v := lN 0) C.x C.b d_U_pack_35 (by decide) ?_
        refine ra_l (y := lN (bs (vb (gt V) n w k) (w * i) w)) (by rw [vb_word hvw, if_neg (by omega)]) ?_
        have hwd := bs_lt (vb (gt V) n w k) (w * i) w
        have hb1 := bs_lt (vb (gt V) n w k) (8 * y) h
        have es : bs (vb (gt V) n w k) (8 * y) (h + w) = bs (vb (gt V) n w k) (8 * y) h + bs (vb (gt V) n w k) (w * i) w * 2 ^ h := by rw [bs_app, he]
        have hb2 := bs_lt (vb (gt V) n w k) (8 * y) (h + w)
        have hp2 : (2 : Nat) ^ (h + w) ≤ 2 ^ 40 := Nat.pow_le_pow_right (by decide) (by omega)
        refine lv_iload C.x C.b d_U_pack_36 (lv_at hl 7 rfl) ?_
        refine lv_lshl C.x C.b d_U_pack_38 (wb_shl _ (by omega)) ?_
        refine lv_lor C.x C.b d_U_pack_39 ?_
        refine ra_l (y := lN (bs (vb (gt V) n w k) (8 * y) (h + w))) (by rw [es]; exact lN_orS hb1 (by rw [← es]; omega)) ?_
        refine lv_lstore (lv' := [(6, .long (lN (bs (vb (gt V) n w k) (8 * y) (h + w)))), (0, .ref ro), (1, .int (nI k)), (2, .int (nI to)), (3, .int (nI (k + 8 * g))), (4, .int (nI w)), (5, .ref b), (8, .int (nI h)), (9, .int (nI (k + i)))]) C.x C.b d_U_pack_40 hl (by decide) rfl (fun ls hl => ?_)
        refine lv_iload C.x C.b d_U_pack_42 (lv_at hl 7 rfl) ?_
        refine lv_iload C.x C.b d_U_pack_44 (lv_at hl 5 rfl) ?_
        refine lv_iadd C.x C.b d_U_pack_46 ?_
        refine ra_i (nI_add _ _) ?_
        refine lv_istore (lv' := [(8, .int (nI (h + w))), (6, .long (lN (bs (vb (gt V) n w k) (8 * y) (h + w)))), (0, .ref ro), (1, .int (nI k)), (2, .int (nI to)), (3, .int (nI (k + 8 * g))), (4, .int (nI w)), (5, .ref b), (9, .int (nI (k + i)))]) C.x C.b d_U_pack_47 hl (by decide) rfl (fun ls hl => ?_)
        refine lp_U_pack1 C hA b ro k n to w g at_ f u0 L V v hV hVn hn hV32 hw hvw hk hto h0 h65 hb i (by omega) hR1 hR2 hRc hRs (fun y2 h2 M2 r2 t2 H locs ls hh2 he2 hM2 hL2 hP hD hS hl => ?_) 4 y (h + w) M r t ⟨by omega, by omega⟩ (by rw [Nat.mul_add]; omega) hM hL H locs ls hP hD hS (lv_sub hl [2, 3, 4, 5, 6, 7, 1, 0, 8] rfl)
        refine lv_iinc (v := (nI (k + i + 1))) (lv' := [(9, .int (nI (k + i + 1))), (0, .ref ro), (1, .int (nI k)), (2, .int (nI to)), (3, .int (nI (k + 8 * g))), (4, .int (nI w)), (5, .ref b), (6, .long (lN (bs (vb (gt V) n w k) (8 * y2) h2))), (8, .int (nI h2))]) C.x C.b d_U_pack_77 hl (k := 8) rfl (nI_inc _ 1) (by decide) rfl (fun ls hl => ?_)
        refine lv_goto (tgt := 9) C.x C.b d_U_pack_80 (by decide) ?_
        exact ih (i + 1) y2 h2 M2 r2 t2 (by omega) hh2 he2 hM2 hL2 H locs ls hP hD hS (lv_sub hl [1, 2, 3, 4, 5, 6, 7, 8, 0] rfl)
      · refine lv_aload_n C.x C.b d_U_pack_23 rfl (lv_at hl 0 rfl) ?_
        refine lv_iload C.x C.b d_U_pack_24 (lv_at hl 8 rfl) ?_
        refine ild C hP 0 rfl (by omega) (by omega) d_U_pack_26 ?_
        refine ra_i (y := nI (gt V (k + i))) (by rw [hV (k + i) (by omega)]) ?_
        refine lv_i2l C.x C.b d_U_pack_27 rfl ?_
        refine lv_ldc2 C.x C.b C.ow (C.ts _ ct_U_33) d_U_pack_28 ?_
        refine ra_l (y := lN 4294967295) (by decide) ?_
        refine lv_land C.x C.b d_U_pack_31 ?_
        refine ra_l (y := lN (gt V (k + i))) (l_mask32 (gt_lt (by decide) hV32 _)) ?_
        refine lv_goto (tgt := 36) C.x C.b d_U_pack_32 (by decide) ?_
        refine ra_l (y := lN (bs (vb (gt V) n w k) (w * i) w)) (by rw [vb_word hvw, if_pos (by omega)]) ?_
        have hwd := bs_lt (vb (gt V) n w k) (w * i) w
        have hb1 := bs_lt (vb (gt V) n w k) (8 * y) h
        have es : bs (vb (gt V) n w k) (8 * y) (h + w) = bs (vb (gt V) n w k) (8 * y) h + bs (vb (gt V) n w k) (w * i) w * 2 ^ h := by rw [bs_app, he]
        have hb2 := bs_lt (vb (gt V) n w k) (8 * y) (h + w)
        have hp2 : (2 : Nat) ^ (h + w) ≤ 2 ^ 40 := Nat.pow_le_pow_right (by decide) (by omega)
        refine lv_iload C.x C.b d_U_pack_36 (lv_at hl 7 rfl) ?_
        refine lv_lshl C.x C.b d_U_pack_38 (wb_shl _ (by omega)) ?_
        refine lv_lor C.x C.b d_U_pack_39 ?_
        refine ra_l (y := lN (bs (vb (gt V) n w k) (8 * y) (h + w))) (by rw [es]; exact lN_orS hb1 (by rw [← es]; omega)) ?_
        refine lv_lstore (lv' := [(6, .long (lN (bs (vb (gt V) n w k) (8 * y) (h + w)))), (0, .ref ro), (1, .int (nI k)), (2, .int (nI to)), (3, .int (nI (k + 8 * g))), (4, .int (nI w)), (5, .ref b), (8, .int (nI h)), (9, .int (nI (k + i)))]) C.x C.b d_U_pack_40 hl (by decide) rfl (fun ls hl => ?_)
        refine lv_iload C.x C.b d_U_pack_42 (lv_at hl 7 rfl) ?_
        refine lv_iload C.x C.b d_U_pack_44 (lv_at hl 5 rfl) ?_
        refine lv_iadd C.x C.b d_U_pack_46 ?_
        refine ra_i (nI_add _ _) ?_
        refine lv_istore (lv' := [(8, .int (nI (h + w))), (6, .long (lN (bs (vb (gt V) n w k) (8 * y) (h + w)))), (0, .ref ro), (1, .int (nI k)), (2, .int (nI to)), (3, .int (nI (k + 8 * g))), (4, .int (nI w)), (5, .ref b), (9, .int (nI (k + i)))]) C.x C.b d_U_pack_47 hl (by decide) rfl (fun ls hl => ?_)
        refine lp_U_pack1 C hA b ro k n to w g at_ f u0 L V v hV hVn hn hV32 hw hvw hk hto h0 h65 hb i (by omega) hR1 hR2 hRc hRs (fun y2 h2 M2 r2 t2 H locs ls hh2 he2 hM2 hL2 hP hD hS hl => ?_) 4 y (h + w) M r t ⟨by omega, by omega⟩ (by rw [Nat.mul_add]; omega) hM hL H locs ls hP hD hS (lv_sub hl [2, 3, 4, 5, 6, 7, 1, 0, 8] rfl)
        refine lv_iinc (v := (nI (k + i + 1))) (lv' := [(9, .int (nI (k + i + 1))), (0, .ref ro), (1, .int (nI k)), (2, .int (nI to)), (3, .int (nI (k + 8 * g))), (4, .int (nI w)), (5, .ref b), (6, .long (lN (bs (vb (gt V) n w k) (8 * y2) h2))), (8, .int (nI h2))]) C.x C.b d_U_pack_77 hl (k := 8) rfl (nI_inc _ 1) (by decide) rfl (fun ls hl => ?_)
        refine lv_goto (tgt := 9) C.x C.b d_U_pack_80 (by decide) ?_
        exact ih (i + 1) y2 h2 M2 r2 t2 (by omega) hh2 he2 hM2 hL2 H locs ls hP hD hS (lv_sub hl [1, 2, 3, 4, 5, 6, 7, 8, 0] rfl)
set_option maxHeartbeats 4000000 in
set_option maxRecDepth 100000 in
/-- pack: the groups, bit by bit -/
theorem c_U_pack (l : Launch) (D : va_G) (cI cB : ClassId) (b r ro k n to w g at_ f u0 : Nat) (L V : List Nat) (v : Nat → Nat) (hV : Hd v V) (hVn : V.length = n) (hn : n ≤ 4096) (hV32 : ∀ x ∈ V, x < 2 ^ 32) (hw : w ≤ 32) (hvw : ∀ j, j < n → gt V j < 2 ^ w) (hk : k + 8 * g ≤ 8192) (hto : to ≤ n ∧ to ≤ k + 8 * g ∧ (to = n ∨ to = k + 8 * g)) (h0 : 1 ≤ u0) (h65 : u0 ≤ 16384) (hb : L.length + w * g ≤ 32768) (t : Nat → Nat) (hL : Hd t L) : Kv l D cI cB y_U_pack b_U_pack 10 2 40 (gr u0 (L.length + w * g) - gr u0 L.length) (16384 * (gr u0 (L.length + w * g) - gr u0 L.length)) [.ref ro, .int (nI k), .int (nI to), .int (nI (k + 8 * g)), .int (nI w), .ref b] [aN cI ro 4096 v, oB b r L.length at_ f, aB cB r (8192 * gr u0 L.length) t] (fun w1 => ∃ (r2 : Nat) (t2 : Nat → Nat), w1 = [aN cI ro 4096 v, oB b r2 (L ++ pkL (gt V) n w k  (w * g)).length at_ f, aB cB r2 (8192 * gr u0 (L ++ pkL (gt V) n w k  (w * g)).length) t2] ∧ Hd t2 (L ++ pkL (gt V) n w k  (w * g))) := by
  refine ent (fun A => va_Qv _ (BW D A) A) (by decide) (Nat.le_of_ble_eq_true rfl) ?_
  intro p e s m below meth c A ls C hA hP hD hS hl
  have hl : lv_has ls 10 [(0, .ref ro), (1, .int (nI k)), (2, .int (nI to)), (3, .int (nI (k + 8 * g))), (4, .int (nI w)), (5, .ref b)] := hl
  refine lv_lconst (v := lN 0) C.x C.b d_U_pack_0 (by decide) ?_
  refine lv_lstore (lv' := [(6, .long (lN 0)), (0, .ref ro), (1, .int (nI k)), (2, .int (nI to)), (3, .int (nI (k + 8 * g))), (4, .int (nI w)), (5, .ref b)]) C.x C.b d_U_pack_1 hl (by decide) rfl (fun ls hl => ?_)
  refine lv_iconst (v := nI 0) C.x C.b d_U_pack_3 (by decide) ?_
  refine lv_istore (lv' := [(8, .int (nI 0)), (6, .long (lN 0)), (0, .ref ro), (1, .int (nI k)), (2, .int (nI to)), (3, .int (nI (k + 8 * g))), (4, .int (nI w)), (5, .ref b)]) C.x C.b d_U_pack_4 hl (by decide) rfl (fun ls hl => ?_)
  refine lv_iload_n C.x C.b d_U_pack_6 rfl (lv_at hl 3 rfl) ?_
  refine lv_istore (lv' := [(9, .int (nI k)), (8, .int (nI 0)), (6, .long (lN 0)), (0, .ref ro), (1, .int (nI k)), (2, .int (nI to)), (3, .int (nI (k + 8 * g))), (4, .int (nI w)), (5, .ref b)]) C.x C.b d_U_pack_7 hl (by decide) rfl (fun ls hl => ?_)
  refine W.widen (k := gr u0 L.length - gr u0 L.length) (n := 16384 * (gr u0 L.length - gr u0 L.length)) (by omega) (by omega) ?_
  refine lp_U_pack C hA b ro k n to w g at_ f u0 L V v hV hVn hn hV32 hw hvw hk hto h0 h65 hb (Nat.le_refl 2) (Nat.le_refl 40) (Nat.le_refl _) (Nat.le_refl _) (fun r t H locs ls hL hP hD hS => ?_) (8 * g) 0 0 0 L r t (by omega) (by omega) (by omega) (by simp [pkL]) hL _ _ ls hP hD hS (lv_sub hl [3, 4, 5, 6, 7, 8, 2, 1, 0] rfl)
  have e1 : (L ++ pkL (gt V) n w k  (w * g)).length = L.length + w * g := by rw [List.length_append, pkL_len]
  exact retv C hP hD hS d_U_pack_83 (by rw [e1]; exact Nat.le_refl _) (by rw [e1]; exact Nat.le_refl _) (⟨r, t, rfl, hL⟩)
end
section
/-! contracts of Runs: write (printed by gen/runs3.py) -/
theorem encF_end {v : Nat → Nat} {n w f k : Nat} (h : n ≤ k) : encF v n w f k = [] := by
  cases f with
  | zero => rfl
  | succ f => rw [encF, if_neg (by omega)]
theorem encF_run {v : Nat → Nat} {n w f k rk : Nat} (h : k < n) (hr : rk = run v (n - k) k) (h8 : 8 ≤ rk) : encF v n w (f + 1) k = vi (2 * rk) ++ fx (v k) ((w + 7) / 8) ++ encF v n w f (k + rk) := by
  subst hr
  rw [encF, if_pos h, if_pos h8]
theorem encF_grp {v : Nat → Nat} {n w f k g : Nat} (h : k < n) (hg : g = eg v n k) (h8 : run v (n - k) k < 8) : encF v n w (f + 1) k = vi (2 * g + 1) ++ pkL v n w k (w * g) ++ encF v n w f (k + 8 * g) := by
  subst hg
  rw [encF, if_pos h, if_neg (by omega)]
theorem gE_out {v : Nat → Nat} {n q e : Nat} (h : ¬ (e < n ∧ run v (n - e) e < 8)) : gE v n q e = e := by
  cases q with
  | zero => rfl
  | succ q => rw [gE, if_neg h]
theorem gE_in {v : Nat → Nat} {n q e : Nat} (h : e < n ∧ run v (n - e) e < 8) : gE v n (q + 1) e = gE v n q (e + 8) := by
  rw [gE, if_pos h]
set_option maxHeartbeats 4000000 in
set_option maxRecDepth 100000 in
/-- write: the end of the groups -/
theorem lp_U_write1 {p : Program} {l : Launch} {e : Env} {R : Room} {s : State} {m : MethodId} {args : Array Value} {below : List Frame} {meth : Method} {c : Code} {D : va_G} {cI cB : ClassId} {Q : State → Prop} {cells slots : Nat} {H : Heap} {locs : List Loc} {L : List Nat} {t : Nat → Nat} {r at_ f u0 : Nat} (C : Cx p s m args meth c D cI cB b_U_write 8 R_U none "write") (u sm ro n w b k : Nat) (V : List Nat) (v : Nat → Nat) (hV : Hd v V) (hV32 : ∀ x ∈ V, x < 2 ^ 32) (hVn : V.length = n) (hn : n ≤ 4096) (S : Nat → Nat) (hS0 : ∀ i, i < n → S i = run (gt V) (n - i) i) (hP : va_P D classes [oU u sm, aN cI sm 4096 S, aN cI ro 4096 v, oB b r L.length at_ f, aB cB r (8192 * gr u0 L.length) t] H) : ∀ (q y : Nat), n ≤ y + q → y ≤ 8192 → (∀ (y2 : Nat) (ls : Array Slot), y2 = gE (gt V) n q y → lv_has ls 8 [(0, .ref u), (1, .ref ro), (2, .int (nI n)), (3, .int (nI w)), (4, .ref b), (5, .int (nI k)), (6, .int (nI y2))] → W p l e R s m args below meth c H locs cells slots Q (F0 m 111 ls [])) → ∀ (ls : Array Slot), lv_has ls 8 [(0, .ref u), (1, .ref ro), (2, .int (nI n)), (3, .int (nI w)), (4, .ref b), (5, .int (nI k)), (6, .int (nI y))] → W p l e R s m args below meth c H locs cells slots Q (F0 m 87 ls []) := by
  intro q
  induction q with
  | zero =>
    intro y hy hy2 kk ls hl
    refine lv_iload C.x C.b d_U_write_87 (lv_at hl 6 rfl) ?_
    refine lv_iload_n C.x C.b d_U_write_89 rfl (lv_at hl 2 rfl) ?_
    refine jc_ge (tgt := 111) C d_U_write_90 (by decide) (by omega) (by omega) (fun h => ?_) (fun h => ?_)
    · have ey := gE_out (v := gt V) (n := n) (q := 0) (e := y) (by omega)
      exact kk y ls ey.symm hl
    · exfalso; omega
  | succ q ih =>
    intro y hy hy2 kk ls hl
    refine lv_iload C.x C.b d_U_write_87 (lv_at hl 6 rfl) ?_
    refine lv_iload_n C.x C.b d_U_write_89 rfl (lv_at hl 2 rfl) ?_
    refine jc_ge (tgt := 111) C d_U_write_90 (by decide) (by omega) (by omega) (fun h => ?_) (fun h => ?_)
    · have ey := gE_out (v := gt V) (n := n) (q := (q + 1)) (e := y) (by omega)
      exact kk y ls ey.symm hl
    · refine lv_aload_n C.x C.b d_U_write_93 rfl (lv_at hl 0 rfl) ?_
      refine gf C hP 0 1 0 rfl rfl (by decide) fl_U_9 rfl d_U_write_94 ?_
      refine lv_iload C.x C.b d_U_write_97 (lv_at hl 6 rfl) ?_
      refine ild C hP 1 rfl (by omega) (by omega) d_U_write_99 ?_
      refine ra_i (y := nI (run (gt V) (n - y) y)) (by rw [hS0 y h]) ?_
      have hrl := run_le (gt V) (n - y) y
      refine lv_bipush (v := nI 8) C.x C.b d_U_write_100 (by decide) ?_
      refine jc_ge (tgt := 111) C d_U_write_102 (by decide) (by omega) (by omega) (fun h2 => ?_) (fun h2 => ?_)
      · have ey := gE_out (v := gt V) (n := n) (q := (q + 1)) (e := y) (by omega)
        exact kk y ls ey.symm hl
      · refine lv_iinc (v := (nI (y + 8))) (lv' := [(6, .int (nI (y + 8))), (0, .ref u), (1, .ref ro), (2, .int (nI n)), (3, .int (nI w)), (4, .ref b), (5, .int (nI k))]) C.x C.b d_U_write_105 hl (k := 6) rfl (nI_inc _ 8) (by decide) rfl (fun ls hl => ?_)
        refine lv_goto (tgt := 87) C.x C.b d_U_write_108 (by decide) ?_
        exact ih (y + 8) (by omega) (by omega) (fun y2 ls hy2 hl => kk y2 ls (by rw [gE_in ⟨h, h2⟩]; exact hy2) hl) ls (lv_sub hl [1, 2, 3, 4, 5, 6, 0] rfl)
set_option maxHeartbeats 4000000 in
set_option maxRecDepth 100000 in
/-- write: the loop -/
theorem lp_U_write {p : Program} {l : Launch} {e : Env} {R : Room} {s : State} {m : MethodId} {args : Array Value} {below : List Frame} {meth : Method} {c : Code} {D : va_G} {cI cB : ClassId} {A : Nat → Prop} {Q : State → Prop} (C : Cx p s m args meth c D cI cB b_U_write 8 R_U none "write") (hA : ∀ q : Nat, s.heap.size ≤ q → A q) (b u sm ro n w at_ f u0 : Nat) (V : List Nat) (v : Nat → Nat) (hV : Hd v V) (hV32 : ∀ x ∈ V, x < 2 ^ 32) (hVn : V.length = n) (hn : n ≤ 4096) (S : Nat → Nat) (hS0 : ∀ i, i < n → S i = run (gt V) (n - i) i) (hw : w ≤ 32) (hvw : ∀ j, j < n → gt V j < 2 ^ w) (h0 : 1 ≤ u0) (h65 : u0 ≤ 16384) (T : List Nat) (hT : T.length ≤ 17437) (hR1 : 3 ≤ R.frames) (hR2 : 69 ≤ R.locals) (hRc : gr u0 T.length - u0 ≤ R.cells) (hRs : 16384 * (gr u0 T.length - u0) ≤ R.slots) (kk : ∀ (r : Nat) (t : Nat → Nat) (H : Heap) (locs : List Loc) (ls : Array Slot), Hd t T → va_P D classes [oU u sm, aN cI sm 4096 S, aN cI ro 4096 v, oB b r T.length at_ f, aB cB r (8192 * gr u0 T.length) t] H → va_D A [oU u sm, aN cI sm 4096 S, aN cI ro 4096 v, oB b r T.length at_ f, aB cB r (8192 * gr u0 T.length) t] → va_S A s.heap H locs → W p l e R s m args below meth c H locs (gr u0 T.length - u0) (16384 * (gr u0 T.length - u0)) Q (F0 m 165 ls [])) : ∀ (q k : Nat) (M : List Nat) (r : Nat) (t : Nat → Nat), n ≤ k + q → k ≤ n + 7 → M ++ encF (gt V) n w q k = T → Hd t M → ∀ (H : Heap) (locs : List Loc) (ls : Array Slot), va_P D classes [oU u sm, aN cI sm 4096 S, aN cI ro 4096 v, oB b r M.length at_ f, aB cB r (8192 * gr u0 M.length) t] H → va_D A [oU u sm, aN cI sm 4096 S, aN cI ro 4096 v, oB b r M.length at_ f, aB cB r (8192 * gr u0 M.length) t] → va_S A s.heap H locs → lv_has ls 8 [(0, .ref u), (1, .ref ro), (2, .int (nI n)), (3, .int (nI w)), (4, .ref b), (5, .int (nI k))] → W p l e R s m args below meth c H locs (gr u0 M.length - u0) (16384 * (gr u0 M.length - u0)) (Q) (F0 m 9 ls []) := by
  intro q
  induction q with
  | zero =>
    intro k M r t hk hk2 hMT hL H locs ls hP hD hS hl
    refine lv_iload C.x C.b d_U_write_9 (lv_at hl 5 rfl) ?_
    refine lv_iload_n C.x C.b d_U_write_11 rfl (lv_at hl 2 rfl) ?_
    refine jc_ge (tgt := 165) C d_U_write_12 (by decide) (by omega) (by omega) (fun h => ?_) (fun h => ?_)
    · obtain rfl : M = T := by rw [← hMT, encF_end h]; simp
      exact kk r t H locs ls hL hP hD hS
    · exfalso; omega
  | succ q ih =>
    intro k M r t hk hk2 hMT hL H locs ls hP hD hS hl
    have hlen : M.length + (encF (gt V) n w (q + 1) k).length = T.length := by rw [← hMT, List.length_append]
    refine lv_iload C.x C.b d_U_write_9 (lv_at hl 5 rfl) ?_
    refine lv_iload_n C.x C.b d_U_write_11 rfl (lv_at hl 2 rfl) ?_
    refine jc_ge (tgt := 165) C d_U_write_12 (by decide) (by omega) (by omega) (fun h => ?_) (fun h => ?_)
    · obtain rfl : M = T := by rw [← hMT, encF_end h]; simp
      exact kk r t H locs ls hL hP hD hS
    · obtain ⟨rk, hrk⟩ : ∃ z, z = run (gt V) (n - k) k := ⟨_, rfl⟩
      have hrl := run_le (gt V) (n - k) k
      rw [← hrk] at hrl
      have eS : S k = rk := by rw [hS0 k h, hrk]
      refine lv_aload_n C.x C.b d_U_write_15 rfl (lv_at hl 0 rfl) ?_
      refine gf C hP 0 1 0 rfl rfl (by decide) fl_U_9 rfl d_U_write_16 ?_
      refine lv_iload C.x C.b d_U_write_19 (lv_at hl 5 rfl) ?_
      refine ild C hP 1 rfl (by omega) (by omega) d_U_write_21 ?_
      refine ra_i (y := nI rk) (by rw [eS]) ?_
      refine lv_bipush (v := nI 8) C.x C.b d_U_write_22 (by decide) ?_
      refine jc_lt (tgt := 80) C d_U_write_24 (by decide) (by omega) (by omega) (fun h8 => ?_) (fun h8 => ?_)
      · refine lv_iload C.x C.b d_U_write_80 (lv_at hl 5 rfl) ?_
        refine lv_bipush (v := nI 8) C.x C.b d_U_write_82 (by decide) ?_
        refine lv_iadd C.x C.b d_U_write_84 ?_
        refine ra_i (nI_add _ _) ?_
        refine lv_istore (lv' := [(6, .int (nI (k + 8))), (0, .ref u), (1, .ref ro), (2, .int (nI n)), (3, .int (nI w)), (4, .ref b), (5, .int (nI k))]) C.x C.b d_U_write_85 hl (by decide) rfl (fun ls hl => ?_)
        refine lp_U_write1 C u sm ro n w b k V v hV hV32 hVn hn S hS0 hP n (k + 8) (by omega) (by omega) (fun y ls hy hl => ?_) ls (lv_sub hl [1, 2, 3, 4, 5, 6, 0] rfl)
        obtain ⟨g, hg⟩ : ∃ z, z = eg (gt V) n k := ⟨_, rfl⟩
        have hgs := eg_spec (gt V) n k
        rw [← hg] at hgs
        obtain rfl : y = k + 8 * g := hy.trans hgs.1
        have eE := encF_grp (w := w) (f := q) h hg (by rw [← hrk]; exact h8)
        rw [eE] at hMT hlen
        rw [List.length_append, List.length_append, pkL_len] at hlen
        refine lv_iload C.x C.b d_U_write_111 (lv_at hl 6 rfl) ?_
        refine lv_iload C.x C.b d_U_write_113 (lv_at hl 5 rfl) ?_
        refine lv_isub C.x C.b d_U_write_115 ?_
        refine ra_i (nI_subS (by omega)) ?_
        refine lv_bipush (v := nI 8) C.x C.b d_U_write_116 (by decide) ?_
        refine lv_idiv C.x C.b d_U_write_118 (nI_ne0 (by omega) (by omega)) ?_
        refine ra_i (pk_div (by omega) (by omega) (by omega)) ?_
        refine ra_i (y := nI g) (by rw [show (k + 8 * g - k) / 8 = g by omega]) ?_
        refine lv_istore (lv' := [(7, .int (nI g)), (0, .ref u), (1, .ref ro), (2, .int (nI n)), (3, .int (nI w)), (4, .ref b), (5, .int (nI k)), (6, .int (nI (k + 8 * g)))]) C.x C.b d_U_write_119 hl (by decide) rfl (fun ls hl => ?_)
        refine lv_aload C.x C.b d_U_write_121 (lv_at hl 5 rfl) ?_
        refine lv_ldc2 C.x C.b C.ow (C.ts _ ct_U_25) d_U_write_123 ?_
        refine ra_l (y := lN 2) (by decide) ?_
        refine lv_iload C.x C.b d_U_write_126 (lv_at hl 0 rfl) ?_
        refine lv_i2l C.x C.b d_U_write_128 (nI_l (by omega)) ?_
        refine lv_lmul C.x C.b d_U_write_129 ?_
        refine ra_l (lN_mul _ _) ?_
        refine lv_lconst (v := lN 1) C.x C.b d_U_write_130 (by decide) ?_
        refine lv_ladd C.x C.b d_U_write_131 ?_
        refine ra_l (lN_add _ _) ?_
        obtain ⟨M1, hm1⟩ : ∃ z, z = M ++ vi (2 * g + 1) := ⟨_, rfl⟩
        have hn1 : M1.length = M.length + (vi (2 * g + 1)).length := by rw [hm1, List.length_append]
        have ga1 := gr_ge u0 M.length
        have gb1 := gr_mono (u := u0) (show M.length ≤ M.length + (vi (2 * g + 1)).length by omega)
        have gc1 := gr_mono (u := u0) (show M.length + (vi (2 * g + 1)).length ≤ T.length by omega)
        refine cvV (wr := [oU u sm, aN cI sm 4096 S, aN cI ro 4096 v]) C hA hP hD hS hl.1 (c_B_putVarint l D cI cB b r at_ f (2 * g + 1) u0 M t hL h0 h65 (by omega) (by omega)) ok_U_27 [] [3, 4] [0, 1, 2] 0 0 rfl rfl rfl rfl (by decide) rfl (by decide) (by decide) rfl rfl (Nat.le_of_ble_eq_true rfl) (⟨by (try dsimp only [rmO]); omega, by (try dsimp only [rmO]); omega⟩) (⟨by (try dsimp only [rmO]); omega, by (try dsimp only [rmO]); omega⟩) d_U_write_132 ?_
        intro w1 H locs hw hP hD hS
        obtain ⟨r1, t1, rfl, hL1⟩ := hw
        have hP : va_P D classes [oU u sm, aN cI sm 4096 S, aN cI ro 4096 v, oB b r1 ((M ++ vi (2 * g + 1)).length) at_ f, aB cB r1 (8192 * gr u0 (M ++ vi (2 * g + 1)).length) t1] H := hP
        have hD : va_D A [oU u sm, aN cI sm 4096 S, aN cI ro 4096 v, oB b r1 ((M ++ vi (2 * g + 1)).length) at_ f, aB cB r1 (8192 * gr u0 (M ++ vi (2 * g + 1)).length) t1] := hD
        rw [← hm1] at hP hD hL1
        have ge1 : gr u0 M1.length = gr u0 (M.length + (vi (2 * g + 1)).length) := by rw [hn1]
        refine W.widen (k := gr u0 M1.length - u0) (n := 16384 * (gr u0 M1.length - u0)) (by omega) (by omega) ?_
        refine lv_aload_n C.x C.b d_U_write_135 rfl (lv_at hl 2 rfl) ?_
        refine lv_iload C.x C.b d_U_write_136 (lv_at hl 6 rfl) ?_
        refine lv_iload_n C.x C.b d_U_write_138 rfl (lv_at hl 3 rfl) ?_
        refine lv_iload C.x C.b d_U_write_139 (lv_at hl 7 rfl) ?_
        refine jc_ge (tgt := 148) C d_U_write_141 (by decide) (by omega) (by omega) (fun h9 => ?_) (fun h9 => ?_)
        · refine lv_iload C.x C.b d_U_write_148 (lv_at hl 7 rfl) ?_
          refine lv_iload C.x C.b d_U_write_150 (lv_at hl 7 rfl) ?_
          refine lv_iload_n C.x C.b d_U_write_152 rfl (lv_at hl 4 rfl) ?_
          refine lv_aload C.x C.b d_U_write_153 (lv_at hl 5 rfl) ?_
          obtain ⟨M2, hm2⟩ : ∃ z, z = M1 ++ pkL (gt V) n w k (w * g) := ⟨_, rfl⟩
          have hn2 : M2.length = M1.length + w * g := by rw [hm2, List.length_append, pkL_len]
          have ga2 := gr_ge u0 M1.length
          have gb2 := gr_mono (u := u0) (show M1.length ≤ M1.length + w * g by omega)
          have gc2 := gr_mono (u := u0) (show M1.length + w * g ≤ T.length by omega)
          refine cvS (wr := [oU u sm, aN cI sm 4096 S]) C hA hP hD hS hl.1 (c_U_pack l D cI cB b r1 ro k n (k + 8 * g) w g at_ f u0 M1 V v hV hVn hn hV32 hw hvw (by omega) ⟨by omega, by omega, by omega⟩ h0 h65 (by omega) t1 hL1) ok_U_39 [] [2, 3, 4] [0, 1] rfl (by decide) rfl (by decide) (by decide) rfl rfl (Nat.le_of_ble_eq_true rfl) (⟨by (try dsimp only [rmO]); omega, by (try dsimp only [rmO]); omega⟩) (⟨by (try dsimp only [rmO]); omega, by (try dsimp only [rmO]); omega⟩) d_U_write_155 ?_
          intro w1 H locs hw hP hD hS
          obtain ⟨r2, t2, rfl, hL2⟩ := hw
          have hP : va_P D classes [oU u sm, aN cI sm 4096 S, aN cI ro 4096 v, oB b r2 ((M1 ++ pkL (gt V) n w k (w * g)).length) at_ f, aB cB r2 (8192 * gr u0 (M1 ++ pkL (gt V) n w k (w * g)).length) t2] H := hP
          have hD : va_D A [oU u sm, aN cI sm 4096 S, aN cI ro 4096 v, oB b r2 ((M1 ++ pkL (gt V) n w k (w * g)).length) at_ f, aB cB r2 (8192 * gr u0 (M1 ++ pkL (gt V) n w k (w * g)).length) t2] := hD
          rw [← hm2] at hP hD hL2
          have ge2 : gr u0 M2.length = gr u0 (M1.length + w * g) := by rw [hn2]
          refine W.widen (k := gr u0 M2.length - u0) (n := 16384 * (gr u0 M2.length - u0)) (by omega) (by omega) ?_
          have hP : va_P D classes [oU u sm, aN cI sm 4096 S, aN cI ro 4096 v, oB b r2 M2.length at_ f, aB cB r2 (8192 * gr u0 M2.length) t2] H := hP.sub [0, 1, 2, 3, 4] rfl
          have hD : va_D A [oU u sm, aN cI sm 4096 S, aN cI ro 4096 v, oB b r2 M2.length at_ f, aB cB r2 (8192 * gr u0 M2.length) t2] := hD.sub [0, 1, 2, 3, 4] (by decide) rfl
          refine lv_iload C.x C.b d_U_write_158 (lv_at hl 7 rfl) ?_
          refine lv_istore (lv' := [(5, .int (nI (k + 8 * g))), (7, .int (nI g)), (0, .ref u), (1, .ref ro), (2, .int (nI n)), (3, .int (nI w)), (4, .ref b), (6, .int (nI (k + 8 * g)))]) C.x C.b d_U_write_160 hl (by decide) rfl (fun ls hl => ?_)
          refine lv_goto (tgt := 9) C.x C.b d_U_write_162 (by decide) ?_
          exact ih (k + 8 * g) M2 r2 t2 (by omega) (by omega) (by rw [hm2, hm1, ← hMT]; simp only [List.append_assoc]) hL2 H locs ls hP hD hS (lv_sub hl [2, 3, 4, 5, 6, 0] rfl)
        · refine lv_iload_n C.x C.b d_U_write_144 rfl (lv_at hl 3 rfl) ?_
          refine lv_goto (tgt := 150) C.x C.b d_U_write_145 (by decide) ?_
          refine lv_iload C.x C.b d_U_write_150 (lv_at hl 7 rfl) ?_
          refine lv_iload_n C.x C.b d_U_write_152 rfl (lv_at hl 4 rfl) ?_
          refine lv_aload C.x C.b d_U_write_153 (lv_at hl 5 rfl) ?_
          obtain ⟨M2, hm2⟩ : ∃ z, z = M1 ++ pkL (gt V) n w k (w * g) := ⟨_, rfl⟩
          have hn2 : M2.length = M1.length + w * g := by rw [hm2, List.length_append, pkL_len]
          have ga2 := gr_ge u0 M1.length
          have gb2 := gr_mono (u := u0) (show M1.length ≤ M1.length + w * g by omega)
          have gc2 := gr_mono (u := u0) (show M1.length + w * g ≤ T.length by omega)
          refine cvS (wr := [oU u sm, aN cI sm 4096 S]) C hA hP hD hS hl.1 (c_U_pack l D cI cB b r1 ro k n n w g at_ f u0 M1 V v hV hVn hn hV32 hw hvw (by omega) ⟨by omega, by omega, by omega⟩ h0 h65 (by omega) t1 hL1) ok_U_39 [] [2, 3, 4] [0, 1] rfl (by decide) rfl (by decide) (by decide) rfl rfl (Nat.le_of_ble_eq_true rfl) (⟨by (try dsimp only [rmO]); omega, by (try dsimp only [rmO]); omega⟩) (⟨by (try dsimp only [rmO]); omega, by (try dsimp only [rmO]); omega⟩) d_U_write_155 ?_
          intro w1 H locs hw hP hD hS
          obtain ⟨r2, t2, rfl, hL2⟩ := hw
          have hP : va_P D classes [oU u sm, aN cI sm 4096 S, aN cI ro 4096 v, oB b r2 ((M1 ++ pkL (gt V) n w k (w * g)).length) at_ f, aB cB r2 (8192 * gr u0 (M1 ++ pkL (gt V) n w k (w * g)).length) t2] H := hP
          have hD : va_D A [oU u sm, aN cI sm 4096 S, aN cI ro 4096 v, oB b r2 ((M1 ++ pkL (gt V) n w k (w * g)).length) at_ f, aB cB r2 (8192 * gr u0 (M1 ++ pkL (gt V) n w k (w * g)).length) t2] := hD
          rw [← hm2] at hP hD hL2
          have ge2 : gr u0 M2.length = gr u0 (M1.length + w * g) := by rw [hn2]
          refine W.widen (k := gr u0 M2.length - u0) (n := 16384 * (gr u0 M2.length - u0)) (by omega) (by omega) ?_
          have hP : va_P D classes [oU u sm, aN cI sm 4096 S, aN cI ro 4096 v, oB b r2 M2.length at_ f, aB cB r2 (8192 * gr u0 M2.length) t2] H := hP.sub [0, 1, 2, 3, 4] rfl
          have hD : va_D A [oU u sm, aN cI sm 4096 S, aN cI ro 4096 v, oB b r2 M2.length at_ f, aB cB r2 (8192 * gr u0 M2.length) t2] := hD.sub [0, 1, 2, 3, 4] (by decide) rfl
          refine lv_iload C.x C.b d_U_write_158 (lv_at hl 7 rfl) ?_
          refine lv_istore (lv' := [(5, .int (nI (k + 8 * g))), (7, .int (nI g)), (0, .ref u), (1, .ref ro), (2, .int (nI n)), (3, .int (nI w)), (4, .ref b), (6, .int (nI (k + 8 * g)))]) C.x C.b d_U_write_160 hl (by decide) rfl (fun ls hl => ?_)
          refine lv_goto (tgt := 9) C.x C.b d_U_write_162 (by decide) ?_
          exact ih (k + 8 * g) M2 r2 t2 (by omega) (by omega) (by rw [hm2, hm1, ← hMT]; simp only [List.append_assoc]) hL2 H locs ls hP hD hS (lv_sub hl [2, 3, 4, 5, 6, 0] rfl)
      · have eE := encF_run (w := w) (f := q) h hrk h8
        rw [eE] at hMT hlen
        rw [List.length_append, List.length_append, fx_len] at hlen
        refine lv_aload C.x C.b d_U_write_27 (lv_at hl 4 rfl) ?_
        refine lv_ldc2 C.x C.b C.ow (C.ts _ ct_U_25) d_U_write_29 ?_
        refine ra_l (y := lN 2) (by decide) ?_
        refine lv_aload_n C.x C.b d_U_write_32 rfl (lv_at hl 0 rfl) ?_
        refine gf C hP 0 1 0 rfl rfl (by decide) fl_U_9 rfl d_U_write_33 ?_
        refine lv_iload C.x C.b d_U_write_36 (lv_at hl 5 rfl) ?_
        refine ild C hP 1 rfl (by omega) (by omega) d_U_write_38 ?_
        refine ra_i (y := nI rk) (by rw [eS]) ?_
        refine lv_i2l C.x C.b d_U_write_39 (nI_l (by omega)) ?_
        refine lv_lmul C.x C.b d_U_write_40 ?_
        refine ra_l (lN_mul _ _) ?_
        obtain ⟨M1, hm1⟩ : ∃ z, z = M ++ vi (2 * rk) := ⟨_, rfl⟩
        have hn1 : M1.length = M.length + (vi (2 * rk)).length := by rw [hm1, List.length_append]
        have ga1 := gr_ge u0 M.length
        have gb1 := gr_mono (u := u0) (show M.length ≤ M.length + (vi (2 * rk)).length by omega)
        have gc1 := gr_mono (u := u0) (show M.length + (vi (2 * rk)).length ≤ T.length by omega)
        refine cvV (wr := [oU u sm, aN cI sm 4096 S, aN cI ro 4096 v]) C hA hP hD hS hl.1 (c_B_putVarint l D cI cB b r at_ f (2 * rk) u0 M t hL h0 h65 (by omega) (by omega)) ok_U_27 [] [3, 4] [0, 1, 2] 0 0 rfl rfl rfl rfl (by decide) rfl (by decide) (by decide) rfl rfl (Nat.le_of_ble_eq_true rfl) (⟨by (try dsimp only [rmO]); omega, by (try dsimp only [rmO]); omega⟩) (⟨by (try dsimp only [rmO]); omega, by (try dsimp only [rmO]); omega⟩) d_U_write_41 ?_
        intro w1 H locs hw hP hD hS
        obtain ⟨r1, t1, rfl, hL1⟩ := hw
        have hP : va_P D classes [oU u sm, aN cI sm 4096 S, aN cI ro 4096 v, oB b r1 ((M ++ vi (2 * rk)).length) at_ f, aB cB r1 (8192 * gr u0 (M ++ vi (2 * rk)).length) t1] H := hP
        have hD : va_D A [oU u sm, aN cI sm 4096 S, aN cI ro 4096 v, oB b r1 ((M ++ vi (2 * rk)).length) at_ f, aB cB r1 (8192 * gr u0 (M ++ vi (2 * rk)).length) t1] := hD
        rw [← hm1] at hP hD hL1
        have ge1 : gr u0 M1.length = gr u0 (M.length + (vi (2 * rk)).length) := by rw [hn1]
        refine W.widen (k := gr u0 M1.length - u0) (n := 16384 * (gr u0 M1.length - u0)) (by omega) (by omega) ?_
        refine lv_aload C.x C.b d_U_write_44 (lv_at hl 4 rfl) ?_
        refine lv_aload_n C.x C.b d_U_write_46 rfl (lv_at hl 1 rfl) ?_
        refine lv_iload C.x C.b d_U_write_47 (lv_at hl 5 rfl) ?_
        refine ild C hP 2 rfl (by omega) (by omega) d_U_write_49 ?_
        refine ra_i (y := nI (gt V k)) (by rw [hV k (by omega)]) ?_
        refine lv_i2l C.x C.b d_U_write_50 rfl ?_
        refine lv_ldc2 C.x C.b C.ow (C.ts _ ct_U_33) d_U_write_51 ?_
        refine ra_l (y := lN 4294967295) (by decide) ?_
        refine lv_land C.x C.b d_U_write_54 ?_
        refine ra_l (y := lN (gt V k)) (l_mask32 (gt_lt (by decide) hV32 _)) ?_
        refine lv_iload_n C.x C.b d_U_write_55 rfl (lv_at hl 3 rfl) ?_
        refine lv_bipush (v := nI 7) C.x C.b d_U_write_56 (by decide) ?_
        refine lv_iadd C.x C.b d_U_write_58 ?_
        refine ra_i (nI_add _ _) ?_
        refine lv_bipush (v := nI 8) C.x C.b d_U_write_59 (by decide) ?_
        refine lv_idiv C.x C.b d_U_write_61 (nI_ne0 (by omega) (by omega)) ?_
        refine ra_i (pk_div (by omega) (by omega) (by omega)) ?_
        have hx32 := gt_lt (by decide) hV32 k
        obtain ⟨M2, hm2⟩ : ∃ z, z = M1 ++ fx (gt V k) ((w + 7) / 8) := ⟨_, rfl⟩
        have hn2 : M2.length = M1.length + (w + 7) / 8 := by rw [hm2, List.length_append, fx_len]
        have ga2 := gr_ge u0 M1.length
        have gb2 := gr_mono (u := u0) (show M1.length ≤ M1.length + (w + 7) / 8 by omega)
        have gc2 := gr_mono (u := u0) (show M1.length + (w + 7) / 8 ≤ T.length by omega)
        refine cvV (wr := [oU u sm, aN cI sm 4096 S, aN cI ro 4096 v]) C hA hP hD hS hl.1 (c_B_putFixed l D cI cB b r1 at_ f (gt V k) ((w + 7) / 8) u0 M1 t1 hL1 h0 h65 (by omega) (by omega) (by omega)) ok_U_35 [] [3, 4] [0, 1, 2] 0 0 rfl rfl rfl rfl (by decide) rfl (by decide) (by decide) rfl rfl (Nat.le_of_ble_eq_true rfl) (⟨by (try dsimp only [rmO]); omega, by (try dsimp only [rmO]); omega⟩) (⟨by (try dsimp only [rmO]); omega, by (try dsimp only [rmO]); omega⟩) d_U_write_62 ?_
        intro w1 H locs hw hP hD hS
        obtain ⟨r2, t2, rfl, hL2⟩ := hw
        have hP : va_P D classes [oU u sm, aN cI sm 4096 S, aN cI ro 4096 v, oB b r2 ((M1 ++ fx (gt V k) ((w + 7) / 8)).length) at_ f, aB cB r2 (8192 * gr u0 (M1 ++ fx (gt V k) ((w + 7) / 8)).length) t2] H := hP
        have hD : va_D A [oU u sm, aN cI sm 4096 S, aN cI ro 4096 v, oB b r2 ((M1 ++ fx (gt V k) ((w + 7) / 8)).length) at_ f, aB cB r2 (8192 * gr u0 (M1 ++ fx (gt V k) ((w + 7) / 8)).length) t2] := hD
        rw [← hm2] at hP hD hL2
        have ge2 : gr u0 M2.length = gr u0 (M1.length + (w + 7) / 8) := by rw [hn2]
        refine W.widen (k := gr u0 M2.length - u0) (n := 16384 * (gr u0 M2.length - u0)) (by omega) (by omega) ?_
        refine lv_iload C.x C.b d_U_write_65 (lv_at hl 5 rfl) ?_
        refine lv_aload_n C.x C.b d_U_write_67 rfl (lv_at hl 0 rfl) ?_
        refine gf C hP 0 1 0 rfl rfl (by decide) fl_U_9 rfl d_U_write_68 ?_
        refine lv_iload C.x C.b d_U_write_71 (lv_at hl 5 rfl) ?_
        refine ild C hP 1 rfl (by omega) (by omega) d_U_write_73 ?_
        refine ra_i (y := nI rk) (by rw [eS]) ?_
        refine lv_iadd C.x C.b d_U_write_74 ?_
        refine ra_i (nI_add _ _) ?_
        refine lv_istore (lv' := [(5, .int (nI (k + rk))), (0, .ref u), (1, .ref ro), (2, .int (nI n)), (3, .int (nI w)), (4, .ref b)]) C.x C.b d_U_write_75 hl (by decide) rfl (fun ls hl => ?_)
        refine lv_goto (tgt := 9) C.x C.b d_U_write_77 (by decide) ?_
        exact ih (k + rk) M2 r2 t2 (by omega) (by omega) (by rw [hm2, hm1, ← hMT]; simp only [List.append_assoc]) hL2 H locs ls hP hD hS (lv_sub hl [1, 2, 3, 4, 5, 0] rfl)
set_option maxHeartbeats 4000000 in
set_option maxRecDepth 100000 in
/-- write: the encoder -/
theorem c_U_write (l : Launch) (D : va_G) (cI cB : ClassId) (b r u sm ro n w at_ f u0 : Nat) (V : List Nat) (v : Nat → Nat) (hV : Hd v V) (hV32 : ∀ x ∈ V, x < 2 ^ 32) (hVn : V.length = n) (hn : n ≤ 4096) (S : Nat → Nat) (hw : w ≤ 32) (hvw : ∀ j, j < n → gt V j < 2 ^ w) (h0 : 1 ≤ u0) (h65 : u0 ≤ 16384) (t : Nat → Nat) (hL : Hd t []) : Kv l D cI cB y_U_write b_U_write 8 3 69 (gr u0 (encF (gt V) n w n 0).length - u0) (16384 * (gr u0 (encF (gt V) n w n 0).length - u0)) [.ref u, .ref ro, .int (nI n), .int (nI w), .ref b] [oU u sm, aN cI sm 4096 S, aN cI ro 4096 v, oB b r 0 at_ f, aB cB r (8192 * u0) t] (fun w1 => ∃ (S2 : Nat → Nat) (r2 : Nat) (t2 : Nat → Nat), w1 = [oU u sm, aN cI sm 4096 S2, aN cI ro 4096 v, oB b r2 (encF (gt V) n w n 0).length at_ f, aB cB r2 (8192 * gr u0 (encF (gt V) n w n 0).length) t2] ∧ Hd t2 (encF (gt V) n w n 0)) := by
  refine ent (fun A => va_Qv _ (BW D A) A) (by decide) (Nat.le_of_ble_eq_true rfl) ?_
  intro p e s m below meth c A ls C hA hP hD hS hl
  have hl : lv_has ls 8 [(0, .ref u), (1, .ref ro), (2, .int (nI n)), (3, .int (nI w)), (4, .ref b)] := hl
  obtain ⟨T, hTe⟩ : ∃ z, z = encF (gt V) n w n 0 := ⟨_, rfl⟩
  have hT : T.length ≤ 17437 := by
    have q := encF_len (gt V) (n := n) hw n 0 (by omega)
    rw [← hTe] at q
    omega
  rw [← hTe]
  refine lv_aload_n C.x C.b d_U_write_0 rfl (lv_at hl 0 rfl) ?_
  refine lv_aload_n C.x C.b d_U_write_1 rfl (lv_at hl 1 rfl) ?_
  refine lv_iload_n C.x C.b d_U_write_2 rfl (lv_at hl 2 rfl) ?_
  refine cvV (wr := [oB b r 0 at_ f, aB cB r (8192 * u0) t]) C hA hP hD hS hl.1 (c_U_look l D cI cB u sm ro n S V v hV hV32 hVn hn) ok_U_21 [] [0, 1, 2] [3, 4] 1 0 rfl rfl rfl rfl (by decide) rfl (by decide) (by decide) rfl rfl (Nat.le_of_ble_eq_true rfl) (⟨by (try dsimp only [rmO]); omega, by (try dsimp only [rmO]); omega⟩) (⟨by (try dsimp only [rmO]); omega, by (try dsimp only [rmO]); omega⟩) d_U_write_3 ?_
  intro w1 H locs hw hP hD hS
  obtain ⟨S2, rfl, hS0⟩ := hw
  have hP : va_P D classes [oB b r 0 at_ f, aB cB r (8192 * u0) t, oU u sm, aN cI sm 4096 S2, aN cI ro 4096 v] H := hP
  have hD : va_D A [oB b r 0 at_ f, aB cB r (8192 * u0) t, oU u sm, aN cI sm 4096 S2, aN cI ro 4096 v] := hD
  have hP : va_P D classes [oU u sm, aN cI sm 4096 S2, aN cI ro 4096 v, oB b r 0 at_ f, aB cB r (8192 * u0) t] H := hP.sub [2, 3, 4, 0, 1] rfl
  have hD : va_D A [oU u sm, aN cI sm 4096 S2, aN cI ro 4096 v, oB b r 0 at_ f, aB cB r (8192 * u0) t] := hD.sub [2, 3, 4, 0, 1] (by decide) rfl
  refine lv_iconst (v := nI 0) C.x C.b d_U_write_6 (by decide) ?_
  refine lv_istore (lv' := [(5, .int (nI 0)), (0, .ref u), (1, .ref ro), (2, .int (nI n)), (3, .int (nI w)), (4, .ref b)]) C.x C.b d_U_write_7 hl (by decide) rfl (fun ls hl => ?_)
  have eg0 : gr u0 0 = u0 := by unfold gr; rw [if_pos (Nat.zero_le _)]
  refine W.widen (k := gr u0 ([] : List Nat).length - u0) (n := 16384 * (gr u0 ([] : List Nat).length - u0)) (Nat.zero_le _) (Nat.zero_le _) ?_
  refine lp_U_write C hA b u sm ro n w at_ f u0 V v hV hV32 hVn hn S2 hS0 hw hvw h0 h65 T hT (Nat.le_refl 3) (Nat.le_refl 69) (Nat.le_refl _) (Nat.le_refl _) (fun r t H locs ls hL hP hD hS => ?_) n 0 [] r t (by omega) (by omega) (by rw [hTe]; rfl) hL H locs ls ?_ ?_ hS (lv_sub hl [1, 2, 3, 4, 5, 0] rfl)
  · exact retv C hP hD hS d_U_write_165 (Nat.le_refl _) (Nat.le_refl _) (⟨S2, r, t, rfl, hL⟩)
  · rw [show ([] : List Nat).length = 0 from rfl, eg0]; exact hP
  · rw [show ([] : List Nat).length = 0 from rfl, eg0]; exact hD
end
section
/-! contracts of Runs: one (printed by gen/runs4.py) -/
/-- what one run's reading does: fault, place, number, row -/
def OneQ (g : Nat → Nat) (E n w a k mm f2 a2 k2 : Nat) (vs vs2 : Nat → Nat) : Prop :=
  k2 ≤ n + 7 ∧ a2 ≤ 65536 ∧ ((f2 = 4 ∧ n - k < mm) ∨ (f2 = 1 ∧ mm ≤ n - k ∧ E < a + (w + 7) / 8) ∨ (f2 = 5 ∧ mm ≤ n - k ∧ a + (w + 7) / 8 ≤ E ∧ bs (ib g) (8 * a) (8 * ((w + 7) / 8)) / 2 ^ w ≠ 0) ∨
    (f2 = 0 ∧ mm ≤ n - k ∧ a + (w + 7) / 8 ≤ E ∧ bs (ib g) (8 * a) (8 * ((w + 7) / 8)) / 2 ^ w = 0 ∧ a2 = a + (w + 7) / 8 ∧ k2 = k + mm ∧ ∀ j, j < k + mm → vs2 j = if k ≤ j then bs (ib g) (8 * a) (8 * ((w + 7) / 8)) else vs j))
/-- and a row of groups' -/
def GrpQ (g : Nat → Nat) (E n w a k mm f2 a2 k2 : Nat) (vs vs2 : Nat → Nat) : Prop :=
  k2 ≤ n + 7 ∧ a2 ≤ 65536 ∧ ((f2 = 4 ∧ (n - k + 7) / 8 < mm) ∨ (f2 = 1 ∧ mm ≤ (n - k + 7) / 8 ∧ E < a + mm * w) ∨ (f2 = 5 ∧ mm ≤ (n - k + 7) / 8 ∧ a + mm * w ≤ E ∧ bad g (8 * a) w k n (8 * mm) = true) ∨
    (f2 = 0 ∧ mm ≤ (n - k + 7) / 8 ∧ a + mm * w ≤ E ∧ bad g (8 * a) w k n (8 * mm) = false ∧ a2 = a + mm * w ∧ min k2 n = min (k + 8 * mm) n ∧ ∀ j, j < min (k + 8 * mm) n → vs2 j = if k ≤ j then bs (ib g) (8 * a + w * (j - k)) w else vs j))
set_option maxHeartbeats 4000000 in
set_option maxRecDepth 100000 in
/-- one: the loop -/
theorem lp_U_one {p : Program} {l : Launch} {e : Env} {R : Room} {s : State} {m : MethodId} {args : Array Value} {below : List Frame} {meth : Method} {c : Code} {D : va_G} {cI cB : ClassId} {A : Nat → Prop} {Q : State → Prop} {cells slots : Nat} (C : Cx p s m args meth c D cI cB b_U_one 12 R_U (some .int) "one") (hA : ∀ q : Nat, s.heap.size ≤ q → A q) (b r sz k E cap y n w mm sp x : Nat) (t v0 : Nat → Nat) (hk : k + mm ≤ 4096) (hm1 : mm ≤ 4096) (kk : ∀ (vs : Nat → Nat), (∀ j, j < k + mm → vs j = if k ≤ j then x else v0 j) → ∀ (H : Heap) (locs : List Loc) (ls : Array Slot), va_P D classes [oB b r sz y 0, aB cB r cap t, aN cI sp 4096 vs] H → va_D A [oB b r sz y 0, aB cB r cap t, aN cI sp 4096 vs] → va_S A s.heap H locs → lv_has ls 12 [(0, .ref b), (1, .int (nI E)), (2, .long (lN mm)), (4, .int (nI k)), (5, .int (nI n)), (6, .int (nI w)), (7, .ref sp), (8, .long (lN x)), (10, .int (nI (k + mm))), (11, .int (nI (k + mm)))] → W p l e R s m args below meth c H locs cells slots Q (F0 m 101 ls [])) : ∀ (d i : Nat) (vs : Nat → Nat), i + d = mm → (∀ j, j < k + i → vs j = if k ≤ j then x else v0 j) → ∀ (H : Heap) (locs : List Loc) (ls : Array Slot), va_P D classes [oB b r sz y 0, aB cB r cap t, aN cI sp 4096 vs] H → va_D A [oB b r sz y 0, aB cB r cap t, aN cI sp 4096 vs] → va_S A s.heap H locs → lv_has ls 12 [(0, .ref b), (1, .int (nI E)), (2, .long (lN mm)), (4, .int (nI k)), (5, .int (nI n)), (6, .int (nI w)), (7, .ref sp), (8, .long (lN x)), (10, .int (nI (k + mm))), (11, .int (nI (k + i)))] → W p l e R s m args below meth c H locs cells slots (Q) (F0 m 73 ls []) := by
  intro d
  induction d with
  | zero =>
    intro i vs hi hvs H locs ls hP hD hS hl
    refine lv_iload C.x C.b d_U_one_73 (lv_at hl 9 rfl) ?_
    refine lv_iload C.x C.b d_U_one_75 (lv_at hl 8 rfl) ?_
    refine jc_ge (tgt := 101) C d_U_one_77 (by decide) (by omega) (by omega) (fun h => ?_) (fun h => ?_)
    · obtain rfl : i = mm := by omega
      exact kk vs hvs H locs ls hP hD hS hl
    · exfalso; omega
  | succ d ih =>
    intro i vs hi hvs H locs ls hP hD hS hl
    refine lv_iload C.x C.b d_U_one_73 (lv_at hl 9 rfl) ?_
    refine lv_iload C.x C.b d_U_one_75 (lv_at hl 8 rfl) ?_
    refine jc_ge (tgt := 101) C d_U_one_77 (by decide) (by omega) (by omega) (fun h => ?_) (fun h => ?_)
    · exfalso; omega
    · refine lv_aload_n C.x C.b d_U_one_80 rfl (lv_at hl 0 rfl) ?_
      refine gfN C hP 0 0 3 rfl rfl (by decide) C.ns.2.2.2.1 rfl d_U_one_81 ?_
      refine jz_ne (tgt := 101) C d_U_one_84 (by decide) (by omega) (fun h2 => ?_) (fun h2 => ?_)
      · exact absurd rfl h2
      · refine lv_aload C.x C.b d_U_one_87 (lv_at hl 6 rfl) ?_
        refine lv_iload C.x C.b d_U_one_89 (lv_at hl 9 rfl) ?_
        refine lv_lload C.x C.b d_U_one_91 (lv_at hl 7 rfl) ?_
        refine lv_l2i C.x C.b d_U_one_93 (lN_i _) ?_
        refine ist (w2 := [oB b r sz y 0, aB cB r cap t, aN cI sp 4096 (va_up vs (k + i) x)]) C hP hD hS 2 rfl (by omega) (by omega) rfl d_U_one_94 (fun H locs hP hD hS => ?_)
        refine lv_iinc (v := (nI (k + i + 1))) (lv' := [(11, .int (nI (k + i + 1))), (0, .ref b), (1, .int (nI E)), (2, .long (lN mm)), (4, .int (nI k)), (5, .int (nI n)), (6, .int (nI w)), (7, .ref sp), (8, .long (lN x)), (10, .int (nI (k + mm)))]) C.x C.b d_U_one_95 hl (k := 9) rfl (nI_inc _ 1) (by decide) rfl (fun ls hl => ?_)
        refine lv_goto (tgt := 73) C.x C.b d_U_one_98 (by decide) ?_
        exact ih (i + 1) _ (by omega) (fun j hj => by
          by_cases q : j = k + i
          · rw [q, up_same, if_pos (by omega)]
          · rw [up_other q]; exact hvs j (by omega)) H locs ls hP hD hS (lv_sub hl [1, 2, 3, 4, 5, 6, 7, 8, 9, 0] rfl)
set_option maxHeartbeats 4000000 in
set_option maxRecDepth 100000 in
/-- one: a run is read -/
theorem c_U_one (l : Launch) (D : va_G) (cI cB : ClassId) (b r sz k E cap a n w mm sp : Nat) (I : List Nat) (t : Nat → Nat) (hI : Hd t I) (hI8 : ∀ x ∈ I, x < 256) (hE : E ≤ I.length) (hIc : I.length ≤ cap) (hcap : cap ≤ 65536) (hn : n ≤ 4096) (hw : w ≤ 32) (hk : k < n) (ha : a ≤ E) (hm : mm < 2 ^ 63) (hm1 : 1 ≤ mm) (vs : Nat → Nat) : Ki l D cI cB y_U_one b_U_one 12 3 67 0 0 .int [.ref b, .int (nI E), .long (lN mm), .int (nI k), .int (nI n), .int (nI w), .ref sp] [oB b r sz a 0, aB cB r cap t, aN cI sp 4096 vs] (fun v w1 => ∃ (k2 f2 a2 : Nat) (vs2 : Nat → Nat), v = nI k2 ∧ w1 = [oB b r sz a2 f2, aB cB r cap t, aN cI sp 4096 vs2] ∧ OneQ (gt I) E n w a k mm f2 a2 k2 vs vs2) := by
  refine ent (fun A => va_Qi _ (BW D A) A) (by decide) (Nat.le_of_ble_eq_true rfl) ?_
  intro p e s m below meth c A ls C hA hP hD hS hl
  have hl : lv_has ls 12 [(0, .ref b), (1, .int (nI E)), (2, .long (lN mm)), (4, .int (nI k)), (5, .int (nI n)), (6, .int (nI w)), (7, .ref sp)] := hl
  refine lv_lload_n C.x C.b d_U_one_0 rfl (lv_at hl 2 rfl) ?_
  refine lv_lconst (v := lN 0) C.x C.b d_U_one_1 (by decide) ?_
  refine jl_lt (tgt := 17) C d_U_one_2 d_U_one_3 (by decide) (by omega) (by omega) (fun h0 => ?_) (fun h0 => ?_)
  · exfalso; omega
  · refine lv_lload_n C.x C.b d_U_one_6 rfl (lv_at hl 2 rfl) ?_
    refine lv_iload C.x C.b d_U_one_7 (lv_at hl 4 rfl) ?_
    refine lv_iload C.x C.b d_U_one_9 (lv_at hl 3 rfl) ?_
    refine lv_isub C.x C.b d_U_one_11 ?_
    refine ra_i (nI_subS (by omega)) ?_
    refine lv_i2l C.x C.b d_U_one_12 (nI_l (by omega)) ?_
    refine jl_le (tgt := 25) C d_U_one_13 d_U_one_14 (by decide) (by omega) (by omega) (fun h1 => ?_) (fun h1 => ?_)
    · refine lv_aload_n C.x C.b d_U_one_25 rfl (lv_at hl 0 rfl) ?_
      refine lv_iload C.x C.b d_U_one_26 (lv_at hl 5 rfl) ?_
      refine lv_bipush (v := nI 7) C.x C.b d_U_one_28 (by decide) ?_
      refine lv_iadd C.x C.b d_U_one_30 ?_
      refine ra_i (nI_add _ _) ?_
      refine lv_bipush (v := nI 8) C.x C.b d_U_one_31 (by decide) ?_
      refine lv_idiv C.x C.b d_U_one_33 (nI_ne0 (by omega) (by omega)) ?_
      refine ra_i (pk_div (by omega) (by omega) (by omega)) ?_
      refine lv_iload_n C.x C.b d_U_one_34 rfl (lv_at hl 1 rfl) ?_
      refine clV (wr := [aN cI sp 4096 vs]) C hA hP hD hS hl.1 (c_B_takeFixed l D cI cB b r sz a E cap ((w + 7) / 8) I t hI hI8 hE hIc hcap (by omega) ha) ok_U_68 [] [0, 1] [2] 0 0 rfl rfl rfl rfl (by decide) rfl (by decide) (by decide) rfl rfl (Nat.le_of_ble_eq_true rfl) (⟨Nat.le_refl 3, Nat.le_refl 67⟩) (⟨Nat.le_refl 0, Nat.le_refl 0⟩) d_U_one_35 ?_
      intro rv w1 H locs hw9 hP hD hS
      rcases hw9 with ⟨h9, rfl, rfl⟩ | ⟨h9, a9, ha9, rfl⟩
      · have hP : va_P D classes [aN cI sp 4096 vs, oB b r sz (a + (w + 7) / 8) 0, aB cB r cap t] H := hP
        have hD : va_D A [aN cI sp 4096 vs, oB b r sz (a + (w + 7) / 8) 0, aB cB r cap t] := hD
        have hP : va_P D classes [oB b r sz (a + (w + 7) / 8) 0, aB cB r cap t, aN cI sp 4096 vs] H := hP.sub [1, 2, 0] rfl
        have hD : va_D A [oB b r sz (a + (w + 7) / 8) 0, aB cB r cap t, aN cI sp 4096 vs] := hD.sub [1, 2, 0] (by decide) rfl
        have hxl := bs_lt (ib (gt I)) (8 * a) (8 * ((w + 7) / 8))
        have hp2 : (2 : Nat) ^ (8 * ((w + 7) / 8)) ≤ 2 ^ 32 := Nat.pow_le_pow_right (by decide) (by omega)
        have hxd := Nat.div_le_self (bs (ib (gt I)) (8 * a) (8 * ((w + 7) / 8))) (2 ^ w)
        refine lv_lstore (lv' := [(8, .long (lN (bs (ib (gt I)) (8 * a) (8 * ((w + 7) / 8))))), (0, .ref b), (1, .int (nI E)), (2, .long (lN mm)), (4, .int (nI k)), (5, .int (nI n)), (6, .int (nI w)), (7, .ref sp)]) C.x C.b d_U_one_38 hl (by decide) rfl (fun ls hl => ?_)
        refine lv_aload_n C.x C.b d_U_one_40 rfl (lv_at hl 1 rfl) ?_
        refine gfN C hP 0 0 3 rfl rfl (by decide) C.ns.2.2.2.1 rfl d_U_one_41 ?_
        refine jz_ne (tgt := 62) C d_U_one_44 (by decide) (by omega) (fun h2 => ?_) (fun h2 => ?_)
        · exact absurd rfl h2
        · refine lv_lload C.x C.b d_U_one_47 (lv_at hl 0 rfl) ?_
          refine lv_iload C.x C.b d_U_one_49 (lv_at hl 6 rfl) ?_
          refine lv_lushr C.x C.b d_U_one_51 (wb_shr (by omega) (by omega)) ?_
          refine lv_lconst (v := lN 0) C.x C.b d_U_one_52 (by decide) ?_
          refine jl_eq (tgt := 62) C d_U_one_53 d_U_one_54 (by decide) (by omega) (by omega) (fun h3 => ?_) (fun h3 => ?_)
          · refine lv_iload C.x C.b d_U_one_62 (lv_at hl 4 rfl) ?_
            refine lv_lload_n C.x C.b d_U_one_64 rfl (lv_at hl 3 rfl) ?_
            refine lv_l2i C.x C.b d_U_one_65 (lN_i _) ?_
            refine lv_iadd C.x C.b d_U_one_66 ?_
            refine ra_i (nI_add _ _) ?_
            refine lv_istore (lv' := [(10, .int (nI (k + mm))), (8, .long (lN (bs (ib (gt I)) (8 * a) (8 * ((w + 7) / 8))))), (0, .ref b), (1, .int (nI E)), (2, .long (lN mm)), (4, .int (nI k)), (5, .int (nI n)), (6, .int (nI w)), (7, .ref sp)]) C.x C.b d_U_one_67 hl (by decide) rfl (fun ls hl => ?_)
            refine lv_iload C.x C.b d_U_one_69 (lv_at hl 5 rfl) ?_
            refine lv_istore (lv' := [(11, .int (nI k)), (10, .int (nI (k + mm))), (8, .long (lN (bs (ib (gt I)) (8 * a) (8 * ((w + 7) / 8))))), (0, .ref b), (1, .int (nI E)), (2, .long (lN mm)), (4, .int (nI k)), (5, .int (nI n)), (6, .int (nI w)), (7, .ref sp)]) C.x C.b d_U_one_71 hl (by decide) rfl (fun ls hl => ?_)
            refine lp_U_one C hA b r sz k E cap (a + (w + 7) / 8) n w mm sp (bs (ib (gt I)) (8 * a) (8 * ((w + 7) / 8))) t vs (by omega) (by omega) (fun vs2 hvs2 H locs ls hP hD hS hl => ?_) mm 0 vs (by omega) (fun j hj => by rw [if_neg (by omega)]) H locs ls hP hD hS (lv_sub hl [3, 4, 5, 6, 7, 8, 9, 2, 1, 0] rfl)
            refine lv_iload C.x C.b d_U_one_101 (lv_at hl 8 rfl) ?_
            exact reti C hP hD hS d_U_one_103 (rfl) (by omega) (by omega) (⟨_, _, _, vs2, rfl, rfl, by omega, by omega, Or.inr (Or.inr (Or.inr ⟨rfl, h1, h9, h3, rfl, rfl, hvs2⟩))⟩)
          · refine lv_aload_n C.x C.b d_U_one_57 rfl (lv_at hl 1 rfl) ?_
            refine lv_iconst (v := nI 5) C.x C.b d_U_one_58 (by decide) ?_
            refine cvV (wr := [aB cB r cap t, aN cI sp 4096 vs]) C hA hP hD hS hl.1 (c_B_fail l D cI cB b r sz (a + (w + 7) / 8) 0 5 (by decide)) ok_U_55 [] [0] [1, 2] 0 0 rfl rfl rfl rfl (by decide) rfl (by decide) (by decide) rfl rfl (Nat.le_of_ble_eq_true rfl) (⟨by (try dsimp only [rmO]); omega, by (try dsimp only [rmO]); omega⟩) (⟨by (try dsimp only [rmO]); omega, by (try dsimp only [rmO]); omega⟩) d_U_one_59 ?_
            intro w1 H locs hw hP hD hS
            obtain rfl := hw
            have hP : va_P D classes [aB cB r cap t, aN cI sp 4096 vs, oB b r sz (a + (w + 7) / 8) 5] H := hP
            have hD : va_D A [aB cB r cap t, aN cI sp 4096 vs, oB b r sz (a + (w + 7) / 8) 5] := hD
            have hP : va_P D classes [oB b r sz (a + (w + 7) / 8) 5, aB cB r cap t, aN cI sp 4096 vs] H := hP.sub [2, 0, 1] rfl
            have hD : va_D A [oB b r sz (a + (w + 7) / 8) 5, aB cB r cap t, aN cI sp 4096 vs] := hD.sub [2, 0, 1] (by decide) rfl
            refine lv_iload C.x C.b d_U_one_62 (lv_at hl 4 rfl) ?_
            refine lv_lload_n C.x C.b d_U_one_64 rfl (lv_at hl 3 rfl) ?_
            refine lv_l2i C.x C.b d_U_one_65 (lN_i _) ?_
            refine lv_iadd C.x C.b d_U_one_66 ?_
            refine ra_i (nI_add _ _) ?_
            refine lv_istore (lv' := [(10, .int (nI (k + mm))), (8, .long (lN (bs (ib (gt I)) (8 * a) (8 * ((w + 7) / 8))))), (0, .ref b), (1, .int (nI E)), (2, .long (lN mm)), (4, .int (nI k)), (5, .int (nI n)), (6, .int (nI w)), (7, .ref sp)]) C.x C.b d_U_one_67 hl (by decide) rfl (fun ls hl => ?_)
            refine lv_iload C.x C.b d_U_one_69 (lv_at hl 5 rfl) ?_
            refine lv_istore (lv' := [(11, .int (nI k)), (10, .int (nI (k + mm))), (8, .long (lN (bs (ib (gt I)) (8 * a) (8 * ((w + 7) / 8))))), (0, .ref b), (1, .int (nI E)), (2, .long (lN mm)), (4, .int (nI k)), (5, .int (nI n)), (6, .int (nI w)), (7, .ref sp)]) C.x C.b d_U_one_71 hl (by decide) rfl (fun ls hl => ?_)
            refine lv_iload C.x C.b d_U_one_73 (lv_at hl 0 rfl) ?_
            refine lv_iload C.x C.b d_U_one_75 (lv_at hl 1 rfl) ?_
            refine jc_ge (tgt := 101) C d_U_one_77 (by decide) (by omega) (by omega) (fun h4 => ?_) (fun h4 => ?_)
            · exfalso; omega
            · refine lv_aload_n C.x C.b d_U_one_80 rfl (lv_at hl 3 rfl) ?_
              refine gfN C hP 0 0 3 rfl rfl (by decide) C.ns.2.2.2.1 rfl d_U_one_81 ?_
              refine jz_ne (tgt := 101) C d_U_one_84 (by decide) (by omega) (fun h5 => ?_) (fun h5 => ?_)
              · refine lv_iload C.x C.b d_U_one_101 (lv_at hl 1 rfl) ?_
                exact reti C hP hD hS d_U_one_103 (rfl) (by omega) (by omega) (⟨_, _, _, vs, rfl, rfl, by omega, by omega, Or.inr (Or.inr (Or.inl ⟨rfl, h1, h9, h3⟩))⟩)
              · exact absurd h5 (by decide)
      · have hP : va_P D classes [aN cI sp 4096 vs, oB b r sz a9 1, aB cB r cap t] H := hP
        have hD : va_D A [aN cI sp 4096 vs, oB b r sz a9 1, aB cB r cap t] := hD
        have hP : va_P D classes [oB b r sz a9 1, aB cB r cap t, aN cI sp 4096 vs] H := hP.sub [1, 2, 0] rfl
        have hD : va_D A [oB b r sz a9 1, aB cB r cap t, aN cI sp 4096 vs] := hD.sub [1, 2, 0] (by decide) rfl
        refine lv_lstore (lv' := [(8, .long rv), (0, .ref b), (1, .int (nI E)), (2, .long (lN mm)), (4, .int (nI k)), (5, .int (nI n)), (6, .int (nI w)), (7, .ref sp)]) C.x C.b d_U_one_38 hl (by decide) rfl (fun ls hl => ?_)
        refine lv_aload_n C.x C.b d_U_one_40 rfl (lv_at hl 1 rfl) ?_
        refine gfN C hP 0 0 3 rfl rfl (by decide) C.ns.2.2.2.1 rfl d_U_one_41 ?_
        refine jz_ne (tgt := 62) C d_U_one_44 (by decide) (by omega) (fun h2 => ?_) (fun h2 => ?_)
        · refine lv_iload C.x C.b d_U_one_62 (lv_at hl 4 rfl) ?_
          refine lv_lload_n C.x C.b d_U_one_64 rfl (lv_at hl 3 rfl) ?_
          refine lv_l2i C.x C.b d_U_one_65 (lN_i _) ?_
          refine lv_iadd C.x C.b d_U_one_66 ?_
          refine ra_i (nI_add _ _) ?_
          refine lv_istore (lv' := [(10, .int (nI (k + mm))), (8, .long rv), (0, .ref b), (1, .int (nI E)), (2, .long (lN mm)), (4, .int (nI k)), (5, .int (nI n)), (6, .int (nI w)), (7, .ref sp)]) C.x C.b d_U_one_67 hl (by decide) rfl (fun ls hl => ?_)
          refine lv_iload C.x C.b d_U_one_69 (lv_at hl 5 rfl) ?_
          refine lv_istore (lv' := [(11, .int (nI k)), (10, .int (nI (k + mm))), (8, .long rv), (0, .ref b), (1, .int (nI E)), (2, .long (lN mm)), (4, .int (nI k)), (5, .int (nI n)), (6, .int (nI w)), (7, .ref sp)]) C.x C.b d_U_one_71 hl (by decide) rfl (fun ls hl => ?_)
          refine lv_iload C.x C.b d_U_one_73 (lv_at hl 0 rfl) ?_
          refine lv_iload C.x C.b d_U_one_75 (lv_at hl 1 rfl) ?_
          refine jc_ge (tgt := 101) C d_U_one_77 (by decide) (by omega) (by omega) (fun h4 => ?_) (fun h4 => ?_)
          · exfalso; omega
          · refine lv_aload_n C.x C.b d_U_one_80 rfl (lv_at hl 3 rfl) ?_
            refine gfN C hP 0 0 3 rfl rfl (by decide) C.ns.2.2.2.1 rfl d_U_one_81 ?_
            refine jz_ne (tgt := 101) C d_U_one_84 (by decide) (by omega) (fun h5 => ?_) (fun h5 => ?_)
            · refine lv_iload C.x C.b d_U_one_101 (lv_at hl 1 rfl) ?_
              exact reti C hP hD hS d_U_one_103 (rfl) (by omega) (by omega) (⟨_, _, _, vs, rfl, rfl, by omega, ha9, Or.inr (Or.inl ⟨rfl, h1, h9⟩)⟩)
            · exact absurd h5 (by decide)
        · exact absurd h2 (by decide)
    · refine lv_aload_n C.x C.b d_U_one_17 rfl (lv_at hl 0 rfl) ?_
      refine lv_iconst (v := nI 4) C.x C.b d_U_one_18 (by decide) ?_
      refine cvV (wr := [aB cB r cap t, aN cI sp 4096 vs]) C hA hP hD hS hl.1 (c_B_fail l D cI cB b r sz a 0 4 (by decide)) ok_U_55 [] [0] [1, 2] 0 0 rfl rfl rfl rfl (by decide) rfl (by decide) (by decide) rfl rfl (Nat.le_of_ble_eq_true rfl) (⟨by (try dsimp only [rmO]); omega, by (try dsimp only [rmO]); omega⟩) (⟨by (try dsimp only [rmO]); omega, by (try dsimp only [rmO]); omega⟩) d_U_one_19 ?_
      intro w1 H locs hw hP hD hS
      obtain rfl := hw
      have hP : va_P D classes [aB cB r cap t, aN cI sp 4096 vs, oB b r sz a 4] H := hP
      have hD : va_D A [aB cB r cap t, aN cI sp 4096 vs, oB b r sz a 4] := hD
      have hP : va_P D classes [oB b r sz a 4, aB cB r cap t, aN cI sp 4096 vs] H := hP.sub [2, 0, 1] rfl
      have hD : va_D A [oB b r sz a 4, aB cB r cap t, aN cI sp 4096 vs] := hD.sub [2, 0, 1] (by decide) rfl
      refine lv_iload C.x C.b d_U_one_22 (lv_at hl 3 rfl) ?_
      exact reti C hP hD hS d_U_one_24 (rfl) (by omega) (by omega) (⟨_, _, _, vs, rfl, rfl, by omega, by omega, Or.inl ⟨rfl, h1⟩⟩)
end
section
/-! contracts of Runs: groups (printed by gen/runs5.py) -/
set_option maxHeartbeats 4000000 in
set_option maxRecDepth 100000 in
/-- groups: bytes come until a number is whole -/
theorem lp_U_groups1 {p : Program} {l : Launch} {e : Env} {R : Room} {s : State} {m : MethodId} {args : Array Value} {below : List Frame} {meth : Method} {c : Code} {D : va_G} {cI cB : ClassId} {A : Nat → Prop} {Q : State → Prop} {cells slots : Nat} (C : Cx p s m args meth c D cI cB b_U_groups 15 R_U (some .int) "groups") (hA : ∀ q : Nat, s.heap.size ≤ q → A q) (b r sz k E cap a n w mm sp : Nat) (I : List Nat) (t : Nat → Nat) (hI : Hd t I) (hI8 : ∀ x ∈ I, x < 256) (hE : E ≤ I.length) (hIc : I.length ≤ cap) (hcap : cap ≤ 65536) (hn : n ≤ 4096) (hw : w ≤ 32) (hk : k < n) (ha : a ≤ E) (hm : mm ≤ (n - k + 7) / 8) (hmE : a + mm * w ≤ E) (fl i : Nat) (vs : Nat → Nat) (hfl : fl ≤ 5) (hi : i < 8 * mm) (hR1 : 2 ≤ R.frames) (hR2 : 42 ≤ R.locals) (hRc : cells ≤ R.cells) (hRs : slots ≤ R.slots) (kk : ∀ (y h : Nat), 8 * y = 8 * a + w * i + h → w ≤ h → h < w + 8 → ∀ (H : Heap) (locs : List Loc) (ls : Array Slot), va_P D classes [oB b r sz y fl, aB cB r cap t, aN cI sp 4096 vs] H → va_D A [oB b r sz y fl, aB cB r cap t, aN cI sp 4096 vs] → va_S A s.heap H locs → lv_has ls 15 [(0, .ref b), (1, .int (nI E)), (2, .long (lN mm)), (4, .int (nI k)), (5, .int (nI n)), (6, .int (nI w)), (7, .ref sp), (8, .int (nI (k + 8 * mm))), (9, .long (lN (bs (ib (gt I)) (8 * a + w * i) h))), (11, .int (nI h)), (12, .int (nI (k + i)))] → W p l e R s m args below meth c H locs cells slots Q (F0 m 111 ls [])) : ∀ (q y h : Nat), w ≤ h + 8 * q → 8 * y = 8 * a + w * i + h → h < w + 8 → ∀ (H : Heap) (locs : List Loc) (ls : Array Slot), va_P D classes [oB b r sz y fl, aB cB r cap t, aN cI sp 4096 vs] H → va_D A [oB b r sz y fl, aB cB r cap t, aN cI sp 4096 vs] → va_S A s.heap H locs → lv_has ls 15 [(0, .ref b), (1, .int (nI E)), (2, .long (lN mm)), (4, .int (nI k)), (5, .int (nI n)), (6, .int (nI w)), (7, .ref sp), (8, .int (nI (k + 8 * mm))), (9, .long (lN (bs (ib (gt I)) (8 * a + w * i) h))), (11, .int (nI h)), (12, .int (nI (k + i)))] → W p l e R s m args below meth c H locs cells slots (Q) (F0 m 84 ls []) := by
  have hwi : w * i + w ≤ 8 * (mm * w) := by
    have q := Nat.mul_le_mul_left w (show i + 1 ≤ 8 * mm by omega)
    rw [Nat.mul_add, Nat.mul_one, Nat.mul_left_comm w 8 mm, Nat.mul_comm w mm] at q
    exact q
  intro q
  induction q with
  | zero =>
    intro y h hq hy hh H locs ls hP hD hS hl
    refine lv_iload C.x C.b d_U_groups_84 (lv_at hl 9 rfl) ?_
    refine lv_iload C.x C.b d_U_groups_86 (lv_at hl 5 rfl) ?_
    refine jc_ge (tgt := 111) C d_U_groups_88 (by decide) (by omega) (by omega) (fun hb => ?_) (fun hb => ?_)
    · exact kk y h hy (by omega) (by omega) H locs ls hP hD hS hl
    · exfalso; omega
  | succ q ih =>
    intro y h hq hy hh H locs ls hP hD hS hl
    refine lv_iload C.x C.b d_U_groups_84 (lv_at hl 9 rfl) ?_
    refine lv_iload C.x C.b d_U_groups_86 (lv_at hl 5 rfl) ?_
    refine jc_ge (tgt := 111) C d_U_groups_88 (by decide) (by omega) (by omega) (fun hb => ?_) (fun hb => ?_)
    · exact kk y h hy (by omega) (by omega) H locs ls hP hD hS hl
    · refine lv_lload C.x C.b d_U_groups_91 (lv_at hl 8 rfl) ?_
      refine lv_aload_n C.x C.b d_U_groups_93 rfl (lv_at hl 0 rfl) ?_
      refine lv_iload_n C.x C.b d_U_groups_94 rfl (lv_at hl 1 rfl) ?_
      refine ciV (wr := [aN cI sp 4096 vs]) C hA hP hD hS hl.1 (c_B_take l D cI cB b r sz y fl E cap I t hI hI8 hE hIc hcap (by omega) (by omega)) ok_U_72 [.long (lN (bs (ib (gt I)) (8 * a + w * i) h))] [0, 1] [2] 0 0 rfl rfl rfl rfl (by decide) rfl (by decide) (by decide) rfl rfl (Nat.le_of_ble_eq_true rfl) (⟨by omega, by omega⟩) (⟨by omega, by omega⟩) d_U_groups_95 ?_
      intro rv w1 H locs hw9 hP hD hS
      rcases hw9 with ⟨h9, rfl, rfl⟩ | ⟨h9, rfl, rfl⟩
      · skip
        have hP : va_P D classes [aN cI sp 4096 vs, oB b r sz (y + 1) fl, aB cB r cap t] H := hP
        have hD : va_D A [aN cI sp 4096 vs, oB b r sz (y + 1) fl, aB cB r cap t] := hD
        have hP : va_P D classes [oB b r sz (y + 1) fl, aB cB r cap t, aN cI sp 4096 vs] H := hP.sub [1, 2, 0] rfl
        have hD : va_D A [oB b r sz (y + 1) fl, aB cB r cap t, aN cI sp 4096 vs] := hD.sub [1, 2, 0] (by decide) rfl
        have hg := gt_lt (by decide) hI8 y
        have hb1 := bs_lt (ib (gt I)) (8 * a + w * i) h
        have es : bs (ib (gt I)) (8 * a + w * i) (h + 8) = bs (ib (gt I)) (8 * a + w * i) h + gt I y * 2 ^ h := by rw [bs_app, ← hy, ib_byte hg]
        have hb2 := bs_lt (ib (gt I)) (8 * a + w * i) (h + 8)
        have hp2 : (2 : Nat) ^ (h + 8) ≤ 2 ^ 40 := Nat.pow_le_pow_right (by decide) (by omega)
        refine lv_i2l C.x C.b d_U_groups_98 (nI_l (by omega)) ?_
        refine lv_iload C.x C.b d_U_groups_99 (lv_at hl 9 rfl) ?_
        refine lv_lshl C.x C.b d_U_groups_101 (wb_shl _ (by omega)) ?_
        refine lv_lor C.x C.b d_U_groups_102 ?_
        refine ra_l (y := lN (bs (ib (gt I)) (8 * a + w * i) (h + 8))) (by rw [es]; exact lN_orS hb1 (by rw [← es]; omega)) ?_
        refine lv_lstore (lv' := [(9, .long (lN (bs (ib (gt I)) (8 * a + w * i) (h + 8)))), (0, .ref b), (1, .int (nI E)), (2, .long (lN mm)), (4, .int (nI k)), (5, .int (nI n)), (6, .int (nI w)), (7, .ref sp), (8, .int (nI (k + 8 * mm))), (11, .int (nI h)), (12, .int (nI (k + i)))]) C.x C.b d_U_groups_103 hl (by decide) rfl (fun ls hl => ?_)
        refine lv_iinc (v := (nI (h + 8))) (lv' := [(11, .int (nI (h + 8))), (9, .long (lN (bs (ib (gt I)) (8 * a + w * i) (h + 8)))), (0, .ref b), (1, .int (nI E)), (2, .long (lN mm)), (4, .int (nI k)), (5, .int (nI n)), (6, .int (nI w)), (7, .ref sp), (8, .int (nI (k + 8 * mm))), (12, .int (nI (k + i)))]) C.x C.b d_U_groups_105 hl (k := 9) rfl (nI_inc _ 8) (by decide) rfl (fun ls hl => ?_)
        refine lv_goto (tgt := 84) C.x C.b d_U_groups_108 (by decide) ?_
        exact ih (y + 1) (h + 8) (by omega) (by omega) (by omega) H locs ls hP hD hS (lv_sub hl [2, 3, 4, 5, 6, 7, 8, 9, 1, 0, 10] rfl)
      · exfalso; omega
set_option maxHeartbeats 4000000 in
set_option maxRecDepth 100000 in
/-- groups: the loop -/
theorem lp_U_groups {p : Program} {l : Launch} {e : Env} {R : Room} {s : State} {m : MethodId} {args : Array Value} {below : List Frame} {meth : Method} {c : Code} {D : va_G} {cI cB : ClassId} {A : Nat → Prop} {Q : State → Prop} {cells slots : Nat} (C : Cx p s m args meth c D cI cB b_U_groups 15 R_U (some .int) "groups") (hA : ∀ q : Nat, s.heap.size ≤ q → A q) (b r sz k E cap a n w mm sp : Nat) (I : List Nat) (t : Nat → Nat) (hI : Hd t I) (hI8 : ∀ x ∈ I, x < 256) (hE : E ≤ I.length) (hIc : I.length ≤ cap) (hcap : cap ≤ 65536) (hn : n ≤ 4096) (hw : w ≤ 32) (hk : k < n) (ha : a ≤ E) (hm : mm ≤ (n - k + 7) / 8) (hmE : a + mm * w ≤ E) (v0 : Nat → Nat) (hR1 : 2 ≤ R.frames) (hR2 : 42 ≤ R.locals) (hRc : cells ≤ R.cells) (hRs : slots ≤ R.slots) (kk : ∀ (vs : Nat → Nat), (∀ j, j < min (k + 8 * mm) n → vs j = if k ≤ j then bs (ib (gt I)) (8 * a + w * (j - k)) w else v0 j) → ∀ (H : Heap) (locs : List Loc) (ls : Array Slot), va_P D classes [oB b r sz (a + mm * w) (if bad (gt I) (8 * a) w k n (8 * mm) = true then 5 else 0), aB cB r cap t, aN cI sp 4096 vs] H → va_D A [oB b r sz (a + mm * w) (if bad (gt I) (8 * a) w k n (8 * mm) = true then 5 else 0), aB cB r cap t, aN cI sp 4096 vs] → va_S A s.heap H locs → lv_has ls 15 [(0, .ref b), (1, .int (nI E)), (2, .long (lN mm)), (4, .int (nI k)), (5, .int (nI n)), (6, .int (nI w)), (7, .ref sp), (8, .int (nI (k + 8 * mm))), (9, .long (lN (bs (ib (gt I)) (8 * a + w * (8 * mm)) 0))), (11, .int (nI 0)), (12, .int (nI (k + 8 * mm)))] → W p l e R s m args below meth c H locs cells slots Q (F0 m 172 ls [])) : ∀ (d i y h fl : Nat) (vs : Nat → Nat), i + d = 8 * mm → h < 8 → 8 * y = 8 * a + w * i + h → fl = (if bad (gt I) (8 * a) w k n i = true then 5 else 0) → (∀ j, j < min (k + i) n → vs j = if k ≤ j then bs (ib (gt I)) (8 * a + w * (j - k)) w else v0 j) → ∀ (H : Heap) (locs : List Loc) (ls : Array Slot), va_P D classes [oB b r sz y fl, aB cB r cap t, aN cI sp 4096 vs] H → va_D A [oB b r sz y fl, aB cB r cap t, aN cI sp 4096 vs] → va_S A s.heap H locs → lv_has ls 15 [(0, .ref b), (1, .int (nI E)), (2, .long (lN mm)), (4, .int (nI k)), (5, .int (nI n)), (6, .int (nI w)), (7, .ref sp), (8, .int (nI (k + 8 * mm))), (9, .long (lN (bs (ib (gt I)) (8 * a + w * i) h))), (11, .int (nI h)), (12, .int (nI (k + i)))] → W p l e R s m args below meth c H locs cells slots (Q) (F0 m 77 ls []) := by
  intro d
  induction d with
  | zero =>
    intro i y h fl vs hi hh hy hfl hvs H locs ls hP hD hS hl
    have hwg : w * (8 * mm) = 8 * (mm * w) := by rw [Nat.mul_left_comm, Nat.mul_comm w mm]
    refine lv_iload C.x C.b d_U_groups_77 (lv_at hl 10 rfl) ?_
    refine lv_iload C.x C.b d_U_groups_79 (lv_at hl 7 rfl) ?_
    refine jc_ge (tgt := 172) C d_U_groups_81 (by decide) (by omega) (by omega) (fun hb => ?_) (fun hb => ?_)
    · obtain rfl : i = 8 * mm := by omega
      obtain rfl : h = 0 := by omega
      obtain rfl : y = a + mm * w := by omega
      subst hfl
      exact kk vs hvs H locs ls hP hD hS hl
    · exfalso; omega
  | succ d ih =>
    intro i y h fl vs hi hh hy hfl hvs H locs ls hP hD hS hl
    have hfl5 : fl ≤ 5 := by rw [hfl]; split <;> omega
    refine lv_iload C.x C.b d_U_groups_77 (lv_at hl 10 rfl) ?_
    refine lv_iload C.x C.b d_U_groups_79 (lv_at hl 7 rfl) ?_
    refine jc_ge (tgt := 172) C d_U_groups_81 (by decide) (by omega) (by omega) (fun hb => ?_) (fun hb => ?_)
    · exfalso; omega
    · refine lp_U_groups1 C hA b r sz k E cap a n w mm sp I t hI hI8 hE hIc hcap hn hw hk ha hm hmE fl i vs hfl5 (by omega) hR1 hR2 hRc hRs (fun y h hy hwh hh H locs ls hP hD hS hl => ?_) 4 y h (by omega) hy (by omega) H locs ls hP hD hS (lv_sub hl [0, 1, 2, 3, 4, 5, 6, 7, 8, 9, 10] rfl)
      have hb1 := bs_lt (ib (gt I)) (8 * a + w * i) h
      have hp2 : (2 : Nat) ^ h ≤ 2 ^ 40 := Nat.pow_le_pow_right (by decide) (by omega)
      have hpw : (2 : Nat) ^ w ≤ 2 ^ 32 := Nat.pow_le_pow_right (by decide) hw
      have hpw1 := Nat.two_pow_pos w
      have hb3 := bs_lt (ib (gt I)) (8 * a + w * i) w
      refine lv_lload C.x C.b d_U_groups_111 (lv_at hl 8 rfl) ?_
      refine lv_lconst (v := lN 1) C.x C.b d_U_groups_113 (by decide) ?_
      refine lv_iload C.x C.b d_U_groups_114 (lv_at hl 5 rfl) ?_
      refine lv_lshl C.x C.b d_U_groups_116 (wb_shl _ (by omega)) ?_
      refine ra_l (y := lN (2 ^ w)) (by rw [Nat.one_mul]) ?_
      refine lv_lconst (v := lN 1) C.x C.b d_U_groups_117 (by decide) ?_
      refine lv_lsub C.x C.b d_U_groups_118 ?_
      refine ra_l (lN_sub (by omega)) ?_
      refine lv_land C.x C.b d_U_groups_119 ?_
      refine ra_l (y := lN (bs (ib (gt I)) (8 * a + w * i) w)) (by rw [wb_mask (by omega) (by omega), bs_mod _ _ hwh]) ?_
      refine lv_lstore (lv' := [(13, .long (lN (bs (ib (gt I)) (8 * a + w * i) w))), (0, .ref b), (1, .int (nI E)), (2, .long (lN mm)), (4, .int (nI k)), (5, .int (nI n)), (6, .int (nI w)), (7, .ref sp), (8, .int (nI (k + 8 * mm))), (9, .long (lN (bs (ib (gt I)) (8 * a + w * i) h))), (11, .int (nI h)), (12, .int (nI (k + i)))]) C.x C.b d_U_groups_120 hl (by decide) rfl (fun ls hl => ?_)
      refine lv_lload C.x C.b d_U_groups_122 (lv_at hl 9 rfl) ?_
      refine lv_iload C.x C.b d_U_groups_124 (lv_at hl 6 rfl) ?_
      refine lv_lushr C.x C.b d_U_groups_126 (wb_shr (by omega) (by omega)) ?_
      refine ra_l (y := lN (bs (ib (gt I)) (8 * a + w * (i + 1)) (h - w))) (by rw [bs_div _ _ hwh, Nat.mul_add w i 1, Nat.mul_one, Nat.add_assoc]) ?_
      refine lv_lstore (lv' := [(9, .long (lN (bs (ib (gt I)) (8 * a + w * (i + 1)) (h - w)))), (13, .long (lN (bs (ib (gt I)) (8 * a + w * i) w))), (0, .ref b), (1, .int (nI E)), (2, .long (lN mm)), (4, .int (nI k)), (5, .int (nI n)), (6, .int (nI w)), (7, .ref sp), (8, .int (nI (k + 8 * mm))), (11, .int (nI h)), (12, .int (nI (k + i)))]) C.x C.b d_U_groups_127 hl (by decide) rfl (fun ls hl => ?_)
      refine lv_iload C.x C.b d_U_groups_129 (lv_at hl 10 rfl) ?_
      refine lv_iload C.x C.b d_U_groups_131 (lv_at hl 7 rfl) ?_
      refine lv_isub C.x C.b d_U_groups_133 ?_
      refine ra_i (nI_subS (by omega)) ?_
      refine lv_istore (lv' := [(11, .int (nI (h - w))), (9, .long (lN (bs (ib (gt I)) (8 * a + w * (i + 1)) (h - w)))), (13, .long (lN (bs (ib (gt I)) (8 * a + w * i) w))), (0, .ref b), (1, .int (nI E)), (2, .long (lN mm)), (4, .int (nI k)), (5, .int (nI n)), (6, .int (nI w)), (7, .ref sp), (8, .int (nI (k + 8 * mm))), (12, .int (nI (k + i)))]) C.x C.b d_U_groups_134 hl (by decide) rfl (fun ls hl => ?_)
      refine lv_iload C.x C.b d_U_groups_136 (lv_at hl 11 rfl) ?_
      refine lv_iload C.x C.b d_U_groups_138 (lv_at hl 7 rfl) ?_
      refine jc_ge (tgt := 154) C d_U_groups_140 (by decide) (by omega) (by omega) (fun hn9 => ?_) (fun hn9 => ?_)
      · refine lv_lload C.x C.b d_U_groups_154 (lv_at hl 2 rfl) ?_
        refine lv_lconst (v := lN 0) C.x C.b d_U_groups_156 (by decide) ?_
        refine jl_eq (tgt := 166) C d_U_groups_157 d_U_groups_158 (by decide) (by omega) (by omega) (fun hx0 => ?_) (fun hx0 => ?_)
        · refine lv_iinc (v := (nI (k + i + 1))) (lv' := [(12, .int (nI (k + i + 1))), (11, .int (nI (h - w))), (9, .long (lN (bs (ib (gt I)) (8 * a + w * (i + 1)) (h - w)))), (13, .long (lN (bs (ib (gt I)) (8 * a + w * i) w))), (0, .ref b), (1, .int (nI E)), (2, .long (lN mm)), (4, .int (nI k)), (5, .int (nI n)), (6, .int (nI w)), (7, .ref sp), (8, .int (nI (k + 8 * mm)))]) C.x C.b d_U_groups_166 hl (k := 11) rfl (nI_inc _ 1) (by decide) rfl (fun ls hl => ?_)
          refine lv_goto (tgt := 77) C.x C.b d_U_groups_169 (by decide) ?_
          exact ih (i + 1) y (h - w) fl _ (by omega) (by omega) (by rw [Nat.mul_add, Nat.mul_one]; omega) (by rw [hfl, bad]; simp [hx0]) (fun j hj => hvs j (by omega)) H locs ls hP hD hS (lv_sub hl [4, 5, 6, 7, 8, 9, 10, 11, 2, 1, 0] rfl)
        · refine lv_aload_n C.x C.b d_U_groups_161 rfl (lv_at hl 3 rfl) ?_
          refine lv_iconst (v := nI 5) C.x C.b d_U_groups_162 (by decide) ?_
          refine cvV (wr := [aB cB r cap t, aN cI sp 4096 vs]) C hA hP hD hS hl.1 (c_B_fail l D cI cB b r sz y fl 5 (by omega)) ok_U_55 [] [0] [1, 2] 0 0 rfl rfl rfl rfl (by decide) rfl (by decide) (by decide) rfl rfl (Nat.le_of_ble_eq_true rfl) (⟨by (try dsimp only [rmO]); omega, by (try dsimp only [rmO]); omega⟩) (⟨by (try dsimp only [rmO]); omega, by (try dsimp only [rmO]); omega⟩) d_U_groups_163 ?_
          intro w1 H locs hw hP hD hS
          obtain rfl := hw
          have hP : va_P D classes [aB cB r cap t, aN cI sp 4096 vs, oB b r sz y (if fl = 0 then 5 else fl)] H := hP
          have hD : va_D A [aB cB r cap t, aN cI sp 4096 vs, oB b r sz y (if fl = 0 then 5 else fl)] := hD
          have hP : va_P D classes [oB b r sz y (if fl = 0 then 5 else fl), aB cB r cap t, aN cI sp 4096 vs] H := hP.sub [2, 0, 1] rfl
          have hD : va_D A [oB b r sz y (if fl = 0 then 5 else fl), aB cB r cap t, aN cI sp 4096 vs] := hD.sub [2, 0, 1] (by decide) rfl
          refine lv_iinc (v := (nI (k + i + 1))) (lv' := [(12, .int (nI (k + i + 1))), (11, .int (nI (h - w))), (9, .long (lN (bs (ib (gt I)) (8 * a + w * (i + 1)) (h - w)))), (13, .long (lN (bs (ib (gt I)) (8 * a + w * i) w))), (0, .ref b), (1, .int (nI E)), (2, .long (lN mm)), (4, .int (nI k)), (5, .int (nI n)), (6, .int (nI w)), (7, .ref sp), (8, .int (nI (k + 8 * mm)))]) C.x C.b d_U_groups_166 hl (k := 11) rfl (nI_inc _ 1) (by decide) rfl (fun ls hl => ?_)
          refine lv_goto (tgt := 77) C.x C.b d_U_groups_169 (by decide) ?_
          exact ih (i + 1) y (h - w) _ _ (by omega) (by omega) (by rw [Nat.mul_add, Nat.mul_one]; omega) (by rw [hfl, bad]; simp [hx0, hn9]) (fun j hj => hvs j (by omega)) H locs ls hP hD hS (lv_sub hl [4, 5, 6, 7, 8, 9, 10, 11, 2, 1, 0] rfl)
      · refine lv_aload C.x C.b d_U_groups_143 (lv_at hl 9 rfl) ?_
        refine lv_iload C.x C.b d_U_groups_145 (lv_at hl 11 rfl) ?_
        refine lv_lload C.x C.b d_U_groups_147 (lv_at hl 2 rfl) ?_
        refine lv_l2i C.x C.b d_U_groups_149 (lN_i _) ?_
        refine ist (w2 := [oB b r sz y fl, aB cB r cap t, aN cI sp 4096 (va_up vs (k + i) (bs (ib (gt I)) (8 * a + w * i) w))]) C hP hD hS 2 rfl (by omega) (by omega) rfl d_U_groups_150 (fun H locs hP hD hS => ?_)
        refine lv_goto (tgt := 166) C.x C.b d_U_groups_151 (by decide) ?_
        refine lv_iinc (v := (nI (k + i + 1))) (lv' := [(12, .int (nI (k + i + 1))), (11, .int (nI (h - w))), (9, .long (lN (bs (ib (gt I)) (8 * a + w * (i + 1)) (h - w)))), (13, .long (lN (bs (ib (gt I)) (8 * a + w * i) w))), (0, .ref b), (1, .int (nI E)), (2, .long (lN mm)), (4, .int (nI k)), (5, .int (nI n)), (6, .int (nI w)), (7, .ref sp), (8, .int (nI (k + 8 * mm)))]) C.x C.b d_U_groups_166 hl (k := 11) rfl (nI_inc _ 1) (by decide) rfl (fun ls hl => ?_)
        refine lv_goto (tgt := 77) C.x C.b d_U_groups_169 (by decide) ?_
        exact ih (i + 1) y (h - w) fl _ (by omega) (by omega) (by rw [Nat.mul_add, Nat.mul_one]; omega) (by rw [hfl, bad]; simp [show ¬ n ≤ k + i by omega]) (fun j hj => by
          by_cases q : j = k + i
          · rw [q, up_same, if_pos (by omega), Nat.add_sub_cancel_left]
          · rw [up_other q]; exact hvs j (by omega)) H locs ls hP hD hS (lv_sub hl [4, 5, 6, 7, 8, 9, 10, 11, 2, 1, 0] rfl)
set_option maxHeartbeats 4000000 in
set_option maxRecDepth 100000 in
/-- groups: a row of groups is read -/
theorem c_U_groups (l : Launch) (D : va_G) (cI cB : ClassId) (b r sz k E cap a n w mm sp : Nat) (I : List Nat) (t : Nat → Nat) (hI : Hd t I) (hI8 : ∀ x ∈ I, x < 256) (hE : E ≤ I.length) (hIc : I.length ≤ cap) (hcap : cap ≤ 65536) (hn : n ≤ 4096) (hw : w ≤ 32) (hk : k < n) (ha : a ≤ E) (hm : mm < 2 ^ 63) (hm1 : 1 ≤ mm) (vs : Nat → Nat) : Ki l D cI cB y_U_groups b_U_groups 15 2 42 0 0 .int [.ref b, .int (nI E), .long (lN mm), .int (nI k), .int (nI n), .int (nI w), .ref sp] [oB b r sz a 0, aB cB r cap t, aN cI sp 4096 vs] (fun v w1 => ∃ (k2 f2 a2 : Nat) (vs2 : Nat → Nat), v = nI k2 ∧ w1 = [oB b r sz a2 f2, aB cB r cap t, aN cI sp 4096 vs2] ∧ GrpQ (gt I) E n w a k mm f2 a2 k2 vs vs2) := by
  refine ent (fun A => va_Qi _ (BW D A) A) (by decide) (Nat.le_of_ble_eq_true rfl) ?_
  intro p e s m below meth c A ls C hA hP hD hS hl
  have hl : lv_has ls 15 [(0, .ref b), (1, .int (nI E)), (2, .long (lN mm)), (4, .int (nI k)), (5, .int (nI n)), (6, .int (nI w)), (7, .ref sp)] := hl
  refine lv_lload_n C.x C.b d_U_groups_0 rfl (lv_at hl 2 rfl) ?_
  refine lv_lconst (v := lN 0) C.x C.b d_U_groups_1 (by decide) ?_
  refine jl_lt (tgt := 25) C d_U_groups_2 d_U_groups_3 (by decide) (by omega) (by omega) (fun h0 => ?_) (fun h0 => ?_)
  · exfalso; omega
  · refine lv_lload_n C.x C.b d_U_groups_6 rfl (lv_at hl 2 rfl) ?_
    refine lv_iload C.x C.b d_U_groups_7 (lv_at hl 4 rfl) ?_
    refine lv_iload C.x C.b d_U_groups_9 (lv_at hl 3 rfl) ?_
    refine lv_isub C.x C.b d_U_groups_11 ?_
    refine ra_i (nI_subS (by omega)) ?_
    refine lv_bipush (v := nI 8) C.x C.b d_U_groups_12 (by decide) ?_
    refine lv_iadd C.x C.b d_U_groups_14 ?_
    refine ra_i (nI_add _ _) ?_
    refine lv_iconst (v := nI 1) C.x C.b d_U_groups_15 (by decide) ?_
    refine lv_isub C.x C.b d_U_groups_16 ?_
    refine ra_i (nI_subS (by omega)) ?_
    refine lv_bipush (v := nI 8) C.x C.b d_U_groups_17 (by decide) ?_
    refine lv_idiv C.x C.b d_U_groups_19 (nI_ne0 (by omega) (by omega)) ?_
    refine ra_i (pk_div (by omega) (by omega) (by omega)) ?_
    refine ra_i (y := nI ((n - k + 7) / 8)) (by rw [show n - k + 8 - 1 = n - k + 7 by omega]) ?_
    refine lv_i2l C.x C.b d_U_groups_20 (nI_l (by omega)) ?_
    refine jl_le (tgt := 33) C d_U_groups_21 d_U_groups_22 (by decide) (by omega) (by omega) (fun h1 => ?_) (fun h1 => ?_)
    · have hwm : mm * w ≤ 512 * 32 := Nat.mul_le_mul (by omega) hw
      refine lv_iload C.x C.b d_U_groups_33 (lv_at hl 3 rfl) ?_
      refine lv_bipush (v := nI 8) C.x C.b d_U_groups_35 (by decide) ?_
      refine lv_lload_n C.x C.b d_U_groups_37 rfl (lv_at hl 2 rfl) ?_
      refine lv_l2i C.x C.b d_U_groups_38 (lN_i _) ?_
      refine lv_imul C.x C.b d_U_groups_39 ?_
      refine ra_i (pk_mul _ _) ?_
      refine lv_iadd C.x C.b d_U_groups_40 ?_
      refine ra_i (nI_add _ _) ?_
      refine lv_istore (lv' := [(8, .int (nI (k + 8 * mm))), (0, .ref b), (1, .int (nI E)), (2, .long (lN mm)), (4, .int (nI k)), (5, .int (nI n)), (6, .int (nI w)), (7, .ref sp)]) C.x C.b d_U_groups_41 hl (by decide) rfl (fun ls hl => ?_)
      refine lv_iload_n C.x C.b d_U_groups_43 rfl (lv_at hl 2 rfl) ?_
      refine lv_aload_n C.x C.b d_U_groups_44 rfl (lv_at hl 1 rfl) ?_
      refine gfN C hP 0 0 2 rfl rfl (by decide) C.ns.2.1 rfl d_U_groups_45 ?_
      refine lv_isub C.x C.b d_U_groups_48 ?_
      refine ra_i (nI_subS (by omega)) ?_
      refine lv_i2l C.x C.b d_U_groups_49 (nI_l (by omega)) ?_
      refine lv_lload_n C.x C.b d_U_groups_50 rfl (lv_at hl 3 rfl) ?_
      refine lv_iload C.x C.b d_U_groups_51 (lv_at hl 6 rfl) ?_
      refine lv_i2l C.x C.b d_U_groups_53 (nI_l (by omega)) ?_
      refine lv_lmul C.x C.b d_U_groups_54 ?_
      refine ra_l (lN_mul _ _) ?_
      refine jl_ge (tgt := 67) C d_U_groups_55 d_U_groups_56 (by decide) (by omega) (by omega) (fun h2 => ?_) (fun h2 => ?_)
      · refine lv_lconst (v := lN 0) C.x C.b d_U_groups_67 (by decide) ?_
        refine lv_lstore (lv' := [(9, .long (lN 0)), (8, .int (nI (k + 8 * mm))), (0, .ref b), (1, .int (nI E)), (2, .long (lN mm)), (4, .int (nI k)), (5, .int (nI n)), (6, .int (nI w)), (7, .ref sp)]) C.x C.b d_U_groups_68 hl (by decide) rfl (fun ls hl => ?_)
        refine lv_iconst (v := nI 0) C.x C.b d_U_groups_70 (by decide) ?_
        refine lv_istore (lv' := [(11, .int (nI 0)), (9, .long (lN 0)), (8, .int (nI (k + 8 * mm))), (0, .ref b), (1, .int (nI E)), (2, .long (lN mm)), (4, .int (nI k)), (5, .int (nI n)), (6, .int (nI w)), (7, .ref sp)]) C.x C.b d_U_groups_71 hl (by decide) rfl (fun ls hl => ?_)
        refine lv_iload C.x C.b d_U_groups_73 (lv_at hl 6 rfl) ?_
        refine lv_istore (lv' := [(12, .int (nI k)), (11, .int (nI 0)), (9, .long (lN 0)), (8, .int (nI (k + 8 * mm))), (0, .ref b), (1, .int (nI E)), (2, .long (lN mm)), (4, .int (nI k)), (5, .int (nI n)), (6, .int (nI w)), (7, .ref sp)]) C.x C.b d_U_groups_75 hl (by decide) rfl (fun ls hl => ?_)
        have hl : lv_has ls 15 [(0, .ref b), (1, .int (nI E)), (2, .long (lN mm)), (4, .int (nI k)), (5, .int (nI n)), (6, .int (nI w)), (7, .ref sp), (8, .int (nI (k + 8 * mm))), (9, .long (lN (bs (ib (gt I)) (8 * a + w * 0) 0))), (11, .int (nI 0)), (12, .int (nI (k + 0)))] := lv_sub hl [4, 5, 6, 7, 8, 9, 10, 3, 2, 1, 0] rfl
        refine lp_U_groups C hA b r sz k E cap a n w mm sp I t hI hI8 hE hIc hcap hn hw hk ha h1 (by omega) vs (Nat.le_refl 2) (Nat.le_refl 42) (Nat.le_refl 0) (Nat.le_refl 0) (fun vs2 hvs2 H locs ls hP hD hS hl => ?_) (8 * mm) 0 a 0 0 vs (by omega) (by omega) (by omega) rfl (fun j hj => by rw [if_neg (by omega)]) _ _ ls hP hD hS hl
        refine lv_iload C.x C.b d_U_groups_172 (lv_at hl 7 rfl) ?_
        refine lv_iload C.x C.b d_U_groups_174 (lv_at hl 4 rfl) ?_
        refine jc_ge (tgt := 184) C d_U_groups_176 (by decide) (by omega) (by omega) (fun hz => ?_) (fun hz => ?_)
        · refine lv_iload C.x C.b d_U_groups_184 (lv_at hl 4 rfl) ?_
          exact reti C hP hD hS d_U_groups_186 (rfl) (by omega) (by omega) (by
              refine ⟨_, _, _, vs2, rfl, rfl, by omega, by omega, ?_⟩
              by_cases q : bad (gt I) (8 * a) w k n (8 * mm) = true
              · rw [if_pos q]; exact Or.inr (Or.inr (Or.inl ⟨rfl, h1, by omega, q⟩))
              · rw [if_neg q]; exact Or.inr (Or.inr (Or.inr ⟨rfl, h1, by omega, by simpa using q, rfl, by omega, hvs2⟩)))
        · refine lv_iload C.x C.b d_U_groups_179 (lv_at hl 7 rfl) ?_
          refine lv_goto (tgt := 186) C.x C.b d_U_groups_181 (by decide) ?_
          exact reti C hP hD hS d_U_groups_186 (rfl) (by omega) (by omega) (by
              refine ⟨_, _, _, vs2, rfl, rfl, by omega, by omega, ?_⟩
              by_cases q : bad (gt I) (8 * a) w k n (8 * mm) = true
              · rw [if_pos q]; exact Or.inr (Or.inr (Or.inl ⟨rfl, h1, by omega, q⟩))
              · rw [if_neg q]; exact Or.inr (Or.inr (Or.inr ⟨rfl, h1, by omega, by simpa using q, rfl, by omega, hvs2⟩)))
      · refine lv_aload_n C.x C.b d_U_groups_59 rfl (lv_at hl 1 rfl) ?_
        refine lv_iconst (v := nI 1) C.x C.b d_U_groups_60 (by decide) ?_
        refine cvV (wr := [aB cB r cap t, aN cI sp 4096 vs]) C hA hP hD hS hl.1 (c_B_fail l D cI cB b r sz a 0 1 (by decide)) ok_U_55 [] [0] [1, 2] 0 0 rfl rfl rfl rfl (by decide) rfl (by decide) (by decide) rfl rfl (Nat.le_of_ble_eq_true rfl) (⟨by (try dsimp only [rmO]); omega, by (try dsimp only [rmO]); omega⟩) (⟨by (try dsimp only [rmO]); omega, by (try dsimp only [rmO]); omega⟩) d_U_groups_61 ?_
        intro w1 H locs hw hP hD hS
        obtain rfl := hw
        have hP : va_P D classes [aB cB r cap t, aN cI sp 4096 vs, oB b r sz a 1] H := hP
        have hD : va_D A [aB cB r cap t, aN cI sp 4096 vs, oB b r sz a 1] := hD
        have hP : va_P D classes [oB b r sz a 1, aB cB r cap t, aN cI sp 4096 vs] H := hP.sub [2, 0, 1] rfl
        have hD : va_D A [oB b r sz a 1, aB cB r cap t, aN cI sp 4096 vs] := hD.sub [2, 0, 1] (by decide) rfl
        refine lv_iload C.x C.b d_U_groups_64 (lv_at hl 4 rfl) ?_
        exact reti C hP hD hS d_U_groups_66 (rfl) (by omega) (by omega) (⟨_, _, _, vs, rfl, rfl, by omega, by omega, Or.inr (Or.inl ⟨rfl, h1, by omega⟩)⟩)
    · refine lv_aload_n C.x C.b d_U_groups_25 rfl (lv_at hl 0 rfl) ?_
      refine lv_iconst (v := nI 4) C.x C.b d_U_groups_26 (by decide) ?_
      refine cvV (wr := [aB cB r cap t, aN cI sp 4096 vs]) C hA hP hD hS hl.1 (c_B_fail l D cI cB b r sz a 0 4 (by decide)) ok_U_55 [] [0] [1, 2] 0 0 rfl rfl rfl rfl (by decide) rfl (by decide) (by decide) rfl rfl (Nat.le_of_ble_eq_true rfl) (⟨by (try dsimp only [rmO]); omega, by (try dsimp only [rmO]); omega⟩) (⟨by (try dsimp only [rmO]); omega, by (try dsimp only [rmO]); omega⟩) d_U_groups_27 ?_
      intro w1 H locs hw hP hD hS
      obtain rfl := hw
      have hP : va_P D classes [aB cB r cap t, aN cI sp 4096 vs, oB b r sz a 4] H := hP
      have hD : va_D A [aB cB r cap t, aN cI sp 4096 vs, oB b r sz a 4] := hD
      have hP : va_P D classes [oB b r sz a 4, aB cB r cap t, aN cI sp 4096 vs] H := hP.sub [2, 0, 1] rfl
      have hD : va_D A [oB b r sz a 4, aB cB r cap t, aN cI sp 4096 vs] := hD.sub [2, 0, 1] (by decide) rfl
      refine lv_iload C.x C.b d_U_groups_30 (lv_at hl 3 rfl) ?_
      exact reti C hP hD hS d_U_groups_32 (rfl) (by omega) (by omega) (⟨_, _, _, vs, rfl, rfl, by omega, by omega, Or.inl ⟨rfl, h1⟩⟩)
end
section
/-! contracts of Runs: read (printed by gen/runs6.py) -/
def fin (E : Nat) (q : Nat × Nat × (Nat → Nat)) : Nat := if q.1 = 0 ∧ q.2.1 < E then 6 else q.1
theorem fin_f {E : Nat} {q : Nat × Nat × (Nat → Nat)} (h : q.1 ≠ 0) : fin E q = q.1 := if_neg (fun z => h z.1)
theorem dcF_done {t : Nat → Nat} {E n w d a k : Nat} {r : Nat → Nat} (h : n ≤ k) : dcF t E n w d a k r = (0, a, r) := by
  cases d with
  | zero => rfl
  | succ d => rw [dcF, if_pos h]
theorem dcF_vr {t : Nat → Nat} {E n w d a k : Nat} {r : Nat → Nat} (h : k < n) (h1 : (vr t E 10 0 a 0).1 ≠ 0) : dcF t E n w (d + 1) a k r = ((vr t E 10 0 a 0).1, (vr t E 10 0 a 0).2.1, r) := by
  rw [dcF, if_neg (by omega), if_pos h1]
theorem dcF_empty {t : Nat → Nat} {E n w d a k : Nat} {r : Nat → Nat} (h : k < n) (h1 : (vr t E 10 0 a 0).1 = 0) (h2 : (vr t E 10 0 a 0).2.2 / 2 = 0) : dcF t E n w (d + 1) a k r = (3, (vr t E 10 0 a 0).2.1, r) := by
  rw [dcF, if_neg (by omega), if_neg (fun q => q h1), if_pos h2]
def StQ (t : Nat → Nat) (E n w d a k : Nat) (r : Nat → Nat) (f2 a2 k2 : Nat) (vs2 : Nat → Nat) : Prop :=
  (f2 ≠ 0 ∧ (dcF t E n w (d + 1) a k r).1 = f2) ∨ (f2 = 0 ∧ k < min k2 n ∧ a2 ≤ E ∧ ∃ r2 : Nat → Nat, dcF t E n w (d + 1) a k r = dcF t E n w d a2 (min k2 n) r2 ∧ ∀ j, j < min k2 n → vs2 j = r2 j)
theorem dcF_one {t : Nat → Nat} {E n w d a k f2 a2 k2 : Nat} {r vs vs2 : Nat → Nat} (h : k < n) (h1 : (vr t E 10 0 a 0).1 = 0) (h2 : (vr t E 10 0 a 0).2.2 / 2 ≠ 0) (h3 : (vr t E 10 0 a 0).2.2 % 2 = 0) (hr : ∀ j, j < k → vs j = r j)
    (hq : OneQ t E n w (vr t E 10 0 a 0).2.1 k ((vr t E 10 0 a 0).2.2 / 2) f2 a2 k2 vs vs2) : StQ t E n w d a k r f2 a2 k2 vs2 := by
  unfold StQ
  rw [dcF, if_neg (by omega), if_neg (fun q => q h1), if_neg h2, if_pos h3]
  obtain ⟨-, -, ⟨rfl, q1⟩ | ⟨rfl, q1, q2⟩ | ⟨rfl, q1, q2, q3⟩ | ⟨rfl, q1, q2, q3, rfl, rfl, q4⟩⟩ := hq
  · rw [if_pos q1]; exact Or.inl ⟨by decide, rfl⟩
  · rw [if_neg (by omega), if_pos q2]; exact Or.inl ⟨by decide, rfl⟩
  · rw [if_neg (by omega), if_neg (by omega), if_pos q3]; exact Or.inl ⟨by decide, rfl⟩
  · rw [if_neg (by omega), if_neg (by omega), if_neg (fun q => q q3)]
    refine Or.inr ⟨rfl, by omega, q2, _, by rw [Nat.min_eq_left (by omega)], fun j hj => ?_⟩
    rw [q4 j (by omega)]
    by_cases c : k ≤ j
    · rw [if_pos c, if_pos c]
    · rw [if_neg c, if_neg c]; exact hr j (by omega)
theorem dcF_grp {t : Nat → Nat} {E n w d a k f2 a2 k2 : Nat} {r vs vs2 : Nat → Nat} (h : k < n) (h1 : (vr t E 10 0 a 0).1 = 0) (h2 : (vr t E 10 0 a 0).2.2 / 2 ≠ 0) (h3 : (vr t E 10 0 a 0).2.2 % 2 ≠ 0) (hr : ∀ j, j < k → vs j = r j)
    (hq : GrpQ t E n w (vr t E 10 0 a 0).2.1 k ((vr t E 10 0 a 0).2.2 / 2) f2 a2 k2 vs vs2) : StQ t E n w d a k r f2 a2 k2 vs2 := by
  unfold StQ
  rw [dcF, if_neg (by omega), if_neg (fun q => q h1), if_neg h2, if_neg h3]
  obtain ⟨-, -, ⟨rfl, q1⟩ | ⟨rfl, q1, q2⟩ | ⟨rfl, q1, q2, q3⟩ | ⟨rfl, q1, q2, q3, rfl, q5, q4⟩⟩ := hq
  · rw [if_pos q1]; exact Or.inl ⟨by decide, rfl⟩
  · rw [if_neg (by omega), if_pos q2]; exact Or.inl ⟨by decide, rfl⟩
  · rw [if_neg (by omega), if_neg (by omega), if_pos q3]; exact Or.inl ⟨by decide, rfl⟩
  · rw [if_neg (by omega), if_neg (by omega), if_neg (by rw [q3]; decide)]
    refine Or.inr ⟨rfl, by omega, q2, _, by rw [q5], fun j hj => ?_⟩
    rw [q4 j (by omega)]
    by_cases c : k ≤ j
    · rw [if_pos c, if_pos c]
    · rw [if_neg c, if_neg c]; exact hr j (by omega)
set_option maxHeartbeats 4000000 in
set_option maxRecDepth 100000 in
/-- read: its end -/
theorem lp_U_readE {p : Program} {l : Launch} {e : Env} {R : Room} {s : State} {m : MethodId} {args : Array Value} {below : List Frame} {meth : Method} {c : Code} {D : va_G} {cI cB : ClassId} {A : Nat → Prop} (C : Cx p s m args meth c D cI cB b_U_read 9 R_U none "read") (hA : ∀ q : Nat, s.heap.size ≤ q → A q) (u sm b r sz a f E cap sp : Nat) (t vs : Nat → Nat) (ha : a ≤ 65536) (hE : E ≤ 65536) (hf : f < 2 ^ 31) (post : va_W → Prop) (hp : ∀ w1 : va_W, w1 = [oU u sm, oB b r sz a (if f = 0 ∧ a < E then 6 else f), aB cB r cap t, aN cI sp 4096 vs] → post w1) (hR1 : 4 ≤ R.frames) (hR2 : 98 ≤ R.locals) :  ∀ (H : Heap) (locs : List Loc) (ls : Array Slot), va_P D classes [oU u sm, oB b r sz a f, aB cB r cap t, aN cI sp 4096 vs] H → va_D A [oU u sm, oB b r sz a f, aB cB r cap t, aN cI sp 4096 vs] → va_S A s.heap H locs → lv_has ls 9 [(1, .ref b), (2, .int (nI E))] → W p l e R s m args below meth c H locs 0 0 (MQ below (va_Qv post (BW D A) A) args s 0 0 A) (F0 m 99 ls []) := by
  intro H locs ls hP hD hS hl
  refine lv_aload_n C.x C.b d_U_read_99 rfl (lv_at hl 0 rfl) ?_
  refine gfN C hP 1 0 2 rfl rfl (by decide) C.ns.2.1 rfl d_U_read_100 ?_
  refine lv_iload_n C.x C.b d_U_read_103 rfl (lv_at hl 1 rfl) ?_
  refine jc_ge (tgt := 113) C d_U_read_104 (by decide) (by omega) (by omega) (fun h => ?_) (fun h => ?_)
  · exact retv C hP hD hS d_U_read_113 (by omega) (by omega) (hp _ (by rw [if_neg (by omega)]))
  · refine lv_aload_n C.x C.b d_U_read_107 rfl (lv_at hl 0 rfl) ?_
    refine lv_bipush (v := nI 6) C.x C.b d_U_read_108 (by decide) ?_
    refine cvV (wr := [oU u sm, aB cB r cap t, aN cI sp 4096 vs]) C hA hP hD hS hl.1 (c_B_fail l D cI cB b r sz a f 6 (by omega)) ok_U_55 [] [1] [0, 2, 3] 0 0 rfl rfl rfl rfl (by decide) rfl (by decide) (by decide) rfl rfl (Nat.le_of_ble_eq_true rfl) (⟨by (try dsimp only [rmO]); omega, by (try dsimp only [rmO]); omega⟩) (⟨by (try dsimp only [rmO]); omega, by (try dsimp only [rmO]); omega⟩) d_U_read_110 ?_
    intro w1 H locs hw hP hD hS
    obtain rfl := hw
    have hP : va_P D classes [oU u sm, aB cB r cap t, aN cI sp 4096 vs, oB b r sz a (if f = 0 then 6 else f)] H := hP
    have hD : va_D A [oU u sm, aB cB r cap t, aN cI sp 4096 vs, oB b r sz a (if f = 0 then 6 else f)] := hD
    have hP : va_P D classes [oU u sm, oB b r sz a (if f = 0 then 6 else f), aB cB r cap t, aN cI sp 4096 vs] H := hP.sub [0, 3, 1, 2] rfl
    have hD : va_D A [oU u sm, oB b r sz a (if f = 0 then 6 else f), aB cB r cap t, aN cI sp 4096 vs] := hD.sub [0, 3, 1, 2] (by decide) rfl
    exact retv C hP hD hS d_U_read_113 (by omega) (by omega) (hp _ (by
        by_cases q : f = 0
        · rw [if_pos q, if_pos ⟨q, h⟩]
        · rw [if_neg q, if_neg (fun z => q z.1)]))
set_option maxHeartbeats 4000000 in
set_option maxRecDepth 100000 in
/-- read: the loop -/
theorem lp_U_read {p : Program} {l : Launch} {e : Env} {R : Room} {s : State} {m : MethodId} {args : Array Value} {below : List Frame} {meth : Method} {c : Code} {D : va_G} {cI cB : ClassId} {A : Nat → Prop} (C : Cx p s m args meth c D cI cB b_U_read 9 R_U none "read") (hA : ∀ q : Nat, s.heap.size ≤ q → A q) (u sm b r sz E cap n w sp : Nat) (I : List Nat) (t : Nat → Nat) (hI : Hd t I) (hI8 : ∀ x ∈ I, x < 256) (hE : E ≤ I.length) (hIc : I.length ≤ cap) (hcap : cap ≤ 65536) (hn : n ≤ 4096) (hw : w ≤ 32) (post : va_W → Prop) (hR1 : 4 ≤ R.frames) (hR2 : 98 ≤ R.locals) : ∀ (d k a : Nat) (vs r0 : Nat → Nat), n ≤ min k n + d → k ≤ n + 7 → a ≤ E → (∀ j, j < min k n → vs j = r0 j) → (∀ w1 : va_W, (∃ (f2 a2 : Nat) (vs2 : Nat → Nat), w1 = [oU u sm, oB b r sz a2 f2, aB cB r cap t, aN cI sp 4096 vs2] ∧ f2 = fin E (dcF (gt I) E n w d a (min k n) r0) ∧ (f2 = 0 → ∀ j, j < n → vs2 j = (dcF (gt I) E n w d a (min k n) r0).2.2 j)) → post w1) → ∀ (H : Heap) (locs : List Loc) (ls : Array Slot), va_P D classes [oU u sm, oB b r sz a 0, aB cB r cap t, aN cI sp 4096 vs] H → va_D A [oU u sm, oB b r sz a 0, aB cB r cap t, aN cI sp 4096 vs] → va_S A s.heap H locs → lv_has ls 9 [(0, .ref u), (1, .ref b), (2, .int (nI E)), (3, .int (nI n)), (4, .int (nI w)), (5, .ref sp), (6, .int (nI k))] → W p l e R s m args below meth c H locs 0 0 (MQ below (va_Qv post (BW D A) A) args s 0 0 A) (F0 m 3 ls []) := by
  intro d
  induction d with
  | zero =>
    intro k a vs r0 hd hk ha hvs hp H locs ls hP hD hS hl
    refine lv_iload C.x C.b d_U_read_3 (lv_at hl 6 rfl) ?_
    refine lv_iload_n C.x C.b d_U_read_5 rfl (lv_at hl 3 rfl) ?_
    refine jc_ge (tgt := 99) C d_U_read_6 (by decide) (by omega) (by omega) (fun h => ?_) (fun h => ?_)
    · exact lp_U_readE C hA u sm b r sz a 0 E cap sp t vs (by omega) (by omega) (by omega) post (fun w1 hw1 => hp w1 ⟨_, _, _, hw1, by rw [dcF_done (by omega)]; exact ⟨rfl, fun _ j hj => hvs j (by omega)⟩⟩) hR1 hR2 H locs ls hP hD hS (lv_sub hl [1, 2] rfl)
    · exfalso; omega
  | succ d ih =>
    intro k a vs r0 hd hk ha hvs hp H locs ls hP hD hS hl
    refine lv_iload C.x C.b d_U_read_3 (lv_at hl 6 rfl) ?_
    refine lv_iload_n C.x C.b d_U_read_5 rfl (lv_at hl 3 rfl) ?_
    refine jc_ge (tgt := 99) C d_U_read_6 (by decide) (by omega) (by omega) (fun h => ?_) (fun h => ?_)
    · exact lp_U_readE C hA u sm b r sz a 0 E cap sp t vs (by omega) (by omega) (by omega) post (fun w1 hw1 => hp w1 ⟨_, _, _, hw1, by rw [dcF_done (by omega)]; exact ⟨rfl, fun _ j hj => hvs j (by omega)⟩⟩) hR1 hR2 H locs ls hP hD hS (lv_sub hl [1, 2] rfl)
    · have emn : min k n = k := by omega
      rw [emn] at hp hvs
      refine lv_aload_n C.x C.b d_U_read_9 rfl (lv_at hl 1 rfl) ?_
      refine gfN C hP 1 0 3 rfl rfl (by decide) C.ns.2.2.2.1 rfl d_U_read_10 ?_
      refine jz_ne (tgt := 99) C d_U_read_13 (by decide) (by omega) (fun h2 => ?_) (fun h2 => ?_)
      · exact absurd rfl h2
      · refine lv_aload_n C.x C.b d_U_read_16 rfl (lv_at hl 1 rfl) ?_
        refine lv_iload_n C.x C.b d_U_read_17 rfl (lv_at hl 2 rfl) ?_
        refine clV (wr := [oU u sm, aN cI sp 4096 vs]) C hA hP hD hS hl.1 (c_B_takeVarint l D cI cB b r sz a E cap I t hI hI8 hE hIc hcap ha) ok_U_51 [] [1, 2] [0, 3] 0 0 rfl rfl rfl rfl (by decide) rfl (by decide) (by decide) rfl rfl (Nat.le_of_ble_eq_true rfl) (⟨by omega, by omega⟩) (⟨Nat.zero_le _, Nat.zero_le _⟩) d_U_read_18 ?_
        intro rv w1 H locs hw9 hP hD hS
        obtain ⟨rfl, hrv⟩ := hw9
        have hv64 := vr_lt (t := gt I) (E := E) 10 0 a 0 rfl (by decide) (by decide)
        have hvat := vr_at (t := gt I) 10 0 a 0 ha
        have hvf := vr_f (t := gt I) (E := E) 10 0 a 0
        have e1 := dcF_vr (t := gt I) (E := E) (w := w) (d := d) (a := a) (r := r0) h
        have e2 := dcF_empty (t := gt I) (E := E) (w := w) (d := d) (a := a) (r := r0) h
        have e3 := fun f2 a2 k2 vs2 => dcF_one (t := gt I) (E := E) (w := w) (d := d) (a := a) (r := r0) (vs := vs) (f2 := f2) (a2 := a2) (k2 := k2) (vs2 := vs2) h
        have e4 := fun f2 a2 k2 vs2 => dcF_grp (t := gt I) (E := E) (w := w) (d := d) (a := a) (r := r0) (vs := vs) (f2 := f2) (a2 := a2) (k2 := k2) (vs2 := vs2) h
        generalize vr (gt I) E 10 0 a 0 = vq at *
        obtain ⟨vf, va, vv⟩ := vq
        dsimp only at hrv hP hD hv64 hvat hvf e1 e2 e3 e4
        have hP : va_P D classes [oU u sm, aN cI sp 4096 vs, oB b r sz va vf, aB cB r cap t] H := hP
        have hD : va_D A [oU u sm, aN cI sp 4096 vs, oB b r sz va vf, aB cB r cap t] := hD
        have hP : va_P D classes [oU u sm, oB b r sz va vf, aB cB r cap t, aN cI sp 4096 vs] H := hP.sub [0, 2, 3, 1] rfl
        have hD : va_D A [oU u sm, oB b r sz va vf, aB cB r cap t, aN cI sp 4096 vs] := hD.sub [0, 2, 3, 1] (by decide) rfl
        refine lv_lstore (lv' := [(7, .long rv), (0, .ref u), (1, .ref b), (2, .int (nI E)), (3, .int (nI n)), (4, .int (nI w)), (5, .ref sp), (6, .int (nI k))]) C.x C.b d_U_read_21 hl (by decide) rfl (fun ls hl => ?_)
        refine lv_aload_n C.x C.b d_U_read_23 rfl (lv_at hl 2 rfl) ?_
        refine gfN C hP 1 0 3 rfl rfl (by decide) C.ns.2.2.2.1 rfl d_U_read_24 ?_
        refine jz_eq (tgt := 31) C d_U_read_27 (by decide) (by omega) (fun h3 => ?_) (fun h3 => ?_)
        · obtain rfl : rv = lN vv := hrv h3
          subst h3
          have hP : va_P D classes [oU u sm, oB b r sz va 0, aB cB r cap t, aN cI sp 4096 vs] H := hP
          have hD : va_D A [oU u sm, oB b r sz va 0, aB cB r cap t, aN cI sp 4096 vs] := hD
          refine lv_lload C.x C.b d_U_read_31 (lv_at hl 0 rfl) ?_
          refine lv_iconst (v := nI 1) C.x C.b d_U_read_33 (by decide) ?_
          refine lv_lushr C.x C.b d_U_read_34 (wb_shr (by omega) (by omega)) ?_
          refine ra_l (y := lN (vv / 2)) (rfl) ?_
          refine lv_lconst (v := lN 0) C.x C.b d_U_read_35 (by decide) ?_
          refine jl_ne (tgt := 48) C d_U_read_36 d_U_read_37 (by decide) (by omega) (by omega) (fun h4 => ?_) (fun h4 => ?_)
          · refine lv_lload C.x C.b d_U_read_48 (lv_at hl 0 rfl) ?_
            refine lv_lconst (v := lN 1) C.x C.b d_U_read_50 (by decide) ?_
            refine lv_land C.x C.b d_U_read_51 ?_
            refine ra_l (y := lN (vv % 2)) (wb_a1 hv64) ?_
            refine lv_lconst (v := lN 0) C.x C.b d_U_read_52 (by decide) ?_
            refine jl_ne (tgt := 78) C d_U_read_53 d_U_read_54 (by decide) (by omega) (by omega) (fun h5 => ?_) (fun h5 => ?_)
            · refine lv_aload_n C.x C.b d_U_read_78 rfl (lv_at hl 2 rfl) ?_
              refine lv_iload_n C.x C.b d_U_read_79 rfl (lv_at hl 3 rfl) ?_
              refine lv_lload C.x C.b d_U_read_80 (lv_at hl 0 rfl) ?_
              refine lv_iconst (v := nI 1) C.x C.b d_U_read_82 (by decide) ?_
              refine lv_lushr C.x C.b d_U_read_83 (wb_shr (by omega) (by omega)) ?_
              refine ra_l (y := lN (vv / 2)) (rfl) ?_
              refine lv_iload C.x C.b d_U_read_84 (lv_at hl 7 rfl) ?_
              refine lv_iload_n C.x C.b d_U_read_86 rfl (lv_at hl 4 rfl) ?_
              refine lv_iload C.x C.b d_U_read_87 (lv_at hl 5 rfl) ?_
              refine lv_aload C.x C.b d_U_read_89 (lv_at hl 6 rfl) ?_
              refine ciS (wr := [oU u sm]) C hA hP hD hS hl.1 (c_U_groups l D cI cB b r sz k E cap va n w (vv / 2) sp I t hI hI8 hE hIc hcap hn hw h hvat (by omega) (by omega) vs) ok_U_62 [] [1, 2, 3] [0] rfl (by decide) rfl (by decide) (by decide) rfl rfl (Nat.le_of_ble_eq_true rfl) (⟨by omega, by omega⟩) (⟨Nat.zero_le _, Nat.zero_le _⟩) d_U_read_91 ?_
              intro rk w1 H locs hw9 hP hD hS
              obtain ⟨k2, f2, a2, vs2, rfl, rfl, hq9⟩ := hw9
              have hP : va_P D classes [oU u sm, oB b r sz a2 f2, aB cB r cap t, aN cI sp 4096 vs2] H := hP
              have hD : va_D A [oU u sm, oB b r sz a2 f2, aB cB r cap t, aN cI sp 4096 vs2] := hD
              have hk29 := hq9.1
              have ha29 := hq9.2.1
              have hst := e4 f2 a2 k2 vs2 rfl h4 h5 hvs hq9
              have hf29 : f2 ≤ 5 := by obtain ⟨-, -, q | q | q | q⟩ := hq9 <;> omega
              refine lv_istore (lv' := [(6, .int (nI k2)), (7, .long (lN vv)), (0, .ref u), (1, .ref b), (2, .int (nI E)), (3, .int (nI n)), (4, .int (nI w)), (5, .ref sp)]) C.x C.b d_U_read_94 hl (by decide) rfl (fun ls hl => ?_)
              refine lv_goto (tgt := 3) C.x C.b d_U_read_96 (by decide) ?_
              rcases hst with ⟨hf2, hs1⟩ | ⟨rfl, hs1, hs2, r2, hs3, hs4⟩
              · refine lv_iload C.x C.b d_U_read_3 (lv_at hl 0 rfl) ?_
                refine lv_iload_n C.x C.b d_U_read_5 rfl (lv_at hl 5 rfl) ?_
                refine jc_ge (tgt := 99) C d_U_read_6 (by decide) (by omega) (by omega) (fun hz => ?_) (fun hz => ?_)
                · exact lp_U_readE C hA u sm b r sz a2 f2 E cap sp t vs2 (by omega) (by omega) (by omega) post (fun w1 hw1 => hp w1 ⟨_, _, _, hw1, by rw [if_neg (fun z => hf2 z.1), fin_f (by rw [hs1]; exact hf2), hs1]; exact ⟨rfl, fun z => absurd z hf2⟩⟩) hR1 hR2 H locs ls hP hD hS (lv_sub hl [3, 4] rfl)
                · refine lv_aload_n C.x C.b d_U_read_9 rfl (lv_at hl 3 rfl) ?_
                  refine gfN C hP 1 0 3 rfl rfl (by decide) C.ns.2.2.2.1 rfl d_U_read_10 ?_
                  refine jz_ne (tgt := 99) C d_U_read_13 (by decide) (by omega) (fun hz2 => ?_) (fun hz2 => ?_)
                  · exact lp_U_readE C hA u sm b r sz a2 f2 E cap sp t vs2 (by omega) (by omega) (by omega) post (fun w1 hw1 => hp w1 ⟨_, _, _, hw1, by rw [if_neg (fun z => hf2 z.1), fin_f (by rw [hs1]; exact hf2), hs1]; exact ⟨rfl, fun z => absurd z hf2⟩⟩) hR1 hR2 H locs ls hP hD hS (lv_sub hl [3, 4] rfl)
                  · exact absurd hz2 (hf2)
              · exact ih k2 a2 vs2 r2 (by omega) (by omega) hs2 hs4 (fun w1 q => hp w1 (by rw [hs3]; exact q)) H locs ls hP hD hS (lv_sub hl [2, 3, 4, 5, 6, 7, 0] rfl)
            · refine lv_aload_n C.x C.b d_U_read_57 rfl (lv_at hl 2 rfl) ?_
              refine lv_iload_n C.x C.b d_U_read_58 rfl (lv_at hl 3 rfl) ?_
              refine lv_lload C.x C.b d_U_read_59 (lv_at hl 0 rfl) ?_
              refine lv_iconst (v := nI 1) C.x C.b d_U_read_61 (by decide) ?_
              refine lv_lushr C.x C.b d_U_read_62 (wb_shr (by omega) (by omega)) ?_
              refine ra_l (y := lN (vv / 2)) (rfl) ?_
              refine lv_iload C.x C.b d_U_read_63 (lv_at hl 7 rfl) ?_
              refine lv_iload_n C.x C.b d_U_read_65 rfl (lv_at hl 4 rfl) ?_
              refine lv_iload C.x C.b d_U_read_66 (lv_at hl 5 rfl) ?_
              refine lv_aload C.x C.b d_U_read_68 (lv_at hl 6 rfl) ?_
              refine ciS (wr := [oU u sm]) C hA hP hD hS hl.1 (c_U_one l D cI cB b r sz k E cap va n w (vv / 2) sp I t hI hI8 hE hIc hcap hn hw h hvat (by omega) (by omega) vs) ok_U_58 [] [1, 2, 3] [0] rfl (by decide) rfl (by decide) (by decide) rfl rfl (Nat.le_of_ble_eq_true rfl) (⟨by omega, by omega⟩) (⟨Nat.zero_le _, Nat.zero_le _⟩) d_U_read_70 ?_
              intro rk w1 H locs hw9 hP hD hS
              obtain ⟨k2, f2, a2, vs2, rfl, rfl, hq9⟩ := hw9
              have hP : va_P D classes [oU u sm, oB b r sz a2 f2, aB cB r cap t, aN cI sp 4096 vs2] H := hP
              have hD : va_D A [oU u sm, oB b r sz a2 f2, aB cB r cap t, aN cI sp 4096 vs2] := hD
              have hk29 := hq9.1
              have ha29 := hq9.2.1
              have hst := e3 f2 a2 k2 vs2 rfl h4 h5 hvs hq9
              have hf29 : f2 ≤ 5 := by obtain ⟨-, -, q | q | q | q⟩ := hq9 <;> omega
              refine lv_istore (lv' := [(6, .int (nI k2)), (7, .long (lN vv)), (0, .ref u), (1, .ref b), (2, .int (nI E)), (3, .int (nI n)), (4, .int (nI w)), (5, .ref sp)]) C.x C.b d_U_read_73 hl (by decide) rfl (fun ls hl => ?_)
              refine lv_goto (tgt := 96) C.x C.b d_U_read_75 (by decide) ?_
              refine lv_goto (tgt := 3) C.x C.b d_U_read_96 (by decide) ?_
              rcases hst with ⟨hf2, hs1⟩ | ⟨rfl, hs1, hs2, r2, hs3, hs4⟩
              · refine lv_iload C.x C.b d_U_read_3 (lv_at hl 0 rfl) ?_
                refine lv_iload_n C.x C.b d_U_read_5 rfl (lv_at hl 5 rfl) ?_
                refine jc_ge (tgt := 99) C d_U_read_6 (by decide) (by omega) (by omega) (fun hz => ?_) (fun hz => ?_)
                · exact lp_U_readE C hA u sm b r sz a2 f2 E cap sp t vs2 (by omega) (by omega) (by omega) post (fun w1 hw1 => hp w1 ⟨_, _, _, hw1, by rw [if_neg (fun z => hf2 z.1), fin_f (by rw [hs1]; exact hf2), hs1]; exact ⟨rfl, fun z => absurd z hf2⟩⟩) hR1 hR2 H locs ls hP hD hS (lv_sub hl [3, 4] rfl)
                · refine lv_aload_n C.x C.b d_U_read_9 rfl (lv_at hl 3 rfl) ?_
                  refine gfN C hP 1 0 3 rfl rfl (by decide) C.ns.2.2.2.1 rfl d_U_read_10 ?_
                  refine jz_ne (tgt := 99) C d_U_read_13 (by decide) (by omega) (fun hz2 => ?_) (fun hz2 => ?_)
                  · exact lp_U_readE C hA u sm b r sz a2 f2 E cap sp t vs2 (by omega) (by omega) (by omega) post (fun w1 hw1 => hp w1 ⟨_, _, _, hw1, by rw [if_neg (fun z => hf2 z.1), fin_f (by rw [hs1]; exact hf2), hs1]; exact ⟨rfl, fun z => absurd z hf2⟩⟩) hR1 hR2 H locs ls hP hD hS (lv_sub hl [3, 4] rfl)
                  · exact absurd hz2 (hf2)
              · exact ih k2 a2 vs2 r2 (by omega) (by omega) hs2 hs4 (fun w1 q => hp w1 (by rw [hs3]; exact q)) H locs ls hP hD hS (lv_sub hl [2, 3, 4, 5, 6, 7, 0] rfl)
          · refine lv_aload_n C.x C.b d_U_read_40 rfl (lv_at hl 2 rfl) ?_
            refine lv_iconst (v := nI 3) C.x C.b d_U_read_41 (by decide) ?_
            refine cvV (wr := [oU u sm, aB cB r cap t, aN cI sp 4096 vs]) C hA hP hD hS hl.1 (c_B_fail l D cI cB b r sz va 0 3 (by decide)) ok_U_55 [] [1] [0, 2, 3] 0 0 rfl rfl rfl rfl (by decide) rfl (by decide) (by decide) rfl rfl (Nat.le_of_ble_eq_true rfl) (⟨by (try dsimp only [rmO]); omega, by (try dsimp only [rmO]); omega⟩) (⟨by (try dsimp only [rmO]); omega, by (try dsimp only [rmO]); omega⟩) d_U_read_42 ?_
            intro w1 H locs hw hP hD hS
            obtain rfl := hw
            have hP : va_P D classes [oU u sm, aB cB r cap t, aN cI sp 4096 vs, oB b r sz va 3] H := hP
            have hD : va_D A [oU u sm, aB cB r cap t, aN cI sp 4096 vs, oB b r sz va 3] := hD
            have hP : va_P D classes [oU u sm, oB b r sz va 3, aB cB r cap t, aN cI sp 4096 vs] H := hP.sub [0, 3, 1, 2] rfl
            have hD : va_D A [oU u sm, oB b r sz va 3, aB cB r cap t, aN cI sp 4096 vs] := hD.sub [0, 3, 1, 2] (by decide) rfl
            refine lv_goto (tgt := 96) C.x C.b d_U_read_45 (by decide) ?_
            refine lv_goto (tgt := 3) C.x C.b d_U_read_96 (by decide) ?_
            refine lv_iload C.x C.b d_U_read_3 (lv_at hl 7 rfl) ?_
            refine lv_iload_n C.x C.b d_U_read_5 rfl (lv_at hl 4 rfl) ?_
            refine jc_ge (tgt := 99) C d_U_read_6 (by decide) (by omega) (by omega) (fun hz => ?_) (fun hz => ?_)
            · exact lp_U_readE C hA u sm b r sz va 3 E cap sp t vs (by omega) (by omega) (by omega) post (fun w1 hw1 => hp w1 ⟨_, _, _, hw1, by rw [e2 rfl h4, if_neg (fun z => absurd z.1 (by decide))]; exact ⟨rfl, fun z => absurd z (by decide)⟩⟩) hR1 hR2 H locs ls hP hD hS (lv_sub hl [2, 3] rfl)
            · refine lv_aload_n C.x C.b d_U_read_9 rfl (lv_at hl 2 rfl) ?_
              refine gfN C hP 1 0 3 rfl rfl (by decide) C.ns.2.2.2.1 rfl d_U_read_10 ?_
              refine jz_ne (tgt := 99) C d_U_read_13 (by decide) (by omega) (fun hz2 => ?_) (fun hz2 => ?_)
              · exact lp_U_readE C hA u sm b r sz va 3 E cap sp t vs (by omega) (by omega) (by omega) post (fun w1 hw1 => hp w1 ⟨_, _, _, hw1, by rw [e2 rfl h4, if_neg (fun z => absurd z.1 (by decide))]; exact ⟨rfl, fun z => absurd z (by decide)⟩⟩) hR1 hR2 H locs ls hP hD hS (lv_sub hl [2, 3] rfl)
              · exact absurd hz2 (by decide)
        · exact retv C hP hD hS d_U_read_30 (by omega) (by omega) (hp _ ⟨_, _, _, rfl, by rw [e1 h3, fin_f h3], fun z => absurd z h3⟩)
set_option maxHeartbeats 4000000 in
set_option maxRecDepth 100000 in
/-- read: the decoder -/
theorem c_U_read (l : Launch) (D : va_G) (cI cB : ClassId) (u sm b r sz E cap n w sp : Nat) (I : List Nat) (t : Nat → Nat) (hI : Hd t I) (hI8 : ∀ x ∈ I, x < 256) (hE : E ≤ I.length) (hIc : I.length ≤ cap) (hcap : cap ≤ 65536) (hn : n ≤ 4096) (hw : w ≤ 32) (vs : Nat → Nat) : Kv l D cI cB y_U_read b_U_read 9 4 98 0 0 [.ref u, .ref b, .int (nI E), .int (nI n), .int (nI w), .ref sp] [oU u sm, oB b r sz 0 0, aB cB r cap t, aN cI sp 4096 vs] (fun w1 => ∃ (f2 a2 : Nat) (vs2 : Nat → Nat), w1 = [oU u sm, oB b r sz a2 f2, aB cB r cap t, aN cI sp 4096 vs2] ∧ f2 = (dcA (gt I) E n w).1 ∧ (f2 = 0 → ∀ j, j < n → vs2 j = (dcA (gt I) E n w).2 j)) := by
  refine ent (fun A => va_Qv _ (BW D A) A) (by decide) (Nat.le_of_ble_eq_true rfl) ?_
  intro p e s m below meth c A ls C hA hP hD hS hl
  have hl : lv_has ls 9 [(0, .ref u), (1, .ref b), (2, .int (nI E)), (3, .int (nI n)), (4, .int (nI w)), (5, .ref sp)] := hl
  refine lv_iconst (v := nI 0) C.x C.b d_U_read_0 (by decide) ?_
  refine lv_istore (lv' := [(6, .int (nI 0)), (0, .ref u), (1, .ref b), (2, .int (nI E)), (3, .int (nI n)), (4, .int (nI w)), (5, .ref sp)]) C.x C.b d_U_read_1 hl (by decide) rfl (fun ls hl => ?_)
  exact lp_U_read C hA u sm b r sz E cap n w sp I t hI hI8 hE hIc hcap hn hw _ (Nat.le_refl 4) (Nat.le_refl 98) n 0 0 vs (fun _ => 0) (by omega) (by omega) (by omega) (fun j hj => by omega) (fun w1 q => by rw [Nat.zero_min] at q; exact q) _ _ ls hP hD hS (lv_sub hl [1, 2, 3, 4, 5, 6, 0] rfl)
end
section
/-! the abstract state: tape T, input I, out O, row V, width w; what the class's and the reference's cells hold of it; what each call does -/
def Vd (T I O V : List Nat) (w : Nat) : Prop := T.length ≤ 8192 ∧ I.length ≤ 8192 ∧ O.length ≤ 17437 ∧ V.length ≤ 4096 ∧ w ≤ 32 ∧ (∀ x ∈ T, x < 256) ∧ (∀ x ∈ I, x < 256) ∧ (∀ x ∈ O, x < 256) ∧ (∀ x ∈ V, x < 2 ^ 32)
def RX (cI cB : ClassId) (x : Nat) (T I O V : List Nat) (w : Nat) (ws : va_W) : Prop :=
  ∃ (tp ip op ru ro sp rt ri rO sm ta tf ia fi oa fo u : Nat) (tt ti to_ v vs S : Nat → Nat),
    ws = [oX x tp ip op ru ro sp V.length w, oB tp rt T.length ta tf, aB cB rt 8192 tt, oB ip ri I.length ia fi, aB cB ri 8192 ti, oB op rO O.length oa fo, aB cB rO (8192 * u) to_, oU ru sm, aN cI sm 4096 S, aN cI ro 4096 v, aN cI sp 4096 vs] ∧
    Hd tt T ∧ Hd ti I ∧ Hd to_ O ∧ Hd v V ∧ (u = 1 ∨ u = 2 ∨ u = 4) ∧ O.length ≤ 8192 * u
def RM (cI : ClassId) (x : Nat) (T I O V : List Nat) (w : Nat) (ws : va_W) : Prop :=
  ∃ (ro sp tp ip op a0 f0 : Nat) (tt ti to_ v vs : Nat → Nat),
    ws = [oM x 0 ro sp V.length w T.length I.length O.length a0 f0 tp ip op, aN cI ro 4096 v, aN cI sp 4104 vs, aN cI tp 8192 tt, aN cI ip 8192 ti, aN cI op 24000 to_] ∧
    Hd tt T ∧ Hd ti I ∧ Hd to_ O ∧ Hd v V
def four (x : Nat) : List Nat := [x / 2 ^ 24 % 256, x / 2 ^ 16 % 256, x / 2 ^ 8 % 256, x / 2 ^ 0 % 256]
def five (a b c d e : Nat) : List Nat := four a ++ four b ++ four c ++ four d ++ four e
def fdR (T : List Nat) : Int32 := if T.length + 20 ≤ 8192 then nI 1 else nI 0
def fdT (T : List Nat) (a b c d e : Nat) : List Nat := if T.length + 20 ≤ 8192 then T ++ five a b c d e else T
def enR (T : List Nat) (a : Nat) : Int32 := if a ≤ T.length then nI 1 else nI 0
def enT (T : List Nat) (a : Nat) : List Nat := if a ≤ T.length then [] else T
def enI (T I : List Nat) (a : Nat) : List Nat := if a ≤ T.length then T.take a else I
def wiR (a : Nat) : Int32 := if a ≤ 32 then nI 1 else nI 0
def wiW (w a : Nat) : Nat := if a ≤ 32 then a else w
def adR (V : List Nat) (k : Nat) : Int32 := if 1 ≤ k ∧ V.length + k ≤ 4096 then nI 1 else nI 0
def adV (V : List Nat) (x k : Nat) : List Nat := if 1 ≤ k ∧ V.length + k ≤ 4096 then V ++ List.replicate k x else V
def ftF (v : Nat → Nat) (w : Nat) : Nat → Bool
  | 0 => true
  | k + 1 => ftF v w k && decide (v k / 2 ^ w = 0)
def ecR (V : List Nat) (w : Nat) : Int32 := if ftF (gt V) w V.length = true then nI (encF (gt V) V.length w V.length 0).length else -1
def ecO (V : List Nat) (w : Nat) : List Nat := if ftF (gt V) w V.length = true then encF (gt V) V.length w V.length 0 else []
def dcR (I : List Nat) (w a : Nat) : Int32 := if a ≤ 4096 then nI (dcA (gt I) I.length a w).1 else -1
def dcV (I V : List Nat) (w a : Nat) : List Nat := if a ≤ 4096 ∧ (dcA (gt I) I.length a w).1 = 0 then (List.range a).map (dcA (gt I) I.length a w).2 else V
def tuR (O : List Nat) : Int32 := if O.length ≤ 8192 then nI 1 else nI 0
def tuI (I O : List Nat) : List Nat := if O.length ≤ 8192 then O else I
def vaR (V : List Nat) (a : Nat) : Int32 := if a < V.length then nI (gt V a) else nI 0
def ouR (O : List Nat) (a : Nat) : Int32 := if a < O.length then nI (gt O a) else -1
/-- pure facts -/
theorem four_len (x : Nat) : (four x).length = 4 := rfl
theorem five_len (a b c d e : Nat) : (five a b c d e).length = 20 := rfl
theorem four_byte (x : Nat) : ∀ y ∈ four x, y < 256 := by
  intro y hy
  simp only [four, List.mem_cons, List.not_mem_nil, or_false] at hy
  rcases hy with rfl | rfl | rfl | rfl <;> exact Nat.mod_lt _ (by decide)
theorem five_byte (a b c d e : Nat) : ∀ y ∈ five a b c d e, y < 256 := by
  intro y hy
  simp only [five, List.mem_append] at hy
  rcases hy with (((h | h) | h) | h) | h <;> exact four_byte _ y h
theorem take_gt {L : List Nat} {k : Nat} (h : k < L.length) : L.take (k + 1) = L.take k ++ [gt L k] := by
  rw [List.take_succ]
  congr 1
  unfold gt
  rw [List.getD_eq_getElem?_getD, List.getElem?_eq_getElem h]
  rfl
theorem gt_take {L : List Nat} {k j : Nat} (h : j < k) : gt (L.take k) j = gt L j := by
  unfold gt
  rw [List.getD_eq_getElem?_getD, List.getD_eq_getElem?_getD, List.getElem?_take]
  simp [h]
theorem ftF_spec {v : Nat → Nat} {w : Nat} : ∀ {n : Nat}, ftF v w n = true → ∀ j, j < n → v j < 2 ^ w := by
  intro n
  induction n with
  | zero => intro _ j hj; omega
  | succ n ih =>
    intro h j hj
    simp only [ftF, Bool.and_eq_true, decide_eq_true_eq] at h
    by_cases e : j = n
    · rw [e]
      have hp := Nat.two_pow_pos w
      rcases Nat.lt_or_ge (v n) (2 ^ w) with q | q
      · exact q
      · exact absurd h.2 (by have := Nat.div_pos q hp; omega)
    · exact ih h.1 j (by omega)
theorem ftF_mono {v : Nat → Nat} {w : Nat} {k : Nat} (h : ftF v w k = false) : ∀ {n : Nat}, k ≤ n → ftF v w n = false := by
  intro n
  induction n with
  | zero => intro hk; rw [show k = 0 by omega] at h; exact h
  | succ n ih =>
    intro hk
    rcases Nat.lt_or_ge n k with q | q
    · rw [show n + 1 = k by omega]; exact h
    · simp only [ftF, ih q, Bool.false_and]
theorem dcF_lt {t : Nat → Nat} {E n w : Nat} (hw : w ≤ 32) : ∀ d a k r, (∀ j, r j < 2 ^ 32) → ∀ j, (dcF t E n w d a k r).2.2 j < 2 ^ 32 := by
  have hp : (2 : Nat) ^ w ≤ 2 ^ 32 := Nat.pow_le_pow_right (by decide) hw
  intro d
  induction d with
  | zero => intro a k r h; exact h
  | succ d ih =>
    intro a k r h
    rw [dcF]
    split
    · exact h
    · split
      · exact h
      · split
        · exact h
        · split
          · split
            · exact h
            · split
              · exact h
              · split
                · exact h
                · rename_i hx
                  refine ih _ _ _ (fun j => ?_)
                  split
                  · have hx0 : bs (ib t) (8 * (vr t E 10 0 a 0).2.1) (8 * ((w + 7) / 8)) / 2 ^ w = 0 := Classical.byContradiction fun q => hx q
                    have h2 := (Nat.div_eq_zero_iff).mp hx0
                    have h3 := Nat.two_pow_pos w
                    omega
                  · exact h j
          · split
            · exact h
            · split
              · exact h
              · split
                · exact h
                · refine ih _ _ _ (fun j => ?_)
                  split
                  · have := bs_lt (ib t) (8 * (vr t E 10 0 a 0).2.1 + w * (j - k)) w
                    omega
                  · exact h j
/-- the state stays sound -/
theorem Vd_feed {T I O V : List Nat} {w a b c d e : Nat} (h : Vd T I O V w) : Vd (fdT T a b c d e) I O V w := by
  obtain ⟨h1, h2, h3, h4, h5, h6, h7, h8, h9⟩ := h
  unfold fdT
  split
  · refine ⟨by rw [List.length_append, five_len]; omega, h2, h3, h4, h5, fun x hx => ?_, h7, h8, h9⟩
    rcases List.mem_append.mp hx with q | q
    · exact h6 x q
    · exact five_byte _ _ _ _ _ x q
  · exact ⟨h1, h2, h3, h4, h5, h6, h7, h8, h9⟩
theorem Vd_end {T I O V : List Nat} {w a : Nat} (h : Vd T I O V w) : Vd (enT T a) (enI T I a) O V w := by
  obtain ⟨h1, h2, h3, h4, h5, h6, h7, h8, h9⟩ := h
  unfold enT enI
  split
  · refine ⟨by simp, by rw [List.length_take]; omega, h3, h4, h5, by simp, fun x hx => h6 x (List.mem_of_mem_take hx), h8, h9⟩
  · exact ⟨h1, h2, h3, h4, h5, h6, h7, h8, h9⟩
theorem Vd_width {T I O V : List Nat} {w a : Nat} (h : Vd T I O V w) : Vd T I O V (wiW w a) := by
  obtain ⟨h1, h2, h3, h4, h5, h6, h7, h8, h9⟩ := h
  exact ⟨h1, h2, h3, h4, by unfold wiW; split <;> omega, h6, h7, h8, h9⟩
theorem Vd_add {T I O V : List Nat} {w x k : Nat} (hx : x < 2 ^ 32) (h : Vd T I O V w) : Vd T I O (adV V x k) w := by
  obtain ⟨h1, h2, h3, h4, h5, h6, h7, h8, h9⟩ := h
  unfold adV
  split
  · refine ⟨h1, h2, h3, by rw [List.length_append, List.length_replicate]; omega, h5, h6, h7, h8, fun y hy => ?_⟩
    rcases List.mem_append.mp hy with q | q
    · exact h9 y q
    · rw [(List.mem_replicate.mp q).2]; exact hx
  · exact ⟨h1, h2, h3, h4, h5, h6, h7, h8, h9⟩
theorem Vd_clear {T I O V : List Nat} {w : Nat} (h : Vd T I O V w) : Vd T I O [] w := by
  obtain ⟨h1, h2, h3, h4, h5, h6, h7, h8, h9⟩ := h
  exact ⟨h1, h2, h3, by simp, h5, h6, h7, h8, by simp⟩
theorem ecO_len {V : List Nat} {w : Nat} (hw : w ≤ 32) (hV : V.length ≤ 4096) : (ecO V w).length ≤ 17437 := by
  unfold ecO
  split
  · have := encF_len (gt V) (n := V.length) hw V.length 0 (by omega)
    omega
  · simp
theorem Vd_enc {T I O V : List Nat} {w : Nat} (h : Vd T I O V w) : Vd T I (ecO V w) V w := by
  obtain ⟨h1, h2, h3, h4, h5, h6, h7, h8, h9⟩ := h
  refine ⟨h1, h2, ecO_len h5 h4, h4, h5, h6, h7, fun x hx => ?_, h9⟩
  unfold ecO at hx
  split at hx
  · exact encF_byte (gt V) h4 _ _ x hx
  · simp at hx
theorem Vd_dec {T I O V : List Nat} {w a : Nat} (h : Vd T I O V w) : Vd T I O (dcV I V w a) w := by
  obtain ⟨h1, h2, h3, h4, h5, h6, h7, h8, h9⟩ := h
  unfold dcV
  split
  · rename_i q
    refine ⟨h1, h2, h3, by simp; omega, h5, h6, h7, h8, fun x hx => ?_⟩
    obtain ⟨j, -, rfl⟩ := List.mem_map.mp hx
    exact dcF_lt h5 _ _ _ _ (fun _ => by decide) j
  · exact ⟨h1, h2, h3, h4, h5, h6, h7, h8, h9⟩
theorem Vd_turn {T I O V : List Nat} {w : Nat} (h : Vd T I O V w) : Vd T (tuI I O) O V w := by
  obtain ⟨h1, h2, h3, h4, h5, h6, h7, h8, h9⟩ := h
  unfold tuI
  split
  · exact ⟨h1, by omega, h3, h4, h5, h6, h8, h8, h9⟩
  · exact ⟨h1, h2, h3, h4, h5, h6, h7, h8, h9⟩
end
section
/-! contracts of RunRows: four, feed, width, add, clear, size, value (printed by gen/x1.py) -/
section RS
variable {p : Program} {l : Launch} {e : Env} {R : Room} {s : State} {m : MethodId} {args : Array Value} {below : List Frame} {meth : Method} {c : Code} {H : Heap} {locs : List Loc} {cells slots : Nat} {Q : State → Prop}
variable {D : va_G} {cI cB : ClassId} {cc : ByteArray} {nL : Nat} {own : String} {ret : Option FieldType} {nm : String} {pc : Nat} {ls : Array Slot} {rest : List Value}
theorem nI_slt {a b : Nat} (ha : a < 2 ^ 32) (hb : b < 2 ^ 31) : nI a < nI b ↔ (2 ^ 31 ≤ a ∨ a < b) := by
  rcases Nat.lt_or_ge a (2 ^ 31) with q | q
  · rw [nI_ltI q hb]; omega
  · have h1 := (nI_neg ha).mpr q
    have h2 : (0 : Int32) ≤ nI b := nI_pos' hb
    constructor
    · intro _; exact Or.inl q
    · intro _
      rw [Int32.lt_iff_toInt_lt] at h1 ⊢
      rw [Int32.le_iff_toInt_le] at h2
      omega
theorem jcs_lt (C : Cx p s m args meth c D cI cB cc nL own ret nm) {off : Int} {tgt a b : Nat} (hd : decode cc pc = .ok (.if_icmp .lt off, 3)) (ht : (pc : Int) + off = (tgt : Int)) (ha : a < 2 ^ 32) (hb : b < 2 ^ 31) (kt : 2 ^ 31 ≤ a ∨ a < b → W p l e R s m args below meth c H locs cells slots Q (F0 m tgt ls rest)) (kf : a < 2 ^ 31 ∧ b ≤ a → W p l e R s m args below meth c H locs cells slots Q (F0 m (pc + 3) ls rest)) : W p l e R s m args below meth c H locs cells slots Q (F0 m pc ls (.int (nI b) :: .int (nI a) :: rest)) := lv_icmp_lt C.x C.b hd ht (fun h => kt ((nI_slt ha hb).mp h)) (fun h => kf (by
  have q : ¬ (2 ^ 31 ≤ a ∨ a < b) := fun z => h ((nI_slt ha hb).mpr z)
  omega))
end RS
theorem Hd_rep {t : Nat → Nat} {L : List Nat} {k x : Nat} (h : Hd t (L ++ List.replicate k x)) : Hd (va_up t (L.length + k) x) (L ++ List.replicate (k + 1) x) := by
  have e : (L ++ List.replicate (k + 1) x) = (L ++ List.replicate k x) ++ [x] := by rw [List.replicate_succ', List.append_assoc]
  rw [e]
  have := Hd_push h x
  rw [List.length_append, List.length_replicate] at this
  exact this
set_option maxHeartbeats 4000000 in
set_option maxRecDepth 100000 in
/-- four(x): four bytes, the highest first -/
theorem c_X_four (l : Launch) (D : va_G) (cI cB : ClassId) (x tp ip op ru ro sp vn w rt ta tf x1 : Nat) (T : List Nat) (tt : Nat → Nat) (hT : Hd tt T) (hT4 : T.length + 4 ≤ 8192) (hx1 : x1 < 2 ^ 32) : Kv l D cI cB y_X_four b_X_four 3 2 40 0 0 [.ref x, .int (nI x1)] [oX x tp ip op ru ro sp vn w, oB tp rt T.length ta tf, aB cB rt 8192 tt] (fun w1 => ∃ (r2 : Nat) (t2 : Nat → Nat), w1 = [oX x tp ip op ru ro sp vn w, oB tp r2 (T ++ four x1).length ta tf, aB cB r2 8192 t2] ∧ Hd t2 (T ++ four x1)) := by
  refine ent (fun A => va_Qv _ (BW D A) A) (by decide) (Nat.le_of_ble_eq_true rfl) ?_
  intro p e s m below meth c A ls C hA hP hD hS hl
  have hl : lv_has ls 3 [(0, .ref x), (1, .int (nI x1))] := hl
  refine lv_bipush (v := nI 24) C.x C.b d_X_four_0 (by decide) ?_
  refine lv_istore_n (lv' := [(2, .int (nI 24)), (0, .ref x), (1, .int (nI x1))]) C.x C.b d_X_four_2 rfl hl (by decide) rfl (fun ls hl => ?_)
  refine lv_iload_n C.x C.b d_X_four_3 rfl (lv_at hl 0 rfl) ?_
  refine jz_lt (tgt := 23) C d_X_four_4 (by decide) (by omega) (fun hz => ?_) (fun hz => ?_)
  · exfalso; omega
  · refine lv_aload_n C.x C.b d_X_four_7 rfl (lv_at hl 1 rfl) ?_
    refine gf C hP 0 2 0 rfl rfl (by decide) fl_X_14 rfl d_X_four_8 ?_
    refine lv_iload_n C.x C.b d_X_four_11 rfl (lv_at hl 2 rfl) ?_
    refine lv_iload_n C.x C.b d_X_four_12 rfl (lv_at hl 0 rfl) ?_
    refine lv_ishr C.x C.b d_X_four_13 ?_
    obtain ⟨c24, -, ec24, e824⟩ := ni_sshr (n := x1) (k := 24) hx1 (by decide)
    refine ra_i (y := nI c24) (ec24) ?_
    refine cvV (wr := [oX x tp ip op ru ro sp vn w]) C hA hP hD hS hl.1 (c_B_put l D cI cB tp rt ta tf c24 1 1 T tt hT (Or.inl ⟨by omega, rfl⟩) (by omega) (by decide) (by decide)) ok_X_45 [] [1, 2] [0] 0 0 rfl rfl rfl rfl (by decide) rfl (by decide) (by decide) rfl rfl (Nat.le_of_ble_eq_true rfl) (⟨by (try dsimp only [rmO]); omega, by (try dsimp only [rmO]); omega⟩) (⟨by (try dsimp only [rmO]); omega, by (try dsimp only [rmO]); omega⟩) d_X_four_14 ?_
    intro w1 H locs hw hP hD hS
    obtain ⟨r24, t24, rfl, hL24⟩ := hw
    have hP : va_P D classes [oX x tp ip op ru ro sp vn w, oB tp r24 (T.length + 1) ta tf, aB cB r24 8192 t24] H := hP
    have hD : va_D A [oX x tp ip op ru ro sp vn w, oB tp r24 (T.length + 1) ta tf, aB cB r24 8192 t24] := hD
    refine W.widen (k := 0) (n := 0) (by omega) (by omega) ?_
    rw [e824] at hL24
    obtain ⟨T24, hm24⟩ : ∃ z, z = T ++ [x1 / 2 ^ 24 % 256] := ⟨_, rfl⟩
    rw [← hm24] at hL24
    have hn24 : T.length + 1 = T24.length := by rw [hm24]; simp
    rw [hn24] at hP hD
    refine lv_iinc (v := (nI 16)) (lv' := [(2, .int (nI 16)), (0, .ref x), (1, .int (nI x1))]) C.x C.b d_X_four_17 hl (k := 0) rfl (by decide) (by decide) rfl (fun ls hl => ?_)
    refine lv_goto (tgt := 3) C.x C.b d_X_four_20 (by decide) ?_
    refine lv_iload_n C.x C.b d_X_four_3 rfl (lv_at hl 0 rfl) ?_
    refine jz_lt (tgt := 23) C d_X_four_4 (by decide) (by omega) (fun hz => ?_) (fun hz => ?_)
    · exfalso; omega
    · refine lv_aload_n C.x C.b d_X_four_7 rfl (lv_at hl 1 rfl) ?_
      refine gf C hP 0 2 0 rfl rfl (by decide) fl_X_14 rfl d_X_four_8 ?_
      refine lv_iload_n C.x C.b d_X_four_11 rfl (lv_at hl 2 rfl) ?_
      refine lv_iload_n C.x C.b d_X_four_12 rfl (lv_at hl 0 rfl) ?_
      refine lv_ishr C.x C.b d_X_four_13 ?_
      obtain ⟨c16, -, ec16, e816⟩ := ni_sshr (n := x1) (k := 16) hx1 (by decide)
      refine ra_i (y := nI c16) (ec16) ?_
      refine cvV (wr := [oX x tp ip op ru ro sp vn w]) C hA hP hD hS hl.1 (c_B_put l D cI cB tp r24 ta tf c16 1 1 T24 t24 hL24 (Or.inl ⟨by omega, rfl⟩) (by omega) (by decide) (by decide)) ok_X_45 [] [1, 2] [0] 0 0 rfl rfl rfl rfl (by decide) rfl (by decide) (by decide) rfl rfl (Nat.le_of_ble_eq_true rfl) (⟨by (try dsimp only [rmO]); omega, by (try dsimp only [rmO]); omega⟩) (⟨by (try dsimp only [rmO]); omega, by (try dsimp only [rmO]); omega⟩) d_X_four_14 ?_
      intro w1 H locs hw hP hD hS
      obtain ⟨r16, t16, rfl, hL16⟩ := hw
      have hP : va_P D classes [oX x tp ip op ru ro sp vn w, oB tp r16 (T24.length + 1) ta tf, aB cB r16 8192 t16] H := hP
      have hD : va_D A [oX x tp ip op ru ro sp vn w, oB tp r16 (T24.length + 1) ta tf, aB cB r16 8192 t16] := hD
      refine W.widen (k := 0) (n := 0) (by omega) (by omega) ?_
      rw [e816] at hL16
      obtain ⟨T16, hm16⟩ : ∃ z, z = T24 ++ [x1 / 2 ^ 16 % 256] := ⟨_, rfl⟩
      rw [← hm16] at hL16
      have hn16 : T24.length + 1 = T16.length := by rw [hm16]; simp
      rw [hn16] at hP hD
      refine lv_iinc (v := (nI 8)) (lv' := [(2, .int (nI 8)), (0, .ref x), (1, .int (nI x1))]) C.x C.b d_X_four_17 hl (k := 0) rfl (by decide) (by decide) rfl (fun ls hl => ?_)
      refine lv_goto (tgt := 3) C.x C.b d_X_four_20 (by decide) ?_
      refine lv_iload_n C.x C.b d_X_four_3 rfl (lv_at hl 0 rfl) ?_
      refine jz_lt (tgt := 23) C d_X_four_4 (by decide) (by omega) (fun hz => ?_) (fun hz => ?_)
      · exfalso; omega
      · refine lv_aload_n C.x C.b d_X_four_7 rfl (lv_at hl 1 rfl) ?_
        refine gf C hP 0 2 0 rfl rfl (by decide) fl_X_14 rfl d_X_four_8 ?_
        refine lv_iload_n C.x C.b d_X_four_11 rfl (lv_at hl 2 rfl) ?_
        refine lv_iload_n C.x C.b d_X_four_12 rfl (lv_at hl 0 rfl) ?_
        refine lv_ishr C.x C.b d_X_four_13 ?_
        obtain ⟨c8, -, ec8, e88⟩ := ni_sshr (n := x1) (k := 8) hx1 (by decide)
        refine ra_i (y := nI c8) (ec8) ?_
        refine cvV (wr := [oX x tp ip op ru ro sp vn w]) C hA hP hD hS hl.1 (c_B_put l D cI cB tp r16 ta tf c8 1 1 T16 t16 hL16 (Or.inl ⟨by omega, rfl⟩) (by omega) (by decide) (by decide)) ok_X_45 [] [1, 2] [0] 0 0 rfl rfl rfl rfl (by decide) rfl (by decide) (by decide) rfl rfl (Nat.le_of_ble_eq_true rfl) (⟨by (try dsimp only [rmO]); omega, by (try dsimp only [rmO]); omega⟩) (⟨by (try dsimp only [rmO]); omega, by (try dsimp only [rmO]); omega⟩) d_X_four_14 ?_
        intro w1 H locs hw hP hD hS
        obtain ⟨r8, t8, rfl, hL8⟩ := hw
        have hP : va_P D classes [oX x tp ip op ru ro sp vn w, oB tp r8 (T16.length + 1) ta tf, aB cB r8 8192 t8] H := hP
        have hD : va_D A [oX x tp ip op ru ro sp vn w, oB tp r8 (T16.length + 1) ta tf, aB cB r8 8192 t8] := hD
        refine W.widen (k := 0) (n := 0) (by omega) (by omega) ?_
        rw [e88] at hL8
        obtain ⟨T8, hm8⟩ : ∃ z, z = T16 ++ [x1 / 2 ^ 8 % 256] := ⟨_, rfl⟩
        rw [← hm8] at hL8
        have hn8 : T16.length + 1 = T8.length := by rw [hm8]; simp
        rw [hn8] at hP hD
        refine lv_iinc (v := (nI 0)) (lv' := [(2, .int (nI 0)), (0, .ref x), (1, .int (nI x1))]) C.x C.b d_X_four_17 hl (k := 0) rfl (by decide) (by decide) rfl (fun ls hl => ?_)
        refine lv_goto (tgt := 3) C.x C.b d_X_four_20 (by decide) ?_
        refine lv_iload_n C.x C.b d_X_four_3 rfl (lv_at hl 0 rfl) ?_
        refine jz_lt (tgt := 23) C d_X_four_4 (by decide) (by omega) (fun hz => ?_) (fun hz => ?_)
        · exfalso; omega
        · refine lv_aload_n C.x C.b d_X_four_7 rfl (lv_at hl 1 rfl) ?_
          refine gf C hP 0 2 0 rfl rfl (by decide) fl_X_14 rfl d_X_four_8 ?_
          refine lv_iload_n C.x C.b d_X_four_11 rfl (lv_at hl 2 rfl) ?_
          refine lv_iload_n C.x C.b d_X_four_12 rfl (lv_at hl 0 rfl) ?_
          refine lv_ishr C.x C.b d_X_four_13 ?_
          obtain ⟨c0, -, ec0, e80⟩ := ni_sshr (n := x1) (k := 0) hx1 (by decide)
          refine ra_i (y := nI c0) (ec0) ?_
          refine cvV (wr := [oX x tp ip op ru ro sp vn w]) C hA hP hD hS hl.1 (c_B_put l D cI cB tp r8 ta tf c0 1 1 T8 t8 hL8 (Or.inl ⟨by omega, rfl⟩) (by omega) (by decide) (by decide)) ok_X_45 [] [1, 2] [0] 0 0 rfl rfl rfl rfl (by decide) rfl (by decide) (by decide) rfl rfl (Nat.le_of_ble_eq_true rfl) (⟨by (try dsimp only [rmO]); omega, by (try dsimp only [rmO]); omega⟩) (⟨by (try dsimp only [rmO]); omega, by (try dsimp only [rmO]); omega⟩) d_X_four_14 ?_
          intro w1 H locs hw hP hD hS
          obtain ⟨r0, t0, rfl, hL0⟩ := hw
          have hP : va_P D classes [oX x tp ip op ru ro sp vn w, oB tp r0 (T8.length + 1) ta tf, aB cB r0 8192 t0] H := hP
          have hD : va_D A [oX x tp ip op ru ro sp vn w, oB tp r0 (T8.length + 1) ta tf, aB cB r0 8192 t0] := hD
          refine W.widen (k := 0) (n := 0) (by omega) (by omega) ?_
          rw [e80] at hL0
          obtain ⟨T0, hm0⟩ : ∃ z, z = T8 ++ [x1 / 2 ^ 0 % 256] := ⟨_, rfl⟩
          rw [← hm0] at hL0
          have hn0 : T8.length + 1 = T0.length := by rw [hm0]; simp
          rw [hn0] at hP hD
          refine lv_iinc (v := (-8)) (lv' := [(2, .int (-8)), (0, .ref x), (1, .int (nI x1))]) C.x C.b d_X_four_17 hl (k := 0) rfl (by decide) (by decide) rfl (fun ls hl => ?_)
          refine lv_goto (tgt := 3) C.x C.b d_X_four_20 (by decide) ?_
          refine lv_iload_n C.x C.b d_X_four_3 rfl (lv_at hl 0 rfl) ?_
          refine lv_if_lt (tgt := 23) C.x C.b d_X_four_4 (by decide) (fun _ => ?_) (fun h => absurd (by decide) h)
          have eq4 : T0 = T ++ four x1 := by rw [hm0, hm8, hm16, hm24]; simp [four]
          rw [eq4] at hP hD hL0
          have hP : va_P D classes [oX x tp ip op ru ro sp vn w, oB tp r0 ((T ++ four x1).length) ta tf, aB cB r0 8192 t0] H := hP.sub [0, 1, 2] rfl
          have hD : va_D A [oX x tp ip op ru ro sp vn w, oB tp r0 ((T ++ four x1).length) ta tf, aB cB r0 8192 t0] := hD.sub [0, 1, 2] (by decide) rfl
          exact retv C hP hD hS d_X_four_23 (by omega) (by omega) (⟨_, _, rfl, hL0⟩)
set_option maxHeartbeats 4000000 in
set_option maxRecDepth 100000 in
/-- feed -/
theorem c_X_feed (l : Launch) (D : va_G) (cI cB : ClassId) (x : Nat) (T I O V : List Nat) (w : Nat) (hv : Vd T I O V w) (ws : va_W) (hR : RX cI cB x T I O V w ws) (x1 : Nat) (hx1 : x1 < 2 ^ 32) (x2 : Nat) (hx2 : x2 < 2 ^ 32) (x3 : Nat) (hx3 : x3 < 2 ^ 32) (x4 : Nat) (hx4 : x4 < 2 ^ 32) (x5 : Nat) (hx5 : x5 < 2 ^ 32) : Ki l D cI cB y_X_feed b_X_feed 6 3 62 0 0 .boolean [.ref x, .int (nI x1), .int (nI x2), .int (nI x3), .int (nI x4), .int (nI x5)] ws (fun r w1 => r = fdR T ∧ RX cI cB x (fdT T x1 x2 x3 x4 x5) I O V w w1) := by
  obtain ⟨tp, ip, op, ru, ro, sp, rt, ri, rO, sm, ta, tf, ia, fi, oa, fo, u, tt, ti, to_, v, vs, S, rfl, hT, hI, hO, hV, hu, hul⟩ := hR
  obtain ⟨v1, v2, v3, v4, v5, v6, v7, v8, v9⟩ := hv
  refine ent (fun A => va_Qi _ (BW D A) A) (by decide) (Nat.le_of_ble_eq_true rfl) ?_
  intro p e s m below meth c A ls C hA hP hD hS hl
  have hl : lv_has ls 6 [(0, .ref x), (1, .int (nI x1)), (2, .int (nI x2)), (3, .int (nI x3)), (4, .int (nI x4)), (5, .int (nI x5))] := hl
  refine lv_aload_n C.x C.b d_X_feed_0 rfl (lv_at hl 0 rfl) ?_
  refine gf C hP 0 2 0 rfl rfl (by decide) fl_X_14 rfl d_X_feed_1 ?_
  refine gfN C hP 1 0 1 rfl rfl (by decide) C.ns.1 rfl d_X_feed_4 ?_
  refine lv_bipush (v := nI 20) C.x C.b d_X_feed_7 (by decide) ?_
  refine lv_iadd C.x C.b d_X_feed_9 ?_
  refine ra_i (nI_add _ _) ?_
  refine lv_sipush (v := nI 8192) C.x C.b d_X_feed_10 (by decide) ?_
  refine jc_le (tgt := 18) C d_X_feed_13 (by decide) (by omega) (by omega) (fun h => ?_) (fun h => ?_)
  · refine lv_aload_n C.x C.b d_X_feed_18 rfl (lv_at hl 0 rfl) ?_
    refine lv_iload_n C.x C.b d_X_feed_19 rfl (lv_at hl 1 rfl) ?_
    refine cvV (wr := [oB ip ri I.length ia fi, aB cB ri 8192 ti, oB op rO O.length oa fo, aB cB rO (8192 * u) to_, oU ru sm, aN cI sm 4096 S, aN cI ro 4096 v, aN cI sp 4096 vs]) C hA hP hD hS hl.1 (c_X_four l D cI cB x tp ip op ru ro sp V.length w rt ta tf x1 T tt hT (by omega) hx1) ok_X_42 [] [0, 1, 2] [3, 4, 5, 6, 7, 8, 9, 10] 2 0 rfl rfl rfl rfl (by decide) rfl (by decide) (by decide) rfl rfl (Nat.le_of_ble_eq_true rfl) (⟨by (try dsimp only [rmO]); omega, by (try dsimp only [rmO]); omega⟩) (⟨by (try dsimp only [rmO]); omega, by (try dsimp only [rmO]); omega⟩) d_X_feed_20 ?_
    intro w1 H locs hw hP hD hS
    obtain ⟨r1, t1, rfl, hL1⟩ := hw
    have hP : va_P D classes [oB ip ri I.length ia fi, aB cB ri 8192 ti, oB op rO O.length oa fo, aB cB rO (8192 * u) to_, oU ru sm, aN cI sm 4096 S, aN cI ro 4096 v, aN cI sp 4096 vs, oX x tp ip op ru ro sp V.length w, oB tp r1 ((T ++ four x1).length) ta tf, aB cB r1 8192 t1] H := hP
    have hD : va_D A [oB ip ri I.length ia fi, aB cB ri 8192 ti, oB op rO O.length oa fo, aB cB rO (8192 * u) to_, oU ru sm, aN cI sm 4096 S, aN cI ro 4096 v, aN cI sp 4096 vs, oX x tp ip op ru ro sp V.length w, oB tp r1 ((T ++ four x1).length) ta tf, aB cB r1 8192 t1] := hD
    obtain ⟨T1, hm1⟩ : ∃ z, z = T ++ four x1 := ⟨_, rfl⟩
    have hn1 : T1.length = T.length + 4 := by rw [hm1, List.length_append, four_len]
    rw [← hm1] at hP hD hL1
    refine lv_aload_n C.x C.b d_X_feed_23 rfl (lv_at hl 0 rfl) ?_
    refine lv_iload_n C.x C.b d_X_feed_24 rfl (lv_at hl 2 rfl) ?_
    refine cvV (wr := [oB ip ri I.length ia fi, aB cB ri 8192 ti, oB op rO O.length oa fo, aB cB rO (8192 * u) to_, oU ru sm, aN cI sm 4096 S, aN cI ro 4096 v, aN cI sp 4096 vs]) C hA hP hD hS hl.1 (c_X_four l D cI cB x tp ip op ru ro sp V.length w r1 ta tf x2 T1 t1 hL1 (by omega) hx2) ok_X_42 [] [8, 9, 10] [0, 1, 2, 3, 4, 5, 6, 7] 2 0 rfl rfl rfl rfl (by decide) rfl (by decide) (by decide) rfl rfl (Nat.le_of_ble_eq_true rfl) (⟨by (try dsimp only [rmO]); omega, by (try dsimp only [rmO]); omega⟩) (⟨by (try dsimp only [rmO]); omega, by (try dsimp only [rmO]); omega⟩) d_X_feed_25 ?_
    intro w1 H locs hw hP hD hS
    obtain ⟨r2, t2, rfl, hL2⟩ := hw
    have hP : va_P D classes [oB ip ri I.length ia fi, aB cB ri 8192 ti, oB op rO O.length oa fo, aB cB rO (8192 * u) to_, oU ru sm, aN cI sm 4096 S, aN cI ro 4096 v, aN cI sp 4096 vs, oX x tp ip op ru ro sp V.length w, oB tp r2 ((T1 ++ four x2).length) ta tf, aB cB r2 8192 t2] H := hP
    have hD : va_D A [oB ip ri I.length ia fi, aB cB ri 8192 ti, oB op rO O.length oa fo, aB cB rO (8192 * u) to_, oU ru sm, aN cI sm 4096 S, aN cI ro 4096 v, aN cI sp 4096 vs, oX x tp ip op ru ro sp V.length w, oB tp r2 ((T1 ++ four x2).length) ta tf, aB cB r2 8192 t2] := hD
    obtain ⟨T2, hm2⟩ : ∃ z, z = T1 ++ four x2 := ⟨_, rfl⟩
    have hn2 : T2.length = T1.length + 4 := by rw [hm2, List.length_append, four_len]
    rw [← hm2] at hP hD hL2
    refine lv_aload_n C.x C.b d_X_feed_28 rfl (lv_at hl 0 rfl) ?_
    refine lv_iload_n C.x C.b d_X_feed_29 rfl (lv_at hl 3 rfl) ?_
    refine cvV (wr := [oB ip ri I.length ia fi, aB cB ri 8192 ti, oB op rO O.length oa fo, aB cB rO (8192 * u) to_, oU ru sm, aN cI sm 4096 S, aN cI ro 4096 v, aN cI sp 4096 vs]) C hA hP hD hS hl.1 (c_X_four l D cI cB x tp ip op ru ro sp V.length w r2 ta tf x3 T2 t2 hL2 (by omega) hx3) ok_X_42 [] [8, 9, 10] [0, 1, 2, 3, 4, 5, 6, 7] 2 0 rfl rfl rfl rfl (by decide) rfl (by decide) (by decide) rfl rfl (Nat.le_of_ble_eq_true rfl) (⟨by (try dsimp only [rmO]); omega, by (try dsimp only [rmO]); omega⟩) (⟨by (try dsimp only [rmO]); omega, by (try dsimp only [rmO]); omega⟩) d_X_feed_30 ?_
    intro w1 H locs hw hP hD hS
    obtain ⟨r3, t3, rfl, hL3⟩ := hw
    have hP : va_P D classes [oB ip ri I.length ia fi, aB cB ri 8192 ti, oB op rO O.length oa fo, aB cB rO (8192 * u) to_, oU ru sm, aN cI sm 4096 S, aN cI ro 4096 v, aN cI sp 4096 vs, oX x tp ip op ru ro sp V.length w, oB tp r3 ((T2 ++ four x3).length) ta tf, aB cB r3 8192 t3] H := hP
    have hD : va_D A [oB ip ri I.length ia fi, aB cB ri 8192 ti, oB op rO O.length oa fo, aB cB rO (8192 * u) to_, oU ru sm, aN cI sm 4096 S, aN cI ro 4096 v, aN cI sp 4096 vs, oX x tp ip op ru ro sp V.length w, oB tp r3 ((T2 ++ four x3).length) ta tf, aB cB r3 8192 t3] := hD
    obtain ⟨T3, hm3⟩ : ∃ z, z = T2 ++ four x3 := ⟨_, rfl⟩
    have hn3 : T3.length = T2.length + 4 := by rw [hm3, List.length_append, four_len]
    rw [← hm3] at hP hD hL3
    refine lv_aload_n C.x C.b d_X_feed_33 rfl (lv_at hl 0 rfl) ?_
    refine lv_iload C.x C.b d_X_feed_34 (lv_at hl 4 rfl) ?_
    refine cvV (wr := [oB ip ri I.length ia fi, aB cB ri 8192 ti, oB op rO O.length oa fo, aB cB rO (8192 * u) to_, oU ru sm, aN cI sm 4096 S, aN cI ro 4096 v, aN cI sp 4096 vs]) C hA hP hD hS hl.1 (c_X_four l D cI cB x tp ip op ru ro sp V.length w r3 ta tf x4 T3 t3 hL3 (by omega) hx4) ok_X_42 [] [8, 9, 10] [0, 1, 2, 3, 4, 5, 6, 7] 2 0 rfl rfl rfl rfl (by decide) rfl (by decide) (by decide) rfl rfl (Nat.le_of_ble_eq_true rfl) (⟨by (try dsimp only [rmO]); omega, by (try dsimp only [rmO]); omega⟩) (⟨by (try dsimp only [rmO]); omega, by (try dsimp only [rmO]); omega⟩) d_X_feed_36 ?_
    intro w1 H locs hw hP hD hS
    obtain ⟨r4, t4, rfl, hL4⟩ := hw
    have hP : va_P D classes [oB ip ri I.length ia fi, aB cB ri 8192 ti, oB op rO O.length oa fo, aB cB rO (8192 * u) to_, oU ru sm, aN cI sm 4096 S, aN cI ro 4096 v, aN cI sp 4096 vs, oX x tp ip op ru ro sp V.length w, oB tp r4 ((T3 ++ four x4).length) ta tf, aB cB r4 8192 t4] H := hP
    have hD : va_D A [oB ip ri I.length ia fi, aB cB ri 8192 ti, oB op rO O.length oa fo, aB cB rO (8192 * u) to_, oU ru sm, aN cI sm 4096 S, aN cI ro 4096 v, aN cI sp 4096 vs, oX x tp ip op ru ro sp V.length w, oB tp r4 ((T3 ++ four x4).length) ta tf, aB cB r4 8192 t4] := hD
    obtain ⟨T4, hm4⟩ : ∃ z, z = T3 ++ four x4 := ⟨_, rfl⟩
    have hn4 : T4.length = T3.length + 4 := by rw [hm4, List.length_append, four_len]
    rw [← hm4] at hP hD hL4
    refine lv_aload_n C.x C.b d_X_feed_39 rfl (lv_at hl 0 rfl) ?_
    refine lv_iload C.x C.b d_X_feed_40 (lv_at hl 5 rfl) ?_
    refine cvV (wr := [oB ip ri I.length ia fi, aB cB ri 8192 ti, oB op rO O.length oa fo, aB cB rO (8192 * u) to_, oU ru sm, aN cI sm 4096 S, aN cI ro 4096 v, aN cI sp 4096 vs]) C hA hP hD hS hl.1 (c_X_four l D cI cB x tp ip op ru ro sp V.length w r4 ta tf x5 T4 t4 hL4 (by omega) hx5) ok_X_42 [] [8, 9, 10] [0, 1, 2, 3, 4, 5, 6, 7] 2 0 rfl rfl rfl rfl (by decide) rfl (by decide) (by decide) rfl rfl (Nat.le_of_ble_eq_true rfl) (⟨by (try dsimp only [rmO]); omega, by (try dsimp only [rmO]); omega⟩) (⟨by (try dsimp only [rmO]); omega, by (try dsimp only [rmO]); omega⟩) d_X_feed_42 ?_
    intro w1 H locs hw hP hD hS
    obtain ⟨r5, t5, rfl, hL5⟩ := hw
    have hP : va_P D classes [oB ip ri I.length ia fi, aB cB ri 8192 ti, oB op rO O.length oa fo, aB cB rO (8192 * u) to_, oU ru sm, aN cI sm 4096 S, aN cI ro 4096 v, aN cI sp 4096 vs, oX x tp ip op ru ro sp V.length w, oB tp r5 ((T4 ++ four x5).length) ta tf, aB cB r5 8192 t5] H := hP
    have hD : va_D A [oB ip ri I.length ia fi, aB cB ri 8192 ti, oB op rO O.length oa fo, aB cB rO (8192 * u) to_, oU ru sm, aN cI sm 4096 S, aN cI ro 4096 v, aN cI sp 4096 vs, oX x tp ip op ru ro sp V.length w, oB tp r5 ((T4 ++ four x5).length) ta tf, aB cB r5 8192 t5] := hD
    obtain ⟨T5, hm5⟩ : ∃ z, z = T4 ++ four x5 := ⟨_, rfl⟩
    have hn5 : T5.length = T4.length + 4 := by rw [hm5, List.length_append, four_len]
    rw [← hm5] at hP hD hL5
    have eq5 : T5 = fdT T x1 x2 x3 x4 x5 := by unfold fdT five; rw [if_pos (by omega), hm5, hm4, hm3, hm2, hm1]; simp only [List.append_assoc]
    rw [eq5] at hP hD hL5
    have hP : va_P D classes [oX x tp ip op ru ro sp V.length w, oB tp r5 ((fdT T x1 x2 x3 x4 x5).length) ta tf, aB cB r5 8192 t5, oB ip ri I.length ia fi, aB cB ri 8192 ti, oB op rO O.length oa fo, aB cB rO (8192 * u) to_, oU ru sm, aN cI sm 4096 S, aN cI ro 4096 v, aN cI sp 4096 vs] H := hP.sub [8, 9, 10, 0, 1, 2, 3, 4, 5, 6, 7] rfl
    have hD : va_D A [oX x tp ip op ru ro sp V.length w, oB tp r5 ((fdT T x1 x2 x3 x4 x5).length) ta tf, aB cB r5 8192 t5, oB ip ri I.length ia fi, aB cB ri 8192 ti, oB op rO O.length oa fo, aB cB rO (8192 * u) to_, oU ru sm, aN cI sm 4096 S, aN cI ro 4096 v, aN cI sp 4096 vs] := hD.sub [8, 9, 10, 0, 1, 2, 3, 4, 5, 6, 7] (by decide) rfl
    refine lv_iconst (v := nI 1) C.x C.b d_X_feed_45 (by decide) ?_
    exact reti C hP hD hS d_X_feed_46 (by decide) (by omega) (by omega) (⟨(if_pos (by omega)).symm, ⟨_, _, _, _, _, _, _, _, _, _, _, _, _, _, _, _, _, _, _, _, _, _, _, rfl, hL5, hI, hO, hV, hu, hul⟩⟩)
  · refine lv_iconst (v := nI 0) C.x C.b d_X_feed_16 (by decide) ?_
    exact reti C hP hD hS d_X_feed_17 (by decide) (by omega) (by omega) (⟨(if_neg (by omega)).symm, by unfold fdT; rw [if_neg (by omega)]; exact ⟨_, _, _, _, _, _, _, _, _, _, _, _, _, _, _, _, _, _, _, _, _, _, _, rfl, hT, hI, hO, hV, hu, hul⟩⟩)
set_option maxHeartbeats 4000000 in
set_option maxRecDepth 100000 in
/-- width -/
theorem c_X_width (l : Launch) (D : va_G) (cI cB : ClassId) (x : Nat) (T I O V : List Nat) (w : Nat) (hv : Vd T I O V w) (ws : va_W) (hR : RX cI cB x T I O V w ws) (x1 : Nat) (hx1 : x1 < 2 ^ 32) : Ki l D cI cB y_X_width b_X_width 2 0 0 0 0 .boolean [.ref x, .int (nI x1)] ws (fun r w1 => r = wiR x1 ∧ RX cI cB x T I O V (wiW w x1) w1) := by
  obtain ⟨tp, ip, op, ru, ro, sp, rt, ri, rO, sm, ta, tf, ia, fi, oa, fo, u, tt, ti, to_, v, vs, S, rfl, hT, hI, hO, hV, hu, hul⟩ := hR
  obtain ⟨v1, v2, v3, v4, v5, v6, v7, v8, v9⟩ := hv
  refine ent (fun A => va_Qi _ (BW D A) A) (by decide) (Nat.le_of_ble_eq_true rfl) ?_
  intro p e s m below meth c A ls C hA hP hD hS hl
  have hl : lv_has ls 2 [(0, .ref x), (1, .int (nI x1))] := hl
  refine lv_iload_n C.x C.b d_X_width_0 rfl (lv_at hl 1 rfl) ?_
  refine jz_lt (tgt := 10) C d_X_width_1 (by decide) (by omega) (fun h1 => ?_) (fun h1 => ?_)
  · refine lv_iconst (v := nI 0) C.x C.b d_X_width_10 (by decide) ?_
    exact reti C hP hD hS d_X_width_11 (by decide) (by omega) (by omega) (⟨(if_neg (by omega)).symm, by unfold wiW; rw [if_neg (by omega)]; exact ⟨_, _, _, _, _, _, _, _, _, _, _, _, _, _, _, _, _, _, _, _, _, _, _, rfl, hT, hI, hO, hV, hu, hul⟩⟩)
  · refine lv_iload_n C.x C.b d_X_width_4 rfl (lv_at hl 1 rfl) ?_
    refine lv_bipush (v := nI 32) C.x C.b d_X_width_5 (by decide) ?_
    refine jc_le (tgt := 12) C d_X_width_7 (by decide) (by omega) (by omega) (fun h2 => ?_) (fun h2 => ?_)
    · refine lv_aload_n C.x C.b d_X_width_12 rfl (lv_at hl 0 rfl) ?_
      refine lv_iload_n C.x C.b d_X_width_13 rfl (lv_at hl 1 rfl) ?_
      refine pf (w2 := [oX x tp ip op ru ro sp V.length x1, oB tp rt T.length ta tf, aB cB rt 8192 tt, oB ip ri I.length ia fi, aB cB ri 8192 ti, oB op rO O.length oa fo, aB cB rO (8192 * u) to_, oU ru sm, aN cI sm 4096 S, aN cI ro 4096 v, aN cI sp 4096 vs]) C hP hD hS 0 2 7 (.int) rfl rfl (by decide) fl_X_55 rfl (by decide +kernel) rfl rfl (Nat.le_of_ble_eq_true rfl) rfl d_X_width_14 (fun H locs hP hD hS => ?_)
      refine lv_iconst (v := nI 1) C.x C.b d_X_width_17 (by decide) ?_
      exact reti C hP hD hS d_X_width_18 (by decide) (by omega) (by omega) (⟨(if_pos (by omega)).symm, by unfold wiW; rw [if_pos (by omega)]; exact ⟨_, _, _, _, _, _, _, _, _, _, _, _, _, _, _, _, _, _, _, _, _, _, _, rfl, hT, hI, hO, hV, hu, hul⟩⟩)
    · refine lv_iconst (v := nI 0) C.x C.b d_X_width_10 (by decide) ?_
      exact reti C hP hD hS d_X_width_11 (by decide) (by omega) (by omega) (⟨(if_neg (by omega)).symm, by unfold wiW; rw [if_neg (by omega)]; exact ⟨_, _, _, _, _, _, _, _, _, _, _, _, _, _, _, _, _, _, _, _, _, _, _, rfl, hT, hI, hO, hV, hu, hul⟩⟩)
set_option maxHeartbeats 4000000 in
set_option maxRecDepth 100000 in
/-- add: the loop -/
theorem lp_X_add {p : Program} {l : Launch} {e : Env} {R : Room} {s : State} {m : MethodId} {args : Array Value} {below : List Frame} {meth : Method} {c : Code} {D : va_G} {cI cB : ClassId} {A : Nat → Prop} {Q : State → Prop} {cells slots : Nat} (C : Cx p s m args meth c D cI cB b_X_add 4 R_X (some .boolean) "add") (hA : ∀ q : Nat, s.heap.size ≤ q → A q) (x tp ip op ru ro sp rt ri rO sm ta tf ia fi oa fo u : Nat) (tt ti to_ vs S : Nat → Nat) (T I O V : List Nat) (w x1 x2 : Nat) (hn : V.length + x2 ≤ 4096) (kk : ∀ (v : Nat → Nat), Hd v (V ++ List.replicate x2 x1) → ∀ (H : Heap) (locs : List Loc) (ls : Array Slot), va_P D classes [oX x tp ip op ru ro sp V.length w, oB tp rt T.length ta tf, aB cB rt 8192 tt, oB ip ri I.length ia fi, aB cB ri 8192 ti, oB op rO O.length oa fo, aB cB rO (8192 * u) to_, oU ru sm, aN cI sm 4096 S, aN cI ro 4096 v, aN cI sp 4096 vs] H → va_D A [oX x tp ip op ru ro sp V.length w, oB tp rt T.length ta tf, aB cB rt 8192 tt, oB ip ri I.length ia fi, aB cB ri 8192 ti, oB op rO O.length oa fo, aB cB rO (8192 * u) to_, oU ru sm, aN cI sm 4096 S, aN cI ro 4096 v, aN cI sp 4096 vs] → va_S A s.heap H locs → lv_has ls 4 [(0, .ref x), (1, .int (nI x1)), (2, .int (nI x2)), (3, .int (nI x2))] → W p l e R s m args below meth c H locs cells slots Q (F0 m 44 ls [])) : ∀ (d i : Nat) (v : Nat → Nat), i + d = x2 → Hd v (V ++ List.replicate i x1) → ∀ (H : Heap) (locs : List Loc) (ls : Array Slot), va_P D classes [oX x tp ip op ru ro sp V.length w, oB tp rt T.length ta tf, aB cB rt 8192 tt, oB ip ri I.length ia fi, aB cB ri 8192 ti, oB op rO O.length oa fo, aB cB rO (8192 * u) to_, oU ru sm, aN cI sm 4096 S, aN cI ro 4096 v, aN cI sp 4096 vs] H → va_D A [oX x tp ip op ru ro sp V.length w, oB tp rt T.length ta tf, aB cB rt 8192 tt, oB ip ri I.length ia fi, aB cB ri 8192 ti, oB op rO O.length oa fo, aB cB rO (8192 * u) to_, oU ru sm, aN cI sm 4096 S, aN cI ro 4096 v, aN cI sp 4096 vs] → va_S A s.heap H locs → lv_has ls 4 [(0, .ref x), (1, .int (nI x1)), (2, .int (nI x2)), (3, .int (nI i))] → W p l e R s m args below meth c H locs cells slots (Q) (F0 m 21 ls []) := by
  intro d
  induction d with
  | zero =>
    intro i v hi hV H locs ls hP hD hS hl
    refine lv_iload_n C.x C.b d_X_add_21 rfl (lv_at hl 3 rfl) ?_
    refine lv_iload_n C.x C.b d_X_add_22 rfl (lv_at hl 2 rfl) ?_
    refine jc_ge (tgt := 44) C d_X_add_23 (by decide) (by omega) (by omega) (fun h => ?_) (fun h => ?_)
    · obtain rfl : i = x2 := by omega
      exact kk v hV H locs ls hP hD hS hl
    · exfalso; omega
  | succ d ih =>
    intro i v hi hV H locs ls hP hD hS hl
    refine lv_iload_n C.x C.b d_X_add_21 rfl (lv_at hl 3 rfl) ?_
    refine lv_iload_n C.x C.b d_X_add_22 rfl (lv_at hl 2 rfl) ?_
    refine jc_ge (tgt := 44) C d_X_add_23 (by decide) (by omega) (by omega) (fun h => ?_) (fun h => ?_)
    · exfalso; omega
    · refine lv_aload_n C.x C.b d_X_add_26 rfl (lv_at hl 0 rfl) ?_
      refine gf C hP 0 2 4 rfl rfl (by decide) fl_X_31 rfl d_X_add_27 ?_
      refine lv_aload_n C.x C.b d_X_add_30 rfl (lv_at hl 0 rfl) ?_
      refine gf C hP 0 2 6 rfl rfl (by decide) fl_X_58 rfl d_X_add_31 ?_
      refine lv_iload_n C.x C.b d_X_add_34 rfl (lv_at hl 3 rfl) ?_
      refine lv_iadd C.x C.b d_X_add_35 ?_
      refine ra_i (nI_add _ _) ?_
      refine lv_iload_n C.x C.b d_X_add_36 rfl (lv_at hl 1 rfl) ?_
      refine ist (w2 := [oX x tp ip op ru ro sp V.length w, oB tp rt T.length ta tf, aB cB rt 8192 tt, oB ip ri I.length ia fi, aB cB ri 8192 ti, oB op rO O.length oa fo, aB cB rO (8192 * u) to_, oU ru sm, aN cI sm 4096 S, aN cI ro 4096 (va_up v (V.length + i) x1), aN cI sp 4096 vs]) C hP hD hS 9 rfl (by omega) (by omega) rfl d_X_add_37 (fun H locs hP hD hS => ?_)
      refine lv_iinc (v := (nI (i + 1))) (lv' := [(3, .int (nI (i + 1))), (0, .ref x), (1, .int (nI x1)), (2, .int (nI x2))]) C.x C.b d_X_add_38 hl (k := 3) rfl (nI_inc _ 1) (by decide) rfl (fun ls hl => ?_)
      refine lv_goto (tgt := 21) C.x C.b d_X_add_41 (by decide) ?_
      exact ih (i + 1) _ (by omega) (Hd_rep hV) H locs ls hP hD hS (lv_sub hl [1, 2, 3, 0] rfl)
set_option maxHeartbeats 4000000 in
set_option maxRecDepth 100000 in
/-- add -/
theorem c_X_add (l : Launch) (D : va_G) (cI cB : ClassId) (x : Nat) (T I O V : List Nat) (w : Nat) (hv : Vd T I O V w) (ws : va_W) (hR : RX cI cB x T I O V w ws) (x1 x2 : Nat) (hx1 : x1 < 2 ^ 32) (hx2 : x2 < 2 ^ 32) : Ki l D cI cB y_X_add b_X_add 4 0 0 0 0 .boolean [.ref x, .int (nI x1), .int (nI x2)] ws (fun r w1 => r = adR V x2 ∧ RX cI cB x T I O (adV V x1 x2) w w1) := by
  obtain ⟨tp, ip, op, ru, ro, sp, rt, ri, rO, sm, ta, tf, ia, fi, oa, fo, u, tt, ti, to_, v, vs, S, rfl, hT, hI, hO, hV, hu, hul⟩ := hR
  obtain ⟨v1, v2, v3, v4, v5, v6, v7, v8, v9⟩ := hv
  refine ent (fun A => va_Qi _ (BW D A) A) (by decide) (Nat.le_of_ble_eq_true rfl) ?_
  intro p e s m below meth c A ls C hA hP hD hS hl
  have hl : lv_has ls 4 [(0, .ref x), (1, .int (nI x1)), (2, .int (nI x2))] := hl
  refine lv_iload_n C.x C.b d_X_add_0 rfl (lv_at hl 2 rfl) ?_
  refine lv_iconst (v := nI 1) C.x C.b d_X_add_1 (by decide) ?_
  refine jcs_lt (tgt := 17) C d_X_add_2 (by decide) hx2 (by decide) (fun h1 => ?_) (fun h1 => ?_)
  · refine lv_iconst (v := nI 0) C.x C.b d_X_add_17 (by decide) ?_
    exact reti C hP hD hS d_X_add_18 (by decide) (by omega) (by omega) (⟨(if_neg (by omega)).symm, by unfold adV; rw [if_neg (by omega)]; exact ⟨_, _, _, _, _, _, _, _, _, _, _, _, _, _, _, _, _, _, _, _, _, _, _, rfl, hT, hI, hO, hV, hu, hul⟩⟩)
  · refine lv_iload_n C.x C.b d_X_add_5 rfl (lv_at hl 2 rfl) ?_
    refine lv_sipush (v := nI 4096) C.x C.b d_X_add_6 (by decide) ?_
    refine lv_aload_n C.x C.b d_X_add_9 rfl (lv_at hl 0 rfl) ?_
    refine gf C hP 0 2 6 rfl rfl (by decide) fl_X_58 rfl d_X_add_10 ?_
    refine lv_isub C.x C.b d_X_add_13 ?_
    refine ra_i (nI_subS (by omega)) ?_
    refine jc_le (tgt := 19) C d_X_add_14 (by decide) (by omega) (by omega) (fun h2 => ?_) (fun h2 => ?_)
    · refine lv_iconst (v := nI 0) C.x C.b d_X_add_19 (by decide) ?_
      refine lv_istore_n (lv' := [(3, .int (nI 0)), (0, .ref x), (1, .int (nI x1)), (2, .int (nI x2))]) C.x C.b d_X_add_20 rfl hl (by decide) rfl (fun ls hl => ?_)
      refine lp_X_add C hA x tp ip op ru ro sp rt ri rO sm ta tf ia fi oa fo u tt ti to_ vs S T I O V w x1 x2 (by omega) (fun v hV H locs ls hP hD hS hl => ?_) x2 0 v (by omega) (by simpa using hV) _ _ ls hP hD hS (lv_sub hl [1, 2, 3, 0] rfl)
      refine lv_aload_n C.x C.b d_X_add_44 rfl (lv_at hl 0 rfl) ?_
      refine lv_dup C.x C.b d_X_add_45 rfl ?_
      refine gf C hP 0 2 6 rfl rfl (by decide) fl_X_58 rfl d_X_add_46 ?_
      refine lv_iload_n C.x C.b d_X_add_49 rfl (lv_at hl 2 rfl) ?_
      refine lv_iadd C.x C.b d_X_add_50 ?_
      refine ra_i (nI_add _ _) ?_
      refine pf (w2 := [oX x tp ip op ru ro sp (V.length + x2) w, oB tp rt T.length ta tf, aB cB rt 8192 tt, oB ip ri I.length ia fi, aB cB ri 8192 ti, oB op rO O.length oa fo, aB cB rO (8192 * u) to_, oU ru sm, aN cI sm 4096 S, aN cI ro 4096 v, aN cI sp 4096 vs]) C hP hD hS 0 2 6 (.int) rfl rfl (by decide) fl_X_58 rfl (by decide +kernel) rfl rfl (Nat.le_of_ble_eq_true rfl) rfl d_X_add_51 (fun H locs hP hD hS => ?_)
      have ea : V.length + x2 = (adV V x1 x2).length := by unfold adV; rw [if_pos (by omega), List.length_append, List.length_replicate]
      have eb : V ++ List.replicate x2 x1 = adV V x1 x2 := by unfold adV; rw [if_pos (by omega)]
      rw [ea] at hP hD
      rw [eb] at hV
      refine lv_iconst (v := nI 1) C.x C.b d_X_add_54 (by decide) ?_
      exact reti C hP hD hS d_X_add_55 (by decide) (by omega) (by omega) (⟨(if_pos (by omega)).symm, ⟨_, _, _, _, _, _, _, _, _, _, _, _, _, _, _, _, _, _, _, _, _, _, _, rfl, hT, hI, hO, hV, hu, hul⟩⟩)
    · refine lv_iconst (v := nI 0) C.x C.b d_X_add_17 (by decide) ?_
      exact reti C hP hD hS d_X_add_18 (by decide) (by omega) (by omega) (⟨(if_neg (by omega)).symm, by unfold adV; rw [if_neg (by omega)]; exact ⟨_, _, _, _, _, _, _, _, _, _, _, _, _, _, _, _, _, _, _, _, _, _, _, rfl, hT, hI, hO, hV, hu, hul⟩⟩)
set_option maxHeartbeats 4000000 in
set_option maxRecDepth 100000 in
/-- clear -/
theorem c_X_clear (l : Launch) (D : va_G) (cI cB : ClassId) (x : Nat) (T I O V : List Nat) (w : Nat) (hv : Vd T I O V w) (ws : va_W) (hR : RX cI cB x T I O V w ws)  : Kv l D cI cB y_X_clear b_X_clear 1 0 0 0 0 [.ref x] ws (fun w1 => RX cI cB x T I O [] w w1) := by
  obtain ⟨tp, ip, op, ru, ro, sp, rt, ri, rO, sm, ta, tf, ia, fi, oa, fo, u, tt, ti, to_, v, vs, S, rfl, hT, hI, hO, hV, hu, hul⟩ := hR
  obtain ⟨v1, v2, v3, v4, v5, v6, v7, v8, v9⟩ := hv
  refine ent (fun A => va_Qv _ (BW D A) A) (by decide) (Nat.le_of_ble_eq_true rfl) ?_
  intro p e s m below meth c A ls C hA hP hD hS hl
  have hl : lv_has ls 1 [(0, .ref x)] := hl
  refine lv_aload_n C.x C.b d_X_clear_0 rfl (lv_at hl 0 rfl) ?_
  refine lv_iconst (v := nI 0) C.x C.b d_X_clear_1 (by decide) ?_
  refine pf (w2 := [oX x tp ip op ru ro sp 0 w, oB tp rt T.length ta tf, aB cB rt 8192 tt, oB ip ri I.length ia fi, aB cB ri 8192 ti, oB op rO O.length oa fo, aB cB rO (8192 * u) to_, oU ru sm, aN cI sm 4096 S, aN cI ro 4096 v, aN cI sp 4096 vs]) C hP hD hS 0 2 6 (.int) rfl rfl (by decide) fl_X_58 rfl (by decide +kernel) rfl rfl (Nat.le_of_ble_eq_true rfl) rfl d_X_clear_2 (fun H locs hP hD hS => ?_)
  exact retv C hP hD hS d_X_clear_5 (by omega) (by omega) (⟨_, _, _, _, _, _, _, _, _, _, _, _, _, _, _, _, _, _, _, _, _, _, _, rfl, hT, hI, hO, Hd_nil v, hu, hul⟩)
set_option maxHeartbeats 4000000 in
set_option maxRecDepth 100000 in
/-- size -/
theorem c_X_size (l : Launch) (D : va_G) (cI cB : ClassId) (x : Nat) (T I O V : List Nat) (w : Nat) (hv : Vd T I O V w) (ws : va_W) (hR : RX cI cB x T I O V w ws)  : Ki l D cI cB y_X_size b_X_size 1 0 0 0 0 .int [.ref x] ws (fun r w1 => r = nI V.length ∧ RX cI cB x T I O V w w1) := by
  obtain ⟨tp, ip, op, ru, ro, sp, rt, ri, rO, sm, ta, tf, ia, fi, oa, fo, u, tt, ti, to_, v, vs, S, rfl, hT, hI, hO, hV, hu, hul⟩ := hR
  obtain ⟨v1, v2, v3, v4, v5, v6, v7, v8, v9⟩ := hv
  refine ent (fun A => va_Qi _ (BW D A) A) (by decide) (Nat.le_of_ble_eq_true rfl) ?_
  intro p e s m below meth c A ls C hA hP hD hS hl
  have hl : lv_has ls 1 [(0, .ref x)] := hl
  refine lv_aload_n C.x C.b d_X_size_0 rfl (lv_at hl 0 rfl) ?_
  refine gf C hP 0 2 6 rfl rfl (by decide) fl_X_58 rfl d_X_size_1 ?_
  exact reti C hP hD hS d_X_size_4 (rfl) (by omega) (by omega) (⟨rfl, ⟨_, _, _, _, _, _, _, _, _, _, _, _, _, _, _, _, _, _, _, _, _, _, _, rfl, hT, hI, hO, hV, hu, hul⟩⟩)
set_option maxHeartbeats 4000000 in
set_option maxRecDepth 100000 in
/-- value -/
theorem c_X_value (l : Launch) (D : va_G) (cI cB : ClassId) (x : Nat) (T I O V : List Nat) (w : Nat) (hv : Vd T I O V w) (ws : va_W) (hR : RX cI cB x T I O V w ws) (x1 : Nat) (hx1 : x1 < 2 ^ 32) : Ki l D cI cB y_X_value b_X_value 2 0 0 0 0 .int [.ref x, .int (nI x1)] ws (fun r w1 => r = vaR V x1 ∧ RX cI cB x T I O V w w1) := by
  obtain ⟨tp, ip, op, ru, ro, sp, rt, ri, rO, sm, ta, tf, ia, fi, oa, fo, u, tt, ti, to_, v, vs, S, rfl, hT, hI, hO, hV, hu, hul⟩ := hR
  obtain ⟨v1, v2, v3, v4, v5, v6, v7, v8, v9⟩ := hv
  refine ent (fun A => va_Qi _ (BW D A) A) (by decide) (Nat.le_of_ble_eq_true rfl) ?_
  intro p e s m below meth c A ls C hA hP hD hS hl
  have hl : lv_has ls 2 [(0, .ref x), (1, .int (nI x1))] := hl
  refine lv_iload_n C.x C.b d_X_value_0 rfl (lv_at hl 1 rfl) ?_
  refine jz_lt (tgt := 12) C d_X_value_1 (by decide) (by omega) (fun h1 => ?_) (fun h1 => ?_)
  · refine lv_iconst (v := nI 0) C.x C.b d_X_value_12 (by decide) ?_
    refine lv_goto (tgt := 22) C.x C.b d_X_value_13 (by decide) ?_
    exact reti C hP hD hS d_X_value_22 (rfl) (by omega) (by omega) (⟨(if_neg (by omega)).symm, ⟨_, _, _, _, _, _, _, _, _, _, _, _, _, _, _, _, _, _, _, _, _, _, _, rfl, hT, hI, hO, hV, hu, hul⟩⟩)
  · refine lv_iload_n C.x C.b d_X_value_4 rfl (lv_at hl 1 rfl) ?_
    refine lv_aload_n C.x C.b d_X_value_5 rfl (lv_at hl 0 rfl) ?_
    refine gf C hP 0 2 6 rfl rfl (by decide) fl_X_58 rfl d_X_value_6 ?_
    refine jc_lt (tgt := 16) C d_X_value_9 (by decide) (by omega) (by omega) (fun h2 => ?_) (fun h2 => ?_)
    · refine lv_aload_n C.x C.b d_X_value_16 rfl (lv_at hl 0 rfl) ?_
      refine gf C hP 0 2 4 rfl rfl (by decide) fl_X_31 rfl d_X_value_17 ?_
      refine lv_iload_n C.x C.b d_X_value_20 rfl (lv_at hl 1 rfl) ?_
      refine ild C hP 9 rfl (by omega) (by omega) d_X_value_21 ?_
      refine ra_i (y := nI (gt V x1)) (by rw [hV x1 h2]) ?_
      exact reti C hP hD hS d_X_value_22 (rfl) (by omega) (by omega) (⟨(if_pos h2).symm, ⟨_, _, _, _, _, _, _, _, _, _, _, _, _, _, _, _, _, _, _, _, _, _, _, rfl, hT, hI, hO, hV, hu, hul⟩⟩)
    · refine lv_iconst (v := nI 0) C.x C.b d_X_value_12 (by decide) ?_
      refine lv_goto (tgt := 22) C.x C.b d_X_value_13 (by decide) ?_
      exact reti C hP hD hS d_X_value_22 (rfl) (by omega) (by omega) (⟨(if_neg (by omega)).symm, ⟨_, _, _, _, _, _, _, _, _, _, _, _, _, _, _, _, _, _, _, _, _, _, _, rfl, hT, hI, hO, hV, hu, hul⟩⟩)
end
section
/-! contracts of RunRows: end, turn, output (printed by gen/x2.py) -/
theorem and_ft (b : Bool) (q : Prop) [Decidable q] : nI b.toNat &&& nI (if q then 1 else 0) = nI (b && decide q).toNat := by
  by_cases h : q
  · cases b <;> simp [h] <;> decide
  · cases b <;> simp [h] <;> decide
theorem gr_three {u k : Nat} (hu : u = 1 ∨ u = 2 ∨ u = 4) (hk : k ≤ 17437) : (gr u k = 1 ∨ gr u k = 2 ∨ gr u k = 4) ∧ gr u k - u ≤ 3 ∧ k ≤ 8192 * gr u k := by
  unfold gr
  rcases hu with rfl | rfl | rfl
  all_goals
    repeat' split
    all_goals omega
set_option maxHeartbeats 4000000 in
set_option maxRecDepth 100000 in
/-- X_end: the loop -/
theorem lp_X_end {p : Program} {l : Launch} {e : Env} {R : Room} {s : State} {m : MethodId} {args : Array Value} {below : List Frame} {meth : Method} {c : Code} {D : va_G} {cI cB : ClassId} {A : Nat → Prop} {Q : State → Prop} {cells slots : Nat} (C : Cx p s m args meth c D cI cB b_X_end 3 R_X (some .boolean) "end") (hA : ∀ q : Nat, s.heap.size ≤ q → A q) (x tp ip op ru ro sp rt rO sm ta tf oa fo u : Nat) (tt to_ v vs S : Nat → Nat) (T O V : List Nat) (w : Nat) (x1 : Nat) (hx1 : x1 ≤ T.length) (hT8 : T.length ≤ 8192) (hT : Hd tt T) (hTb : ∀ x ∈ T, x < 256) (hR1 : 2 ≤ R.frames) (hR2 : 40 ≤ R.locals) (hRc : cells ≤ R.cells) (hRs : slots ≤ R.slots) (kk : ∀ (ri : Nat) (ti : Nat → Nat), Hd ti (T.take x1) → ∀ (H : Heap) (locs : List Loc) (ls : Array Slot), va_P D classes [oX x tp ip op ru ro sp V.length w, oB tp rt T.length ta tf, aB cB rt 8192 tt, oB ip ri ((T.take x1).length) 0 0, aB cB ri 8192 ti, oB op rO O.length oa fo, aB cB rO (8192 * u) to_, oU ru sm, aN cI sm 4096 S, aN cI ro 4096 v, aN cI sp 4096 vs] H → va_D A [oX x tp ip op ru ro sp V.length w, oB tp rt T.length ta tf, aB cB rt 8192 tt, oB ip ri ((T.take x1).length) 0 0, aB cB ri 8192 ti, oB op rO O.length oa fo, aB cB rO (8192 * u) to_, oU ru sm, aN cI sm 4096 S, aN cI ro 4096 v, aN cI sp 4096 vs] → va_S A s.heap H locs → lv_has ls 3 [(0, .ref x), (1, .int (nI x1)), (2, .int (nI x1))] → W p l e R s m args below meth c H locs cells slots Q (F0 m 52 ls [])) : ∀ (d i ri : Nat) (ti : Nat → Nat), i + d = x1 → Hd ti (T.take i) → ∀ (H : Heap) (locs : List Loc) (ls : Array Slot), va_P D classes [oX x tp ip op ru ro sp V.length w, oB tp rt T.length ta tf, aB cB rt 8192 tt, oB ip ri ((T.take i).length) 0 0, aB cB ri 8192 ti, oB op rO O.length oa fo, aB cB rO (8192 * u) to_, oU ru sm, aN cI sm 4096 S, aN cI ro 4096 v, aN cI sp 4096 vs] H → va_D A [oX x tp ip op ru ro sp V.length w, oB tp rt T.length ta tf, aB cB rt 8192 tt, oB ip ri ((T.take i).length) 0 0, aB cB ri 8192 ti, oB op rO O.length oa fo, aB cB rO (8192 * u) to_, oU ru sm, aN cI sm 4096 S, aN cI ro 4096 v, aN cI sp 4096 vs] → va_S A s.heap H locs → lv_has ls 3 [(0, .ref x), (1, .int (nI x1)), (2, .int (nI i))] → W p l e R s m args below meth c H locs cells slots (Q) (F0 m 26 ls []) := by
  intro d
  induction d with
  | zero =>
    intro i ri ti hi hI H locs ls hP hD hS hl
    refine lv_iload_n C.x C.b d_X_end_26 rfl (lv_at hl 2 rfl) ?_
    refine lv_iload_n C.x C.b d_X_end_27 rfl (lv_at hl 1 rfl) ?_
    refine jc_ge (tgt := 52) C d_X_end_28 (by decide) (by omega) (by omega) (fun h => ?_) (fun h => ?_)
    · obtain rfl : i = x1 := by omega
      exact kk ri ti hI H locs ls hP hD hS hl
    · exfalso; omega
  | succ d ih =>
    intro i ri ti hi hI H locs ls hP hD hS hl
    have hti : (T.take i).length = i := by rw [List.length_take]; omega
    refine lv_iload_n C.x C.b d_X_end_26 rfl (lv_at hl 2 rfl) ?_
    refine lv_iload_n C.x C.b d_X_end_27 rfl (lv_at hl 1 rfl) ?_
    refine jc_ge (tgt := 52) C d_X_end_28 (by decide) (by omega) (by omega) (fun h => ?_) (fun h => ?_)
    · exfalso; omega
    · refine lv_aload_n C.x C.b d_X_end_31 rfl (lv_at hl 0 rfl) ?_
      refine gf C hP 0 2 1 rfl rfl (by decide) fl_X_18 rfl d_X_end_32 ?_
      refine lv_aload_n C.x C.b d_X_end_35 rfl (lv_at hl 0 rfl) ?_
      refine gf C hP 0 2 0 rfl rfl (by decide) fl_X_14 rfl d_X_end_36 ?_
      refine lv_iload_n C.x C.b d_X_end_39 rfl (lv_at hl 2 rfl) ?_
      have hg8 : tt i < 256 := by rw [hT i (by omega)]; exact gt_lt (by decide) hTb i
      refine ciV (wr := [oX x tp ip op ru ro sp V.length w, oB ip ri ((T.take i).length) 0 0, aB cB ri 8192 ti, oB op rO O.length oa fo, aB cB rO (8192 * u) to_, oU ru sm, aN cI sm 4096 S, aN cI ro 4096 v, aN cI sp 4096 vs]) C hA hP hD hS hl.1 (c_B_get l D cI cB tp rt T.length ta tf (8192) i tt (by omega) (by omega) hg8) ok_X_51 [.ref ip] [1, 2] [0, 3, 4, 5, 6, 7, 8, 9, 10] 0 0 rfl rfl rfl rfl (by decide) rfl (by decide) (by decide) rfl rfl (Nat.le_of_ble_eq_true rfl) (⟨by (try dsimp only [rmO]); omega, by (try dsimp only [rmO]); omega⟩) (⟨by (try dsimp only [rmO]); omega, by (try dsimp only [rmO]); omega⟩) d_X_end_40 ?_
      intro rg w1 H locs hw hP hD hS
      obtain ⟨rfl, rfl⟩ := hw
      have hP : va_P D classes [oX x tp ip op ru ro sp V.length w, oB ip ri ((T.take i).length) 0 0, aB cB ri 8192 ti, oB op rO O.length oa fo, aB cB rO (8192 * u) to_, oU ru sm, aN cI sm 4096 S, aN cI ro 4096 v, aN cI sp 4096 vs, oB tp rt T.length ta tf, aB cB rt 8192 tt] H := hP
      have hD : va_D A [oX x tp ip op ru ro sp V.length w, oB ip ri ((T.take i).length) 0 0, aB cB ri 8192 ti, oB op rO O.length oa fo, aB cB rO (8192 * u) to_, oU ru sm, aN cI sm 4096 S, aN cI ro 4096 v, aN cI sp 4096 vs, oB tp rt T.length ta tf, aB cB rt 8192 tt] := hD
      refine ra_i (y := nI (gt T i)) (by rw [hT i (by omega)]) ?_
      refine cvV (wr := [oX x tp ip op ru ro sp V.length w, oB op rO O.length oa fo, aB cB rO (8192 * u) to_, oU ru sm, aN cI sm 4096 S, aN cI ro 4096 v, aN cI sp 4096 vs, oB tp rt T.length ta tf, aB cB rt 8192 tt]) C hA hP hD hS hl.1 (c_B_put l D cI cB ip ri 0 0 (gt T i) 1 1 (T.take i) ti hI (Or.inl ⟨by omega, rfl⟩) (by omega) (by decide) (by decide)) ok_X_45 [] [1, 2] [0, 3, 4, 5, 6, 7, 8, 9, 10] 0 0 rfl rfl rfl rfl (by decide) rfl (by decide) (by decide) rfl rfl (Nat.le_of_ble_eq_true rfl) (⟨by (try dsimp only [rmO]); omega, by (try dsimp only [rmO]); omega⟩) (⟨by (try dsimp only [rmO]); omega, by (try dsimp only [rmO]); omega⟩) d_X_end_43 ?_
      intro w1 H locs hw hP hD hS
      obtain ⟨r1, t1, rfl, hL1⟩ := hw
      have hP : va_P D classes [oX x tp ip op ru ro sp V.length w, oB op rO O.length oa fo, aB cB rO (8192 * u) to_, oU ru sm, aN cI sm 4096 S, aN cI ro 4096 v, aN cI sp 4096 vs, oB tp rt T.length ta tf, aB cB rt 8192 tt, oB ip r1 ((T.take i).length + 1) 0 0, aB cB r1 8192 t1] H := hP
      have hD : va_D A [oX x tp ip op ru ro sp V.length w, oB op rO O.length oa fo, aB cB rO (8192 * u) to_, oU ru sm, aN cI sm 4096 S, aN cI ro 4096 v, aN cI sp 4096 vs, oB tp rt T.length ta tf, aB cB rt 8192 tt, oB ip r1 ((T.take i).length + 1) 0 0, aB cB r1 8192 t1] := hD
      refine W.widen (k := cells) (n := slots) (by omega) (by omega) ?_
      rw [Nat.mod_eq_of_lt (gt_lt (by decide) hTb i), ← take_gt (by omega)] at hL1
      have el : (T.take i).length + 1 = (T.take (i + 1)).length := by rw [List.length_take, List.length_take]; omega
      rw [el] at hP hD
      have hP : va_P D classes [oX x tp ip op ru ro sp V.length w, oB tp rt T.length ta tf, aB cB rt 8192 tt, oB ip r1 ((T.take (i + 1)).length) 0 0, aB cB r1 8192 t1, oB op rO O.length oa fo, aB cB rO (8192 * u) to_, oU ru sm, aN cI sm 4096 S, aN cI ro 4096 v, aN cI sp 4096 vs] H := hP.sub [0, 7, 8, 9, 10, 1, 2, 3, 4, 5, 6] rfl
      have hD : va_D A [oX x tp ip op ru ro sp V.length w, oB tp rt T.length ta tf, aB cB rt 8192 tt, oB ip r1 ((T.take (i + 1)).length) 0 0, aB cB r1 8192 t1, oB op rO O.length oa fo, aB cB rO (8192 * u) to_, oU ru sm, aN cI sm 4096 S, aN cI ro 4096 v, aN cI sp 4096 vs] := hD.sub [0, 7, 8, 9, 10, 1, 2, 3, 4, 5, 6] (by decide) rfl
      refine lv_iinc (v := (nI (i + 1))) (lv' := [(2, .int (nI (i + 1))), (0, .ref x), (1, .int (nI x1))]) C.x C.b d_X_end_46 hl (k := 2) rfl (nI_inc _ 1) (by decide) rfl (fun ls hl => ?_)
      refine lv_goto (tgt := 26) C.x C.b d_X_end_49 (by decide) ?_
      exact ih (i + 1) r1 t1 (by omega) hL1 H locs ls hP hD hS (lv_sub hl [1, 2, 0] rfl)
set_option maxHeartbeats 4000000 in
set_option maxRecDepth 100000 in
/-- X_turn: the loop -/
theorem lp_X_turn {p : Program} {l : Launch} {e : Env} {R : Room} {s : State} {m : MethodId} {args : Array Value} {below : List Frame} {meth : Method} {c : Code} {D : va_G} {cI cB : ClassId} {A : Nat → Prop} {Q : State → Prop} {cells slots : Nat} (C : Cx p s m args meth c D cI cB b_X_turn 2 R_X (some .boolean) "turn") (hA : ∀ q : Nat, s.heap.size ≤ q → A q) (x tp ip op ru ro sp rt rO sm ta tf oa fo u : Nat) (tt to_ v vs S : Nat → Nat) (T O V : List Nat) (w : Nat) (hO8 : O.length ≤ 8192) (hO : Hd to_ O) (hOb : ∀ x ∈ O, x < 256) (hu : O.length ≤ 8192 * u) (hu4 : u ≤ 4) (hR1 : 2 ≤ R.frames) (hR2 : 40 ≤ R.locals) (hRc : cells ≤ R.cells) (hRs : slots ≤ R.slots) (kk : ∀ (ri : Nat) (ti : Nat → Nat), Hd ti (O.take O.length) → ∀ (H : Heap) (locs : List Loc) (ls : Array Slot), va_P D classes [oX x tp ip op ru ro sp V.length w, oB tp rt T.length ta tf, aB cB rt 8192 tt, oB ip ri ((O.take O.length).length) 0 0, aB cB ri 8192 ti, oB op rO O.length oa fo, aB cB rO (8192 * u) to_, oU ru sm, aN cI sm 4096 S, aN cI ro 4096 v, aN cI sp 4096 vs] H → va_D A [oX x tp ip op ru ro sp V.length w, oB tp rt T.length ta tf, aB cB rt 8192 tt, oB ip ri ((O.take O.length).length) 0 0, aB cB ri 8192 ti, oB op rO O.length oa fo, aB cB rO (8192 * u) to_, oU ru sm, aN cI sm 4096 S, aN cI ro 4096 v, aN cI sp 4096 vs] → va_S A s.heap H locs → lv_has ls 2 [(0, .ref x), (1, .int (nI O.length))] → W p l e R s m args below meth c H locs cells slots Q (F0 m 56 ls [])) : ∀ (d i ri : Nat) (ti : Nat → Nat), i + d = O.length → Hd ti (O.take i) → ∀ (H : Heap) (locs : List Loc) (ls : Array Slot), va_P D classes [oX x tp ip op ru ro sp V.length w, oB tp rt T.length ta tf, aB cB rt 8192 tt, oB ip ri ((O.take i).length) 0 0, aB cB ri 8192 ti, oB op rO O.length oa fo, aB cB rO (8192 * u) to_, oU ru sm, aN cI sm 4096 S, aN cI ro 4096 v, aN cI sp 4096 vs] H → va_D A [oX x tp ip op ru ro sp V.length w, oB tp rt T.length ta tf, aB cB rt 8192 tt, oB ip ri ((O.take i).length) 0 0, aB cB ri 8192 ti, oB op rO O.length oa fo, aB cB rO (8192 * u) to_, oU ru sm, aN cI sm 4096 S, aN cI ro 4096 v, aN cI sp 4096 vs] → va_S A s.heap H locs → lv_has ls 2 [(0, .ref x), (1, .int (nI i))] → W p l e R s m args below meth c H locs cells slots (Q) (F0 m 24 ls []) := by
  intro d
  induction d with
  | zero =>
    intro i ri ti hi hI H locs ls hP hD hS hl
    refine lv_iload_n C.x C.b d_X_turn_24 rfl (lv_at hl 1 rfl) ?_
    refine lv_aload_n C.x C.b d_X_turn_25 rfl (lv_at hl 0 rfl) ?_
    refine gf C hP 0 2 2 rfl rfl (by decide) fl_X_21 rfl d_X_turn_26 ?_
    refine gfN C hP 5 0 1 rfl rfl (by decide) C.ns.1 rfl d_X_turn_29 ?_
    refine jc_ge (tgt := 56) C d_X_turn_32 (by decide) (by omega) (by omega) (fun h => ?_) (fun h => ?_)
    · obtain rfl : i = O.length := by omega
      exact kk ri ti hI H locs ls hP hD hS hl
    · exfalso; omega
  | succ d ih =>
    intro i ri ti hi hI H locs ls hP hD hS hl
    have hti : (O.take i).length = i := by rw [List.length_take]; omega
    refine lv_iload_n C.x C.b d_X_turn_24 rfl (lv_at hl 1 rfl) ?_
    refine lv_aload_n C.x C.b d_X_turn_25 rfl (lv_at hl 0 rfl) ?_
    refine gf C hP 0 2 2 rfl rfl (by decide) fl_X_21 rfl d_X_turn_26 ?_
    refine gfN C hP 5 0 1 rfl rfl (by decide) C.ns.1 rfl d_X_turn_29 ?_
    refine jc_ge (tgt := 56) C d_X_turn_32 (by decide) (by omega) (by omega) (fun h => ?_) (fun h => ?_)
    · exfalso; omega
    · refine lv_aload_n C.x C.b d_X_turn_35 rfl (lv_at hl 0 rfl) ?_
      refine gf C hP 0 2 1 rfl rfl (by decide) fl_X_18 rfl d_X_turn_36 ?_
      refine lv_aload_n C.x C.b d_X_turn_39 rfl (lv_at hl 0 rfl) ?_
      refine gf C hP 0 2 2 rfl rfl (by decide) fl_X_21 rfl d_X_turn_40 ?_
      refine lv_iload_n C.x C.b d_X_turn_43 rfl (lv_at hl 1 rfl) ?_
      have hg8 : to_ i < 256 := by rw [hO i (by omega)]; exact gt_lt (by decide) hOb i
      refine ciV (wr := [oX x tp ip op ru ro sp V.length w, oB tp rt T.length ta tf, aB cB rt 8192 tt, oB ip ri ((O.take i).length) 0 0, aB cB ri 8192 ti, oU ru sm, aN cI sm 4096 S, aN cI ro 4096 v, aN cI sp 4096 vs]) C hA hP hD hS hl.1 (c_B_get l D cI cB op rO O.length oa fo (8192 * u) i to_ (by omega) (by omega) hg8) ok_X_51 [.ref ip] [5, 6] [0, 1, 2, 3, 4, 7, 8, 9, 10] 0 0 rfl rfl rfl rfl (by decide) rfl (by decide) (by decide) rfl rfl (Nat.le_of_ble_eq_true rfl) (⟨by (try dsimp only [rmO]); omega, by (try dsimp only [rmO]); omega⟩) (⟨by (try dsimp only [rmO]); omega, by (try dsimp only [rmO]); omega⟩) d_X_turn_44 ?_
      intro rg w1 H locs hw hP hD hS
      obtain ⟨rfl, rfl⟩ := hw
      have hP : va_P D classes [oX x tp ip op ru ro sp V.length w, oB tp rt T.length ta tf, aB cB rt 8192 tt, oB ip ri ((O.take i).length) 0 0, aB cB ri 8192 ti, oU ru sm, aN cI sm 4096 S, aN cI ro 4096 v, aN cI sp 4096 vs, oB op rO O.length oa fo, aB cB rO (8192 * u) to_] H := hP
      have hD : va_D A [oX x tp ip op ru ro sp V.length w, oB tp rt T.length ta tf, aB cB rt 8192 tt, oB ip ri ((O.take i).length) 0 0, aB cB ri 8192 ti, oU ru sm, aN cI sm 4096 S, aN cI ro 4096 v, aN cI sp 4096 vs, oB op rO O.length oa fo, aB cB rO (8192 * u) to_] := hD
      refine ra_i (y := nI (gt O i)) (by rw [hO i (by omega)]) ?_
      refine cvV (wr := [oX x tp ip op ru ro sp V.length w, oB tp rt T.length ta tf, aB cB rt 8192 tt, oU ru sm, aN cI sm 4096 S, aN cI ro 4096 v, aN cI sp 4096 vs, oB op rO O.length oa fo, aB cB rO (8192 * u) to_]) C hA hP hD hS hl.1 (c_B_put l D cI cB ip ri 0 0 (gt O i) 1 1 (O.take i) ti hI (Or.inl ⟨by omega, rfl⟩) (by omega) (by decide) (by decide)) ok_X_45 [] [3, 4] [0, 1, 2, 5, 6, 7, 8, 9, 10] 0 0 rfl rfl rfl rfl (by decide) rfl (by decide) (by decide) rfl rfl (Nat.le_of_ble_eq_true rfl) (⟨by (try dsimp only [rmO]); omega, by (try dsimp only [rmO]); omega⟩) (⟨by (try dsimp only [rmO]); omega, by (try dsimp only [rmO]); omega⟩) d_X_turn_47 ?_
      intro w1 H locs hw hP hD hS
      obtain ⟨r1, t1, rfl, hL1⟩ := hw
      have hP : va_P D classes [oX x tp ip op ru ro sp V.length w, oB tp rt T.length ta tf, aB cB rt 8192 tt, oU ru sm, aN cI sm 4096 S, aN cI ro 4096 v, aN cI sp 4096 vs, oB op rO O.length oa fo, aB cB rO (8192 * u) to_, oB ip r1 ((O.take i).length + 1) 0 0, aB cB r1 8192 t1] H := hP
      have hD : va_D A [oX x tp ip op ru ro sp V.length w, oB tp rt T.length ta tf, aB cB rt 8192 tt, oU ru sm, aN cI sm 4096 S, aN cI ro 4096 v, aN cI sp 4096 vs, oB op rO O.length oa fo, aB cB rO (8192 * u) to_, oB ip r1 ((O.take i).length + 1) 0 0, aB cB r1 8192 t1] := hD
      refine W.widen (k := cells) (n := slots) (by omega) (by omega) ?_
      rw [Nat.mod_eq_of_lt (gt_lt (by decide) hOb i), ← take_gt (by omega)] at hL1
      have el : (O.take i).length + 1 = (O.take (i + 1)).length := by rw [List.length_take, List.length_take]; omega
      rw [el] at hP hD
      have hP : va_P D classes [oX x tp ip op ru ro sp V.length w, oB tp rt T.length ta tf, aB cB rt 8192 tt, oB ip r1 ((O.take (i + 1)).length) 0 0, aB cB r1 8192 t1, oB op rO O.length oa fo, aB cB rO (8192 * u) to_, oU ru sm, aN cI sm 4096 S, aN cI ro 4096 v, aN cI sp 4096 vs] H := hP.sub [0, 1, 2, 9, 10, 7, 8, 3, 4, 5, 6] rfl
      have hD : va_D A [oX x tp ip op ru ro sp V.length w, oB tp rt T.length ta tf, aB cB rt 8192 tt, oB ip r1 ((O.take (i + 1)).length) 0 0, aB cB r1 8192 t1, oB op rO O.length oa fo, aB cB rO (8192 * u) to_, oU ru sm, aN cI sm 4096 S, aN cI ro 4096 v, aN cI sp 4096 vs] := hD.sub [0, 1, 2, 9, 10, 7, 8, 3, 4, 5, 6] (by decide) rfl
      refine lv_iinc (v := (nI (i + 1))) (lv' := [(1, .int (nI (i + 1))), (0, .ref x)]) C.x C.b d_X_turn_50 hl (k := 1) rfl (nI_inc _ 1) (by decide) rfl (fun ls hl => ?_)
      refine lv_goto (tgt := 24) C.x C.b d_X_turn_53 (by decide) ?_
      exact ih (i + 1) r1 t1 (by omega) hL1 H locs ls hP hD hS (lv_sub hl [1, 0] rfl)
set_option maxHeartbeats 4000000 in
set_option maxRecDepth 100000 in
/-- end -/
theorem c_X_end (l : Launch) (D : va_G) (cI cB : ClassId) (x : Nat) (T I O V : List Nat) (w : Nat) (hv : Vd T I O V w) (ws : va_W) (hR : RX cI cB x T I O V w ws) (x1 : Nat) (hx1 : x1 < 2 ^ 32) : Ki l D cI cB y_X_end b_X_end 3 2 40 0 0 .boolean [.ref x, .int (nI x1)] ws (fun r w1 => r = enR T x1 ∧ RX cI cB x (enT T x1) (enI T I x1) O V w w1) := by
  obtain ⟨tp, ip, op, ru, ro, sp, rt, ri, rO, sm, ta, tf, ia, fi, oa, fo, u, tt, ti, to_, v, vs, S, rfl, hT, hI, hO, hV, hu, hul⟩ := hR
  obtain ⟨v1, v2, v3, v4, v5, v6, v7, v8, v9⟩ := hv
  refine ent (fun A => va_Qi _ (BW D A) A) (by decide) (Nat.le_of_ble_eq_true rfl) ?_
  intro p e s m below meth c A ls C hA hP hD hS hl
  have hl : lv_has ls 3 [(0, .ref x), (1, .int (nI x1))] := hl
  refine lv_iload_n C.x C.b d_X_end_0 rfl (lv_at hl 1 rfl) ?_
  refine jz_lt (tgt := 15) C d_X_end_1 (by decide) (by omega) (fun h1 => ?_) (fun h1 => ?_)
  · refine lv_iconst (v := nI 0) C.x C.b d_X_end_15 (by decide) ?_
    exact reti C hP hD hS d_X_end_16 (by decide) (by omega) (by omega) (⟨(if_neg (by omega)).symm, by unfold enT enI; rw [if_neg (by omega), if_neg (by omega)]; exact ⟨_, _, _, _, _, _, _, _, _, _, _, _, _, _, _, _, _, _, _, _, _, _, _, rfl, hT, hI, hO, hV, hu, hul⟩⟩)
  · refine lv_iload_n C.x C.b d_X_end_4 rfl (lv_at hl 1 rfl) ?_
    refine lv_aload_n C.x C.b d_X_end_5 rfl (lv_at hl 0 rfl) ?_
    refine gf C hP 0 2 0 rfl rfl (by decide) fl_X_14 rfl d_X_end_6 ?_
    refine gfN C hP 1 0 1 rfl rfl (by decide) C.ns.1 rfl d_X_end_9 ?_
    refine jc_le (tgt := 17) C d_X_end_12 (by decide) (by omega) (by omega) (fun h2 => ?_) (fun h2 => ?_)
    · refine lv_aload_n C.x C.b d_X_end_17 rfl (lv_at hl 0 rfl) ?_
      refine gf C hP 0 2 1 rfl rfl (by decide) fl_X_18 rfl d_X_end_18 ?_
      refine cvV (wr := [oX x tp ip op ru ro sp V.length w, oB tp rt T.length ta tf, aB cB rt 8192 tt, aB cB ri 8192 ti, oB op rO O.length oa fo, aB cB rO (8192 * u) to_, oU ru sm, aN cI sm 4096 S, aN cI ro 4096 v, aN cI sp 4096 vs]) C hA hP hD hS hl.1 (c_B_clear l D cI cB ip ri I.length ia fi) ok_X_48 [] [3] [0, 1, 2, 4, 5, 6, 7, 8, 9, 10] 0 0 rfl rfl rfl rfl (by decide) rfl (by decide) (by decide) rfl rfl (Nat.le_of_ble_eq_true rfl) (⟨by (try dsimp only [rmO]); omega, by (try dsimp only [rmO]); omega⟩) (⟨by (try dsimp only [rmO]); omega, by (try dsimp only [rmO]); omega⟩) d_X_end_21 ?_
      intro w1 H locs hw hP hD hS
      obtain rfl := hw
      have hP : va_P D classes [oX x tp ip op ru ro sp V.length w, oB tp rt T.length ta tf, aB cB rt 8192 tt, aB cB ri 8192 ti, oB op rO O.length oa fo, aB cB rO (8192 * u) to_, oU ru sm, aN cI sm 4096 S, aN cI ro 4096 v, aN cI sp 4096 vs, oB ip ri 0 0 0] H := hP
      have hD : va_D A [oX x tp ip op ru ro sp V.length w, oB tp rt T.length ta tf, aB cB rt 8192 tt, aB cB ri 8192 ti, oB op rO O.length oa fo, aB cB rO (8192 * u) to_, oU ru sm, aN cI sm 4096 S, aN cI ro 4096 v, aN cI sp 4096 vs, oB ip ri 0 0 0] := hD
      have hP : va_P D classes [oX x tp ip op ru ro sp V.length w, oB tp rt T.length ta tf, aB cB rt 8192 tt, oB ip ri 0 0 0, aB cB ri 8192 ti, oB op rO O.length oa fo, aB cB rO (8192 * u) to_, oU ru sm, aN cI sm 4096 S, aN cI ro 4096 v, aN cI sp 4096 vs] H := hP.sub [0, 1, 2, 10, 3, 4, 5, 6, 7, 8, 9] rfl
      have hD : va_D A [oX x tp ip op ru ro sp V.length w, oB tp rt T.length ta tf, aB cB rt 8192 tt, oB ip ri 0 0 0, aB cB ri 8192 ti, oB op rO O.length oa fo, aB cB rO (8192 * u) to_, oU ru sm, aN cI sm 4096 S, aN cI ro 4096 v, aN cI sp 4096 vs] := hD.sub [0, 1, 2, 10, 3, 4, 5, 6, 7, 8, 9] (by decide) rfl
      refine lv_iconst (v := nI 0) C.x C.b d_X_end_24 (by decide) ?_
      refine lv_istore_n (lv' := [(2, .int (nI 0)), (0, .ref x), (1, .int (nI x1))]) C.x C.b d_X_end_25 rfl hl (by decide) rfl (fun ls hl => ?_)
      refine lp_X_end C hA x tp ip op ru ro sp rt rO sm ta tf oa fo u tt to_ v vs S T O V w x1 h2 v1 hT v6 (Nat.le_refl 2) (Nat.le_refl 40) (Nat.zero_le _) (Nat.zero_le _) (fun ri ti hI H locs ls hP hD hS hl => ?_) x1 0 ri ti (by omega) (Hd_nil ti) H locs ls hP hD hS (lv_sub hl [1, 2, 0] rfl)
      refine lv_aload_n C.x C.b d_X_end_52 rfl (lv_at hl 0 rfl) ?_
      refine gf C hP 0 2 0 rfl rfl (by decide) fl_X_14 rfl d_X_end_53 ?_
      refine cvV (wr := [oX x tp ip op ru ro sp V.length w, aB cB rt 8192 tt, oB ip ri ((T.take x1).length) 0 0, aB cB ri 8192 ti, oB op rO O.length oa fo, aB cB rO (8192 * u) to_, oU ru sm, aN cI sm 4096 S, aN cI ro 4096 v, aN cI sp 4096 vs]) C hA hP hD hS hl.1 (c_B_clear l D cI cB tp rt T.length ta tf) ok_X_48 [] [1] [0, 2, 3, 4, 5, 6, 7, 8, 9, 10] 0 0 rfl rfl rfl rfl (by decide) rfl (by decide) (by decide) rfl rfl (Nat.le_of_ble_eq_true rfl) (⟨by (try dsimp only [rmO]); omega, by (try dsimp only [rmO]); omega⟩) (⟨by (try dsimp only [rmO]); omega, by (try dsimp only [rmO]); omega⟩) d_X_end_56 ?_
      intro w1 H locs hw hP hD hS
      obtain rfl := hw
      have hP : va_P D classes [oX x tp ip op ru ro sp V.length w, aB cB rt 8192 tt, oB ip ri ((T.take x1).length) 0 0, aB cB ri 8192 ti, oB op rO O.length oa fo, aB cB rO (8192 * u) to_, oU ru sm, aN cI sm 4096 S, aN cI ro 4096 v, aN cI sp 4096 vs, oB tp rt 0 0 0] H := hP
      have hD : va_D A [oX x tp ip op ru ro sp V.length w, aB cB rt 8192 tt, oB ip ri ((T.take x1).length) 0 0, aB cB ri 8192 ti, oB op rO O.length oa fo, aB cB rO (8192 * u) to_, oU ru sm, aN cI sm 4096 S, aN cI ro 4096 v, aN cI sp 4096 vs, oB tp rt 0 0 0] := hD
      have hP : va_P D classes [oX x tp ip op ru ro sp V.length w, oB tp rt 0 0 0, aB cB rt 8192 tt, oB ip ri ((T.take x1).length) 0 0, aB cB ri 8192 ti, oB op rO O.length oa fo, aB cB rO (8192 * u) to_, oU ru sm, aN cI sm 4096 S, aN cI ro 4096 v, aN cI sp 4096 vs] H := hP.sub [0, 10, 1, 2, 3, 4, 5, 6, 7, 8, 9] rfl
      have hD : va_D A [oX x tp ip op ru ro sp V.length w, oB tp rt 0 0 0, aB cB rt 8192 tt, oB ip ri ((T.take x1).length) 0 0, aB cB ri 8192 ti, oB op rO O.length oa fo, aB cB rO (8192 * u) to_, oU ru sm, aN cI sm 4096 S, aN cI ro 4096 v, aN cI sp 4096 vs] := hD.sub [0, 10, 1, 2, 3, 4, 5, 6, 7, 8, 9] (by decide) rfl
      refine lv_iconst (v := nI 1) C.x C.b d_X_end_59 (by decide) ?_
      exact reti C hP hD hS d_X_end_60 (by decide) (by omega) (by omega) (⟨(if_pos h2).symm, by unfold enT enI; rw [if_pos h2, if_pos h2]; exact ⟨_, _, _, _, _, _, _, _, _, _, _, _, _, _, _, _, _, _, _, _, _, _, _, rfl, Hd_nil tt, hI, hO, hV, hu, hul⟩⟩)
    · refine lv_iconst (v := nI 0) C.x C.b d_X_end_15 (by decide) ?_
      exact reti C hP hD hS d_X_end_16 (by decide) (by omega) (by omega) (⟨(if_neg (by omega)).symm, by unfold enT enI; rw [if_neg (by omega), if_neg (by omega)]; exact ⟨_, _, _, _, _, _, _, _, _, _, _, _, _, _, _, _, _, _, _, _, _, _, _, rfl, hT, hI, hO, hV, hu, hul⟩⟩)
set_option maxHeartbeats 4000000 in
set_option maxRecDepth 100000 in
/-- turn -/
theorem c_X_turn (l : Launch) (D : va_G) (cI cB : ClassId) (x : Nat) (T I O V : List Nat) (w : Nat) (hv : Vd T I O V w) (ws : va_W) (hR : RX cI cB x T I O V w ws)  : Ki l D cI cB y_X_turn b_X_turn 2 2 40 0 0 .boolean [.ref x] ws (fun r w1 => r = tuR O ∧ RX cI cB x T (tuI I O) O V w w1) := by
  obtain ⟨tp, ip, op, ru, ro, sp, rt, ri, rO, sm, ta, tf, ia, fi, oa, fo, u, tt, ti, to_, v, vs, S, rfl, hT, hI, hO, hV, hu, hul⟩ := hR
  obtain ⟨v1, v2, v3, v4, v5, v6, v7, v8, v9⟩ := hv
  refine ent (fun A => va_Qi _ (BW D A) A) (by decide) (Nat.le_of_ble_eq_true rfl) ?_
  intro p e s m below meth c A ls C hA hP hD hS hl
  have hl : lv_has ls 2 [(0, .ref x)] := hl
  refine lv_aload_n C.x C.b d_X_turn_0 rfl (lv_at hl 0 rfl) ?_
  refine gf C hP 0 2 2 rfl rfl (by decide) fl_X_21 rfl d_X_turn_1 ?_
  refine gfN C hP 5 0 1 rfl rfl (by decide) C.ns.1 rfl d_X_turn_4 ?_
  refine lv_sipush (v := nI 8192) C.x C.b d_X_turn_7 (by decide) ?_
  refine jc_le (tgt := 15) C d_X_turn_10 (by decide) (by omega) (by omega) (fun h => ?_) (fun h => ?_)
  · refine lv_aload_n C.x C.b d_X_turn_15 rfl (lv_at hl 0 rfl) ?_
    refine gf C hP 0 2 1 rfl rfl (by decide) fl_X_18 rfl d_X_turn_16 ?_
    refine cvV (wr := [oX x tp ip op ru ro sp V.length w, oB tp rt T.length ta tf, aB cB rt 8192 tt, aB cB ri 8192 ti, oB op rO O.length oa fo, aB cB rO (8192 * u) to_, oU ru sm, aN cI sm 4096 S, aN cI ro 4096 v, aN cI sp 4096 vs]) C hA hP hD hS hl.1 (c_B_clear l D cI cB ip ri I.length ia fi) ok_X_48 [] [3] [0, 1, 2, 4, 5, 6, 7, 8, 9, 10] 0 0 rfl rfl rfl rfl (by decide) rfl (by decide) (by decide) rfl rfl (Nat.le_of_ble_eq_true rfl) (⟨by (try dsimp only [rmO]); omega, by (try dsimp only [rmO]); omega⟩) (⟨by (try dsimp only [rmO]); omega, by (try dsimp only [rmO]); omega⟩) d_X_turn_19 ?_
    intro w1 H locs hw hP hD hS
    obtain rfl := hw
    have hP : va_P D classes [oX x tp ip op ru ro sp V.length w, oB tp rt T.length ta tf, aB cB rt 8192 tt, aB cB ri 8192 ti, oB op rO O.length oa fo, aB cB rO (8192 * u) to_, oU ru sm, aN cI sm 4096 S, aN cI ro 4096 v, aN cI sp 4096 vs, oB ip ri 0 0 0] H := hP
    have hD : va_D A [oX x tp ip op ru ro sp V.length w, oB tp rt T.length ta tf, aB cB rt 8192 tt, aB cB ri 8192 ti, oB op rO O.length oa fo, aB cB rO (8192 * u) to_, oU ru sm, aN cI sm 4096 S, aN cI ro 4096 v, aN cI sp 4096 vs, oB ip ri 0 0 0] := hD
    have hP : va_P D classes [oX x tp ip op ru ro sp V.length w, oB tp rt T.length ta tf, aB cB rt 8192 tt, oB ip ri 0 0 0, aB cB ri 8192 ti, oB op rO O.length oa fo, aB cB rO (8192 * u) to_, oU ru sm, aN cI sm 4096 S, aN cI ro 4096 v, aN cI sp 4096 vs] H := hP.sub [0, 1, 2, 10, 3, 4, 5, 6, 7, 8, 9] rfl
    have hD : va_D A [oX x tp ip op ru ro sp V.length w, oB tp rt T.length ta tf, aB cB rt 8192 tt, oB ip ri 0 0 0, aB cB ri 8192 ti, oB op rO O.length oa fo, aB cB rO (8192 * u) to_, oU ru sm, aN cI sm 4096 S, aN cI ro 4096 v, aN cI sp 4096 vs] := hD.sub [0, 1, 2, 10, 3, 4, 5, 6, 7, 8, 9] (by decide) rfl
    refine lv_iconst (v := nI 0) C.x C.b d_X_turn_22 (by decide) ?_
    refine lv_istore_n (lv' := [(1, .int (nI 0)), (0, .ref x)]) C.x C.b d_X_turn_23 rfl hl (by decide) rfl (fun ls hl => ?_)
    refine lp_X_turn C hA x tp ip op ru ro sp rt rO sm ta tf oa fo u tt to_ v vs S T O V w h hO v8 hul (by omega) (Nat.le_refl 2) (Nat.le_refl 40) (Nat.zero_le _) (Nat.zero_le _) (fun ri ti hI H locs ls hP hD hS hl => ?_) O.length 0 ri ti (by omega) (Hd_nil ti) H locs ls hP hD hS (lv_sub hl [1, 0] rfl)
    rw [List.take_length] at hP hD hI
    refine lv_iconst (v := nI 1) C.x C.b d_X_turn_56 (by decide) ?_
    exact reti C hP hD hS d_X_turn_57 (by decide) (by omega) (by omega) (⟨(if_pos h).symm, by unfold tuI; rw [if_pos h]; exact ⟨_, _, _, _, _, _, _, _, _, _, _, _, _, _, _, _, _, _, _, _, _, _, _, rfl, hT, hI, hO, hV, hu, hul⟩⟩)
  · refine lv_iconst (v := nI 0) C.x C.b d_X_turn_13 (by decide) ?_
    exact reti C hP hD hS d_X_turn_14 (by decide) (by omega) (by omega) (⟨(if_neg (by omega)).symm, by unfold tuI; rw [if_neg (by omega)]; exact ⟨_, _, _, _, _, _, _, _, _, _, _, _, _, _, _, _, _, _, _, _, _, _, _, rfl, hT, hI, hO, hV, hu, hul⟩⟩)
set_option maxHeartbeats 4000000 in
set_option maxRecDepth 100000 in
/-- output -/
theorem c_X_output (l : Launch) (D : va_G) (cI cB : ClassId) (x : Nat) (T I O V : List Nat) (w : Nat) (hv : Vd T I O V w) (ws : va_W) (hR : RX cI cB x T I O V w ws) (x1 : Nat) (hx1 : x1 < 2 ^ 32) : Ki l D cI cB y_X_output b_X_output 2 1 21 0 0 .int [.ref x, .int (nI x1)] ws (fun r w1 => r = ouR O x1 ∧ RX cI cB x T I O V w w1) := by
  obtain ⟨tp, ip, op, ru, ro, sp, rt, ri, rO, sm, ta, tf, ia, fi, oa, fo, u, tt, ti, to_, v, vs, S, rfl, hT, hI, hO, hV, hu, hul⟩ := hR
  obtain ⟨v1, v2, v3, v4, v5, v6, v7, v8, v9⟩ := hv
  refine ent (fun A => va_Qi _ (BW D A) A) (by decide) (Nat.le_of_ble_eq_true rfl) ?_
  intro p e s m below meth c A ls C hA hP hD hS hl
  have hl : lv_has ls 2 [(0, .ref x), (1, .int (nI x1))] := hl
  refine lv_iload_n C.x C.b d_X_output_0 rfl (lv_at hl 1 rfl) ?_
  refine jz_lt (tgt := 15) C d_X_output_1 (by decide) (by omega) (fun h1 => ?_) (fun h1 => ?_)
  · refine lv_iconst (v := (-1)) C.x C.b d_X_output_15 (by decide) ?_
    refine lv_goto (tgt := 27) C.x C.b d_X_output_16 (by decide) ?_
    exact reti C hP hD hS d_X_output_27 (rfl) (by omega) (by omega) (⟨(if_neg (by omega)).symm, ⟨_, _, _, _, _, _, _, _, _, _, _, _, _, _, _, _, _, _, _, _, _, _, _, rfl, hT, hI, hO, hV, hu, hul⟩⟩)
  · refine lv_iload_n C.x C.b d_X_output_4 rfl (lv_at hl 1 rfl) ?_
    refine lv_aload_n C.x C.b d_X_output_5 rfl (lv_at hl 0 rfl) ?_
    refine gf C hP 0 2 2 rfl rfl (by decide) fl_X_21 rfl d_X_output_6 ?_
    refine gfN C hP 5 0 1 rfl rfl (by decide) C.ns.1 rfl d_X_output_9 ?_
    refine jc_lt (tgt := 19) C d_X_output_12 (by decide) (by omega) (by omega) (fun h2 => ?_) (fun h2 => ?_)
    · refine lv_aload_n C.x C.b d_X_output_19 rfl (lv_at hl 0 rfl) ?_
      refine gf C hP 0 2 2 rfl rfl (by decide) fl_X_21 rfl d_X_output_20 ?_
      refine lv_iload_n C.x C.b d_X_output_23 rfl (lv_at hl 1 rfl) ?_
      have hg8 : to_ x1 < 256 := by rw [hO x1 h2]; exact gt_lt (by decide) v8 x1
      refine ciV (wr := [oX x tp ip op ru ro sp V.length w, oB tp rt T.length ta tf, aB cB rt 8192 tt, oB ip ri I.length ia fi, aB cB ri 8192 ti, oU ru sm, aN cI sm 4096 S, aN cI ro 4096 v, aN cI sp 4096 vs]) C hA hP hD hS hl.1 (c_B_get l D cI cB op rO O.length oa fo (8192 * u) x1 to_ (by omega) (by omega) hg8) ok_X_51 [] [5, 6] [0, 1, 2, 3, 4, 7, 8, 9, 10] 0 0 rfl rfl rfl rfl (by decide) rfl (by decide) (by decide) rfl rfl (Nat.le_of_ble_eq_true rfl) (⟨by (try dsimp only [rmO]); omega, by (try dsimp only [rmO]); omega⟩) (⟨by (try dsimp only [rmO]); omega, by (try dsimp only [rmO]); omega⟩) d_X_output_24 ?_
      intro rg w1 H locs hw hP hD hS
      obtain ⟨rfl, rfl⟩ := hw
      have hP : va_P D classes [oX x tp ip op ru ro sp V.length w, oB tp rt T.length ta tf, aB cB rt 8192 tt, oB ip ri I.length ia fi, aB cB ri 8192 ti, oU ru sm, aN cI sm 4096 S, aN cI ro 4096 v, aN cI sp 4096 vs, oB op rO O.length oa fo, aB cB rO (8192 * u) to_] H := hP
      have hD : va_D A [oX x tp ip op ru ro sp V.length w, oB tp rt T.length ta tf, aB cB rt 8192 tt, oB ip ri I.length ia fi, aB cB ri 8192 ti, oU ru sm, aN cI sm 4096 S, aN cI ro 4096 v, aN cI sp 4096 vs, oB op rO O.length oa fo, aB cB rO (8192 * u) to_] := hD
      have hP : va_P D classes [oX x tp ip op ru ro sp V.length w, oB tp rt T.length ta tf, aB cB rt 8192 tt, oB ip ri I.length ia fi, aB cB ri 8192 ti, oB op rO O.length oa fo, aB cB rO (8192 * u) to_, oU ru sm, aN cI sm 4096 S, aN cI ro 4096 v, aN cI sp 4096 vs] H := hP.sub [0, 1, 2, 3, 4, 9, 10, 5, 6, 7, 8] rfl
      have hD : va_D A [oX x tp ip op ru ro sp V.length w, oB tp rt T.length ta tf, aB cB rt 8192 tt, oB ip ri I.length ia fi, aB cB ri 8192 ti, oB op rO O.length oa fo, aB cB rO (8192 * u) to_, oU ru sm, aN cI sm 4096 S, aN cI ro 4096 v, aN cI sp 4096 vs] := hD.sub [0, 1, 2, 3, 4, 9, 10, 5, 6, 7, 8] (by decide) rfl
      exact reti C hP hD hS d_X_output_27 (rfl) (by omega) (by omega) (⟨by unfold ouR; rw [if_pos h2, hO x1 h2], ⟨_, _, _, _, _, _, _, _, _, _, _, _, _, _, _, _, _, _, _, _, _, _, _, rfl, hT, hI, hO, hV, hu, hul⟩⟩)
    · refine lv_iconst (v := (-1)) C.x C.b d_X_output_15 (by decide) ?_
      refine lv_goto (tgt := 27) C.x C.b d_X_output_16 (by decide) ?_
      exact reti C hP hD hS d_X_output_27 (rfl) (by omega) (by omega) (⟨(if_neg (by omega)).symm, ⟨_, _, _, _, _, _, _, _, _, _, _, _, _, _, _, _, _, _, _, _, _, _, _, rfl, hT, hI, hO, hV, hu, hul⟩⟩)
end
section
/-! contracts of RunRows: encode, decode, the constructor (printed by gen/x3.py) -/
set_option maxHeartbeats 4000000 in
set_option maxRecDepth 100000 in
/-- encode: do all numbers fit? -/
theorem lp_X_encode {p : Program} {l : Launch} {e : Env} {R : Room} {s : State} {m : MethodId} {args : Array Value} {below : List Frame} {meth : Method} {c : Code} {D : va_G} {cI cB : ClassId} {A : Nat → Prop} {Q : State → Prop} {cells slots : Nat} (C : Cx p s m args meth c D cI cB b_X_encode 3 R_X (some .int) "encode") (hA : ∀ q : Nat, s.heap.size ≤ q → A q) (x tp ip op ru ro sp rt ri rO sm ta tf ia fi u : Nat) (tt ti to_ v vs S : Nat → Nat) (T I V : List Nat) (w : Nat) (hV : Hd v V) (hVn : V.length ≤ 4096) (hV32 : ∀ x ∈ V, x < 2 ^ 32) (hw : w ≤ 32) (hR1 : 1 ≤ R.frames) (hR2 : 21 ≤ R.locals) (hRc : cells ≤ R.cells) (hRs : slots ≤ R.slots) (kk : ∀ (H : Heap) (locs : List Loc) (ls : Array Slot), va_P D classes [oX x tp ip op ru ro sp V.length w, oB tp rt T.length ta tf, aB cB rt 8192 tt, oB ip ri I.length ia fi, aB cB ri 8192 ti, oB op rO 0 0 0, aB cB rO (8192 * u) to_, oU ru sm, aN cI sm 4096 S, aN cI ro 4096 v, aN cI sp 4096 vs] H → va_D A [oX x tp ip op ru ro sp V.length w, oB tp rt T.length ta tf, aB cB rt 8192 tt, oB ip ri I.length ia fi, aB cB ri 8192 ti, oB op rO 0 0 0, aB cB rO (8192 * u) to_, oU ru sm, aN cI sm 4096 S, aN cI ro 4096 v, aN cI sp 4096 vs] → va_S A s.heap H locs → lv_has ls 3 [(0, .ref x), (1, .int (nI ((ftF (gt V) w V.length).toNat))), (2, .int (nI V.length))] → W p l e R s m args below meth c H locs cells slots Q (F0 m 41 ls [])) : ∀ (d i : Nat), i + d = V.length → ∀ (H : Heap) (locs : List Loc) (ls : Array Slot), va_P D classes [oX x tp ip op ru ro sp V.length w, oB tp rt T.length ta tf, aB cB rt 8192 tt, oB ip ri I.length ia fi, aB cB ri 8192 ti, oB op rO 0 0 0, aB cB rO (8192 * u) to_, oU ru sm, aN cI sm 4096 S, aN cI ro 4096 v, aN cI sp 4096 vs] H → va_D A [oX x tp ip op ru ro sp V.length w, oB tp rt T.length ta tf, aB cB rt 8192 tt, oB ip ri I.length ia fi, aB cB ri 8192 ti, oB op rO 0 0 0, aB cB rO (8192 * u) to_, oU ru sm, aN cI sm 4096 S, aN cI ro 4096 v, aN cI sp 4096 vs] → va_S A s.heap H locs → lv_has ls 3 [(0, .ref x), (1, .int (nI ((ftF (gt V) w i).toNat))), (2, .int (nI i))] → W p l e R s m args below meth c H locs cells slots (Q) (F0 m 11 ls []) := by
  intro d
  induction d with
  | zero =>
    intro i hi H locs ls hP hD hS hl
    refine lv_iload_n C.x C.b d_X_encode_11 rfl (lv_at hl 2 rfl) ?_
    refine lv_aload_n C.x C.b d_X_encode_12 rfl (lv_at hl 0 rfl) ?_
    refine gf C hP 0 2 6 rfl rfl (by decide) fl_X_58 rfl d_X_encode_13 ?_
    refine jc_ge (tgt := 41) C d_X_encode_16 (by decide) (by omega) (by omega) (fun h => ?_) (fun h => ?_)
    · obtain rfl : i = V.length := by omega
      exact kk H locs ls hP hD hS hl
    · exfalso; omega
  | succ d ih =>
    intro i hi H locs ls hP hD hS hl
    refine lv_iload_n C.x C.b d_X_encode_11 rfl (lv_at hl 2 rfl) ?_
    refine lv_aload_n C.x C.b d_X_encode_12 rfl (lv_at hl 0 rfl) ?_
    refine gf C hP 0 2 6 rfl rfl (by decide) fl_X_58 rfl d_X_encode_13 ?_
    refine jc_ge (tgt := 41) C d_X_encode_16 (by decide) (by omega) (by omega) (fun h => ?_) (fun h => ?_)
    · exfalso; omega
    · refine lv_iload_n C.x C.b d_X_encode_19 rfl (lv_at hl 1 rfl) ?_
      refine lv_aload_n C.x C.b d_X_encode_20 rfl (lv_at hl 0 rfl) ?_
      refine gf C hP 0 2 4 rfl rfl (by decide) fl_X_31 rfl d_X_encode_21 ?_
      refine lv_iload_n C.x C.b d_X_encode_24 rfl (lv_at hl 2 rfl) ?_
      refine ild C hP 9 rfl (by omega) (by omega) d_X_encode_25 ?_
      refine ra_i (y := nI (gt V i)) (by rw [hV i (by omega)]) ?_
      refine lv_aload_n C.x C.b d_X_encode_26 rfl (lv_at hl 0 rfl) ?_
      refine gf C hP 0 2 7 rfl rfl (by decide) fl_X_55 rfl d_X_encode_27 ?_
      refine ciS (wr := [oX x tp ip op ru ro sp V.length w, oB tp rt T.length ta tf, aB cB rt 8192 tt, oB ip ri I.length ia fi, aB cB ri 8192 ti, oB op rO 0 0 0, aB cB rO (8192 * u) to_, oU ru sm, aN cI sm 4096 S, aN cI ro 4096 v, aN cI sp 4096 vs]) C hA hP hD hS hl.1 (c_U_fits l D cI cB (gt V i) w (gt_lt (by decide) hV32 i) hw) ok_X_59 [.int (nI ((ftF (gt V) w i).toNat))] [] [0, 1, 2, 3, 4, 5, 6, 7, 8, 9, 10] rfl (by decide) rfl (by decide) (by decide) rfl rfl (Nat.le_of_ble_eq_true rfl) (⟨by (try dsimp only [rmO]); omega, by (try dsimp only [rmO]); omega⟩) (⟨by (try dsimp only [rmO]); omega, by (try dsimp only [rmO]); omega⟩) d_X_encode_30 ?_
      intro rf w1 H locs hw hP hD hS
      obtain ⟨rfl, rfl⟩ := hw
      have hP : va_P D classes [oX x tp ip op ru ro sp V.length w, oB tp rt T.length ta tf, aB cB rt 8192 tt, oB ip ri I.length ia fi, aB cB ri 8192 ti, oB op rO 0 0 0, aB cB rO (8192 * u) to_, oU ru sm, aN cI sm 4096 S, aN cI ro 4096 v, aN cI sp 4096 vs] H := hP
      have hD : va_D A [oX x tp ip op ru ro sp V.length w, oB tp rt T.length ta tf, aB cB rt 8192 tt, oB ip ri I.length ia fi, aB cB ri 8192 ti, oB op rO 0 0 0, aB cB rO (8192 * u) to_, oU ru sm, aN cI sm 4096 S, aN cI ro 4096 v, aN cI sp 4096 vs] := hD
      refine W.widen (k := cells) (n := slots) (by omega) (by omega) ?_
      refine lv_iand C.x C.b d_X_encode_33 ?_
      refine ra_i (y := nI ((ftF (gt V) w (i + 1)).toNat)) (by rw [and_ft]; rfl) ?_
      refine lv_istore_n (lv' := [(1, .int (nI ((ftF (gt V) w (i + 1)).toNat))), (0, .ref x), (2, .int (nI i))]) C.x C.b d_X_encode_34 rfl hl (by decide) rfl (fun ls hl => ?_)
      refine lv_iinc (v := (nI (i + 1))) (lv' := [(2, .int (nI (i + 1))), (1, .int (nI ((ftF (gt V) w (i + 1)).toNat))), (0, .ref x)]) C.x C.b d_X_encode_35 hl (k := 2) rfl (nI_inc _ 1) (by decide) rfl (fun ls hl => ?_)
      refine lv_goto (tgt := 11) C.x C.b d_X_encode_38 (by decide) ?_
      exact ih (i + 1) (by omega) H locs ls hP hD hS (lv_sub hl [2, 1, 0] rfl)
set_option maxHeartbeats 4000000 in
set_option maxRecDepth 100000 in
/-- encode -/
theorem c_X_encode (l : Launch) (D : va_G) (cI cB : ClassId) (x : Nat) (T I O V : List Nat) (w : Nat) (hv : Vd T I O V w) (ws : va_W) (hR : RX cI cB x T I O V w ws)  : Ki l D cI cB y_X_encode b_X_encode 3 4 96 3 49152 .int [.ref x] ws (fun r w1 => r = ecR V w ∧ RX cI cB x T I (ecO V w) V w w1) := by
  obtain ⟨tp, ip, op, ru, ro, sp, rt, ri, rO, sm, ta, tf, ia, fi, oa, fo, u, tt, ti, to_, v, vs, S, rfl, hT, hI, hO, hV, hu, hul⟩ := hR
  obtain ⟨v1, v2, v3, v4, v5, v6, v7, v8, v9⟩ := hv
  refine ent (fun A => va_Qi _ (BW D A) A) (by decide) (Nat.le_of_ble_eq_true rfl) ?_
  intro p e s m below meth c A ls C hA hP hD hS hl
  have hl : lv_has ls 3 [(0, .ref x)] := hl
  refine lv_aload_n C.x C.b d_X_encode_0 rfl (lv_at hl 0 rfl) ?_
  refine gf C hP 0 2 2 rfl rfl (by decide) fl_X_21 rfl d_X_encode_1 ?_
  refine cvV (wr := [oX x tp ip op ru ro sp V.length w, oB tp rt T.length ta tf, aB cB rt 8192 tt, oB ip ri I.length ia fi, aB cB ri 8192 ti, aB cB rO (8192 * u) to_, oU ru sm, aN cI sm 4096 S, aN cI ro 4096 v, aN cI sp 4096 vs]) C hA hP hD hS hl.1 (c_B_clear l D cI cB op rO O.length oa fo) ok_X_48 [] [5] [0, 1, 2, 3, 4, 6, 7, 8, 9, 10] 0 0 rfl rfl rfl rfl (by decide) rfl (by decide) (by decide) rfl rfl (Nat.le_of_ble_eq_true rfl) (⟨by (try dsimp only [rmO]); omega, by (try dsimp only [rmO]); omega⟩) (⟨by (try dsimp only [rmO]); omega, by (try dsimp only [rmO]); omega⟩) d_X_encode_4 ?_
  intro w1 H locs hw hP hD hS
  obtain rfl := hw
  have hP : va_P D classes [oX x tp ip op ru ro sp V.length w, oB tp rt T.length ta tf, aB cB rt 8192 tt, oB ip ri I.length ia fi, aB cB ri 8192 ti, aB cB rO (8192 * u) to_, oU ru sm, aN cI sm 4096 S, aN cI ro 4096 v, aN cI sp 4096 vs, oB op rO 0 0 0] H := hP
  have hD : va_D A [oX x tp ip op ru ro sp V.length w, oB tp rt T.length ta tf, aB cB rt 8192 tt, oB ip ri I.length ia fi, aB cB ri 8192 ti, aB cB rO (8192 * u) to_, oU ru sm, aN cI sm 4096 S, aN cI ro 4096 v, aN cI sp 4096 vs, oB op rO 0 0 0] := hD
  have hP : va_P D classes [oX x tp ip op ru ro sp V.length w, oB tp rt T.length ta tf, aB cB rt 8192 tt, oB ip ri I.length ia fi, aB cB ri 8192 ti, oB op rO 0 0 0, aB cB rO (8192 * u) to_, oU ru sm, aN cI sm 4096 S, aN cI ro 4096 v, aN cI sp 4096 vs] H := hP.sub [0, 1, 2, 3, 4, 10, 5, 6, 7, 8, 9] rfl
  have hD : va_D A [oX x tp ip op ru ro sp V.length w, oB tp rt T.length ta tf, aB cB rt 8192 tt, oB ip ri I.length ia fi, aB cB ri 8192 ti, oB op rO 0 0 0, aB cB rO (8192 * u) to_, oU ru sm, aN cI sm 4096 S, aN cI ro 4096 v, aN cI sp 4096 vs] := hD.sub [0, 1, 2, 3, 4, 10, 5, 6, 7, 8, 9] (by decide) rfl
  refine lv_iconst (v := nI 1) C.x C.b d_X_encode_7 (by decide) ?_
  refine lv_istore_n (lv' := [(1, .int (nI 1)), (0, .ref x)]) C.x C.b d_X_encode_8 rfl hl (by decide) rfl (fun ls hl => ?_)
  refine lv_iconst (v := nI 0) C.x C.b d_X_encode_9 (by decide) ?_
  refine lv_istore_n (lv' := [(2, .int (nI 0)), (1, .int (nI 1)), (0, .ref x)]) C.x C.b d_X_encode_10 rfl hl (by decide) rfl (fun ls hl => ?_)
  have hl : lv_has ls 3 [(0, .ref x), (1, .int (nI (ftF (gt V) w 0).toNat)), (2, .int (nI 0))] := lv_sub hl [2, 1, 0] rfl
  refine lp_X_encode C hA x tp ip op ru ro sp rt ri rO sm ta tf ia fi u tt ti to_ v vs S T I V w hV v4 v9 v5 (by decide) (by decide) (Nat.zero_le _) (Nat.zero_le _) (fun H locs ls hP hD hS hl => ?_) V.length 0 (by omega) H locs ls hP hD hS hl
  have hft : (ftF (gt V) w V.length).toNat ≤ 1 := Bool.toNat_le _
  refine lv_iload_n C.x C.b d_X_encode_41 rfl (lv_at hl 1 rfl) ?_
  refine jz_ne (tgt := 47) C d_X_encode_42 (by decide) (by omega) (fun h => ?_) (fun h => ?_)
  · have hft1 : ftF (gt V) w V.length = true := by
      cases q : ftF (gt V) w V.length with
      | true => rfl
      | false => rw [q] at h; exact absurd rfl h
    have hE : (encF (gt V) V.length w V.length 0).length ≤ 17437 := by
      have q := encF_len (gt V) (n := V.length) v5 V.length 0 (by omega)
      omega
    have hg3 := gr_three hu hE
    refine lv_aload_n C.x C.b d_X_encode_47 rfl (lv_at hl 0 rfl) ?_
    refine gf C hP 0 2 3 rfl rfl (by decide) fl_X_27 rfl d_X_encode_48 ?_
    refine lv_aload_n C.x C.b d_X_encode_51 rfl (lv_at hl 0 rfl) ?_
    refine gf C hP 0 2 4 rfl rfl (by decide) fl_X_31 rfl d_X_encode_52 ?_
    refine lv_aload_n C.x C.b d_X_encode_55 rfl (lv_at hl 0 rfl) ?_
    refine gf C hP 0 2 6 rfl rfl (by decide) fl_X_58 rfl d_X_encode_56 ?_
    refine lv_aload_n C.x C.b d_X_encode_59 rfl (lv_at hl 0 rfl) ?_
    refine gf C hP 0 2 7 rfl rfl (by decide) fl_X_55 rfl d_X_encode_60 ?_
    refine lv_aload_n C.x C.b d_X_encode_63 rfl (lv_at hl 0 rfl) ?_
    refine gf C hP 0 2 2 rfl rfl (by decide) fl_X_21 rfl d_X_encode_64 ?_
    refine cvV (wr := [oX x tp ip op ru ro sp V.length w, oB tp rt T.length ta tf, aB cB rt 8192 tt, oB ip ri I.length ia fi, aB cB ri 8192 ti, aN cI sp 4096 vs]) C hA hP hD hS hl.1 (c_U_write l D cI cB op rO ru sm ro V.length w 0 0 u V v hV v9 rfl v4 S v5 (ftF_spec hft1) (by omega) (by omega) to_ (Hd_nil to_)) ok_X_63 [] [7, 8, 9, 5, 6] [0, 1, 2, 3, 4, 10] 1 0 rfl rfl rfl rfl (by decide) rfl (by decide) (by decide) rfl rfl (Nat.le_of_ble_eq_true rfl) (⟨by (try dsimp only [rmO]); omega, by (try dsimp only [rmO]); omega⟩) (⟨by (try dsimp only [rmO]); omega, by (try dsimp only [rmO]); omega⟩) d_X_encode_67 ?_
    intro w1 H locs hw hP hD hS
    obtain ⟨S2, r2, t2, rfl, hL2⟩ := hw
    have hP : va_P D classes [oX x tp ip op ru ro sp V.length w, oB tp rt T.length ta tf, aB cB rt 8192 tt, oB ip ri I.length ia fi, aB cB ri 8192 ti, aN cI sp 4096 vs, oU ru sm, aN cI sm 4096 S2, aN cI ro 4096 v, oB op r2 ((encF (gt V) V.length w V.length 0).length) 0 0, aB cB r2 (8192 * gr u (encF (gt V) V.length w V.length 0).length) t2] H := hP
    have hD : va_D A [oX x tp ip op ru ro sp V.length w, oB tp rt T.length ta tf, aB cB rt 8192 tt, oB ip ri I.length ia fi, aB cB ri 8192 ti, aN cI sp 4096 vs, oU ru sm, aN cI sm 4096 S2, aN cI ro 4096 v, oB op r2 ((encF (gt V) V.length w V.length 0).length) 0 0, aB cB r2 (8192 * gr u (encF (gt V) V.length w V.length 0).length) t2] := hD
    have hP : va_P D classes [oX x tp ip op ru ro sp V.length w, oB tp rt T.length ta tf, aB cB rt 8192 tt, oB ip ri I.length ia fi, aB cB ri 8192 ti, oB op r2 ((encF (gt V) V.length w V.length 0).length) 0 0, aB cB r2 (8192 * gr u (encF (gt V) V.length w V.length 0).length) t2, oU ru sm, aN cI sm 4096 S2, aN cI ro 4096 v, aN cI sp 4096 vs] H := hP.sub [0, 1, 2, 3, 4, 9, 10, 6, 7, 8, 5] rfl
    have hD : va_D A [oX x tp ip op ru ro sp V.length w, oB tp rt T.length ta tf, aB cB rt 8192 tt, oB ip ri I.length ia fi, aB cB ri 8192 ti, oB op r2 ((encF (gt V) V.length w V.length 0).length) 0 0, aB cB r2 (8192 * gr u (encF (gt V) V.length w V.length 0).length) t2, oU ru sm, aN cI sm 4096 S2, aN cI ro 4096 v, aN cI sp 4096 vs] := hD.sub [0, 1, 2, 3, 4, 9, 10, 6, 7, 8, 5] (by decide) rfl
    refine lv_aload_n C.x C.b d_X_encode_70 rfl (lv_at hl 0 rfl) ?_
    refine gf C hP 0 2 2 rfl rfl (by decide) fl_X_21 rfl d_X_encode_71 ?_
    refine gfN C hP 5 0 1 rfl rfl (by decide) C.ns.1 rfl d_X_encode_74 ?_
    have eO : ecO V w = encF (gt V) V.length w V.length 0 := if_pos hft1
    exact reti C hP hD hS d_X_encode_77 (rfl) (by omega) (by omega) (⟨(if_pos hft1).symm, by rw [eO]; exact ⟨_, _, _, _, _, _, _, _, _, _, _, _, _, _, _, _, _, _, _, _, _, _, _, rfl, hT, hI, hL2, hV, hg3.1, hg3.2.2⟩⟩)
  · have hft0 : ¬ ftF (gt V) w V.length = true := by intro q; rw [q] at h; exact absurd h (by decide)
    refine lv_iconst (v := (-1)) C.x C.b d_X_encode_45 (by decide) ?_
    have eO : ecO V w = [] := if_neg hft0
    exact reti C hP hD hS d_X_encode_46 (rfl) (by omega) (by omega) (⟨(if_neg hft0).symm, by rw [eO]; exact ⟨_, _, _, _, _, _, _, _, _, _, _, _, _, _, _, _, _, _, _, _, _, _, _, rfl, hT, hI, Hd_nil to_, hV, hu, Nat.zero_le _⟩⟩)
theorem dcF_f (t : Nat → Nat) (E n w : Nat) : ∀ d a k r, (dcF t E n w d a k r).1 ≤ 5 := by
  intro d
  induction d with
  | zero => intro a k r; exact Nat.zero_le _
  | succ d ih =>
    intro a k r
    have hv := vr_f (t := t) (E := E) 10 0 a 0
    rw [dcF]
    split
    · exact Nat.zero_le _
    · split
      · show (vr t E 10 0 a 0).1 ≤ 5; omega
      · split
        · show 3 ≤ 5; omega
        · split
          · split
            · show 4 ≤ 5; omega
            · split
              · show 1 ≤ 5; omega
              · split
                · exact Nat.le_refl 5
                · exact ih _ _ _
          · split
            · show 4 ≤ 5; omega
            · split
              · show 1 ≤ 5; omega
              · split
                · exact Nat.le_refl 5
                · exact ih _ _ _
theorem dcA_f (t : Nat → Nat) (E n w : Nat) : (dcA t E n w).1 ≤ 6 := by
  have := dcF_f t E n w n 0 0 (fun _ => 0)
  unfold dcA
  dsimp only
  split <;> omega
set_option maxHeartbeats 4000000 in
set_option maxRecDepth 100000 in
/-- decode -/
theorem c_X_decode (l : Launch) (D : va_G) (cI cB : ClassId) (x : Nat) (T I O V : List Nat) (w : Nat) (hv : Vd T I O V w) (ws : va_W) (hR : RX cI cB x T I O V w ws) (x1 : Nat) (hx1 : x1 < 2 ^ 32) : Ki l D cI cB y_X_decode b_X_decode 2 5 126 0 0 .int [.ref x, .int (nI x1)] ws (fun r w1 => r = dcR I w x1 ∧ RX cI cB x T I O (dcV I V w x1) w w1) := by
  obtain ⟨tp, ip, op, ru, ro, sp, rt, ri, rO, sm, ta, tf, ia, fi, oa, fo, u, tt, ti, to_, v, vs, S, rfl, hT, hI, hO, hV, hu, hul⟩ := hR
  obtain ⟨v1, v2, v3, v4, v5, v6, v7, v8, v9⟩ := hv
  refine ent (fun A => va_Qi _ (BW D A) A) (by decide) (Nat.le_of_ble_eq_true rfl) ?_
  intro p e s m below meth c A ls C hA hP hD hS hl
  have hl : lv_has ls 2 [(0, .ref x), (1, .int (nI x1))] := hl
  refine lv_iload_n C.x C.b d_X_decode_0 rfl (lv_at hl 1 rfl) ?_
  refine jz_lt (tgt := 11) C d_X_decode_1 (by decide) (by omega) (fun h1 => ?_) (fun h1 => ?_)
  · refine lv_iconst (v := (-1)) C.x C.b d_X_decode_11 (by decide) ?_
    exact reti C hP hD hS d_X_decode_12 (rfl) (by omega) (by omega) (⟨(if_neg (by omega)).symm, by unfold dcV; rw [if_neg (by omega)]; exact ⟨_, _, _, _, _, _, _, _, _, _, _, _, _, _, _, _, _, _, _, _, _, _, _, rfl, hT, hI, hO, hV, hu, hul⟩⟩)
  · refine lv_iload_n C.x C.b d_X_decode_4 rfl (lv_at hl 1 rfl) ?_
    refine lv_sipush (v := nI 4096) C.x C.b d_X_decode_5 (by decide) ?_
    refine jc_le (tgt := 13) C d_X_decode_8 (by decide) (by omega) (by omega) (fun h2 => ?_) (fun h2 => ?_)
    · refine lv_aload_n C.x C.b d_X_decode_13 rfl (lv_at hl 0 rfl) ?_
      refine gf C hP 0 2 1 rfl rfl (by decide) fl_X_18 rfl d_X_decode_14 ?_
      refine lv_iconst (v := nI 0) C.x C.b d_X_decode_17 (by decide) ?_
      refine pfN (w2 := [oX x tp ip op ru ro sp V.length w, oB tp rt T.length ta tf, aB cB rt 8192 tt, oB ip ri I.length 0 fi, aB cB ri 8192 ti, oB op rO O.length oa fo, aB cB rO (8192 * u) to_, oU ru sm, aN cI sm 4096 S, aN cI ro 4096 v, aN cI sp 4096 vs]) C hP hD hS 3 0 2 (.int) rfl rfl (by decide) C.ns.2.2.1 rfl (by decide +kernel) rfl rfl (Nat.le_of_ble_eq_true rfl) rfl d_X_decode_18 (fun H locs hP hD hS => ?_)
      refine lv_aload_n C.x C.b d_X_decode_21 rfl (lv_at hl 0 rfl) ?_
      refine gf C hP 0 2 1 rfl rfl (by decide) fl_X_18 rfl d_X_decode_22 ?_
      refine lv_iconst (v := nI 0) C.x C.b d_X_decode_25 (by decide) ?_
      refine pfN (w2 := [oX x tp ip op ru ro sp V.length w, oB tp rt T.length ta tf, aB cB rt 8192 tt, oB ip ri I.length 0 0, aB cB ri 8192 ti, oB op rO O.length oa fo, aB cB rO (8192 * u) to_, oU ru sm, aN cI sm 4096 S, aN cI ro 4096 v, aN cI sp 4096 vs]) C hP hD hS 3 0 3 (.int) rfl rfl (by decide) C.ns.2.2.2.2.1 rfl (by decide +kernel) rfl rfl (Nat.le_of_ble_eq_true rfl) rfl d_X_decode_26 (fun H locs hP hD hS => ?_)
      refine lv_aload_n C.x C.b d_X_decode_29 rfl (lv_at hl 0 rfl) ?_
      refine gf C hP 0 2 3 rfl rfl (by decide) fl_X_27 rfl d_X_decode_30 ?_
      refine lv_aload_n C.x C.b d_X_decode_33 rfl (lv_at hl 0 rfl) ?_
      refine gf C hP 0 2 1 rfl rfl (by decide) fl_X_18 rfl d_X_decode_34 ?_
      refine lv_aload_n C.x C.b d_X_decode_37 rfl (lv_at hl 0 rfl) ?_
      refine gf C hP 0 2 1 rfl rfl (by decide) fl_X_18 rfl d_X_decode_38 ?_
      refine gfN C hP 3 0 1 rfl rfl (by decide) C.ns.1 rfl d_X_decode_41 ?_
      refine lv_iload_n C.x C.b d_X_decode_44 rfl (lv_at hl 1 rfl) ?_
      refine lv_aload_n C.x C.b d_X_decode_45 rfl (lv_at hl 0 rfl) ?_
      refine gf C hP 0 2 7 rfl rfl (by decide) fl_X_55 rfl d_X_decode_46 ?_
      refine lv_aload_n C.x C.b d_X_decode_49 rfl (lv_at hl 0 rfl) ?_
      refine gf C hP 0 2 5 rfl rfl (by decide) fl_X_35 rfl d_X_decode_50 ?_
      refine cvV (wr := [oX x tp ip op ru ro sp V.length w, oB tp rt T.length ta tf, aB cB rt 8192 tt, oB op rO O.length oa fo, aB cB rO (8192 * u) to_, aN cI sm 4096 S, aN cI ro 4096 v]) C hA hP hD hS hl.1 (c_U_read l D cI cB ru sm ip ri I.length I.length 8192 x1 w sp I ti hI v7 (Nat.le_refl _) v2 (by decide) h2 v5 vs) ok_X_73 [] [7, 3, 4, 10] [0, 1, 2, 5, 6, 8, 9] 1 0 rfl rfl rfl rfl (by decide) rfl (by decide) (by decide) rfl rfl (Nat.le_of_ble_eq_true rfl) (⟨by (try dsimp only [rmO]); omega, by (try dsimp only [rmO]); omega⟩) (⟨by (try dsimp only [rmO]); omega, by (try dsimp only [rmO]); omega⟩) d_X_decode_53 ?_
      intro w1 H locs hw hP hD hS
      obtain ⟨f2, a2, vs2, rfl, hf2, hr2⟩ := hw
      have hP : va_P D classes [oX x tp ip op ru ro sp V.length w, oB tp rt T.length ta tf, aB cB rt 8192 tt, oB op rO O.length oa fo, aB cB rO (8192 * u) to_, aN cI sm 4096 S, aN cI ro 4096 v, oU ru sm, oB ip ri I.length a2 f2, aB cB ri 8192 ti, aN cI sp 4096 vs2] H := hP
      have hD : va_D A [oX x tp ip op ru ro sp V.length w, oB tp rt T.length ta tf, aB cB rt 8192 tt, oB op rO O.length oa fo, aB cB rO (8192 * u) to_, aN cI sm 4096 S, aN cI ro 4096 v, oU ru sm, oB ip ri I.length a2 f2, aB cB ri 8192 ti, aN cI sp 4096 vs2] := hD
      have hP : va_P D classes [oX x tp ip op ru ro sp V.length w, oB tp rt T.length ta tf, aB cB rt 8192 tt, oB ip ri I.length a2 f2, aB cB ri 8192 ti, oB op rO O.length oa fo, aB cB rO (8192 * u) to_, oU ru sm, aN cI sm 4096 S, aN cI ro 4096 v, aN cI sp 4096 vs2] H := hP.sub [0, 1, 2, 8, 9, 3, 4, 7, 5, 6, 10] rfl
      have hD : va_D A [oX x tp ip op ru ro sp V.length w, oB tp rt T.length ta tf, aB cB rt 8192 tt, oB ip ri I.length a2 f2, aB cB ri 8192 ti, oB op rO O.length oa fo, aB cB rO (8192 * u) to_, oU ru sm, aN cI sm 4096 S, aN cI ro 4096 v, aN cI sp 4096 vs2] := hD.sub [0, 1, 2, 8, 9, 3, 4, 7, 5, 6, 10] (by decide) rfl
      have hf6 : f2 ≤ 6 := by rw [hf2]; exact dcA_f _ _ _ _
      refine lv_aload_n C.x C.b d_X_decode_56 rfl (lv_at hl 0 rfl) ?_
      refine gf C hP 0 2 1 rfl rfl (by decide) fl_X_18 rfl d_X_decode_57 ?_
      refine gfN C hP 3 0 3 rfl rfl (by decide) C.ns.2.2.2.2.1 rfl d_X_decode_60 ?_
      refine jz_eq (tgt := 74) C d_X_decode_63 (by decide) (by omega) (fun h3 => ?_) (fun h3 => ?_)
      · refine lv_aload_n C.x C.b d_X_decode_74 rfl (lv_at hl 0 rfl) ?_
        refine gf C hP 0 2 5 rfl rfl (by decide) fl_X_35 rfl d_X_decode_75 ?_
        refine lv_iconst (v := nI 0) C.x C.b d_X_decode_78 (by decide) ?_
        refine lv_aload_n C.x C.b d_X_decode_79 rfl (lv_at hl 0 rfl) ?_
        refine gf C hP 0 2 4 rfl rfl (by decide) fl_X_31 rfl d_X_decode_80 ?_
        refine lv_iconst (v := nI 0) C.x C.b d_X_decode_83 (by decide) ?_
        refine lv_iload_n C.x C.b d_X_decode_84 rfl (lv_at hl 1 rfl) ?_
        refine cpyI (w2 := [oX x tp ip op ru ro sp V.length w, oB tp rt T.length ta tf, aB cB rt 8192 tt, oB ip ri I.length a2 f2, aB cB ri 8192 ti, oB op rO O.length oa fo, aB cB rO (8192 * u) to_, oU ru sm, aN cI sm 4096 S, aN cI ro 4096 (cpN vs2 v x1), aN cI sp 4096 vs2]) C hP hD hS hl.1 ml_X_77 10 9 rfl rfl (by omega) (by omega) (by omega) rfl (by decide) (by decide) d_X_decode_85 (fun H locs hP hD hS => ?_)
        refine lv_aload_n C.x C.b d_X_decode_88 rfl (lv_at hl 0 rfl) ?_
        refine lv_iload_n C.x C.b d_X_decode_89 rfl (lv_at hl 1 rfl) ?_
        refine pf (w2 := [oX x tp ip op ru ro sp x1 w, oB tp rt T.length ta tf, aB cB rt 8192 tt, oB ip ri I.length a2 f2, aB cB ri 8192 ti, oB op rO O.length oa fo, aB cB rO (8192 * u) to_, oU ru sm, aN cI sm 4096 S, aN cI ro 4096 (cpN vs2 v x1), aN cI sp 4096 vs2]) C hP hD hS 0 2 6 (.int) rfl rfl (by decide) fl_X_58 rfl (by decide +kernel) rfl rfl (Nat.le_of_ble_eq_true rfl) rfl d_X_decode_90 (fun H locs hP hD hS => ?_)
        have hz : (dcA (gt I) I.length x1 w).1 = 0 := by rw [← hf2]; exact h3
        have eV : dcV I V w x1 = (List.range x1).map (dcA (gt I) I.length x1 w).2 := if_pos ⟨h2, hz⟩
        have eL : x1 = (dcV I V w x1).length := by rw [eV]; simp
        have eX : oX x tp ip op ru ro sp x1 w = oX x tp ip op ru ro sp (dcV I V w x1).length w := by rw [← eL]
        rw [eX] at hP hD
        have hP : va_P D classes [oX x tp ip op ru ro sp ((dcV I V w x1).length) w, oB tp rt T.length ta tf, aB cB rt 8192 tt, oB ip ri I.length a2 f2, aB cB ri 8192 ti, oB op rO O.length oa fo, aB cB rO (8192 * u) to_, oU ru sm, aN cI sm 4096 S, aN cI ro 4096 (cpN vs2 v x1), aN cI sp 4096 vs2] H := hP
        have hD : va_D A [oX x tp ip op ru ro sp ((dcV I V w x1).length) w, oB tp rt T.length ta tf, aB cB rt 8192 tt, oB ip ri I.length a2 f2, aB cB ri 8192 ti, oB op rO O.length oa fo, aB cB rO (8192 * u) to_, oU ru sm, aN cI sm 4096 S, aN cI ro 4096 (cpN vs2 v x1), aN cI sp 4096 vs2] := hD
        refine lv_iconst (v := nI 0) C.x C.b d_X_decode_93 (by decide) ?_
        exact reti C hP hD hS d_X_decode_94 (rfl) (by omega) (by omega) (⟨by unfold dcR; rw [if_pos h2, hz], ⟨_, _, _, _, _, _, _, _, _, _, _, _, _, _, _, _, _, _, _, _, _, _, _, rfl, hT, hI, hO, (fun j hj => by rw [← eL] at hj; rw [eV, gt_map hj]; unfold cpN; rw [if_pos hj]; exact hr2 h3 j hj), hu, hul⟩⟩)
      · refine lv_aload_n C.x C.b d_X_decode_66 rfl (lv_at hl 0 rfl) ?_
        refine gf C hP 0 2 1 rfl rfl (by decide) fl_X_18 rfl d_X_decode_67 ?_
        refine gfN C hP 3 0 3 rfl rfl (by decide) C.ns.2.2.2.2.1 rfl d_X_decode_70 ?_
        exact reti C hP hD hS d_X_decode_73 (rfl) (by omega) (by omega) (⟨by unfold dcR; rw [if_pos h2, hf2], by unfold dcV; rw [if_neg (fun q => h3 (by rw [hf2]; exact q.2))]; exact ⟨_, _, _, _, _, _, _, _, _, _, _, _, _, _, _, _, _, _, _, _, _, _, _, rfl, hT, hI, hO, hV, hu, hul⟩⟩)
    · refine lv_iconst (v := (-1)) C.x C.b d_X_decode_11 (by decide) ?_
      exact reti C hP hD hS d_X_decode_12 (rfl) (by omega) (by omega) (⟨(if_neg (by omega)).symm, by unfold dcV; rw [if_neg (by omega)]; exact ⟨_, _, _, _, _, _, _, _, _, _, _, _, _, _, _, _, _, _, _, _, _, _, _, rfl, hT, hI, hO, hV, hu, hul⟩⟩)
set_option maxHeartbeats 4000000 in
set_option maxRecDepth 100000 in
/-- RunRows() -/
theorem c_X_init (l : Launch) (D : va_G) (cI cB : ClassId) (x : Nat) : Kv l D cI cB y_X_init b_X_init 1 2 33 10 36877 [.ref x] [(x, .inr (2, [.null, .null, .null, .null, .null, .null, .int (nI 0), .int (nI 0)]))] (fun w1 => RX cI cB x [] [] [] [] 0 w1) := by
  refine ent (fun A => va_Qv _ (BW D A) A) (by decide) (Nat.le_of_ble_eq_true rfl) ?_
  intro p e s m below meth c A ls C hA hP hD hS hl
  have hl : lv_has ls 1 [(0, .ref x)] := hl
  refine lv_aload_n C.x C.b d_X_init_0 rfl (lv_at hl 0 rfl) ?_
  refine oinit C hl.1 ml_X_1 (by decide) (by decide) d_X_init_1 ?_
  refine lv_aload_n C.x C.b d_X_init_4 rfl (lv_at hl 0 rfl) ?_
  refine newo (fs := [.null, .int (nI 0), .int (nI 0), .int (nI 0)]) C hA hP hD hS 0 rfl t_B t_B_ok cl_X_7 ia_B in_B (fun j hj => by rcases (show j = 0 ∨ j = 1 ∨ j = 2 ∨ j = 3 by omega) with rfl | rfl | rfl | rfl <;> rfl) (by (try dsimp only [rmO]); omega) (by (try dsimp only [rmO]); omega) d_X_init_5 (fun q1 H hP hD hS => ?_)
  have hP : va_P D classes [(x, .inr (2, [.null, .null, .null, .null, .null, .null, .int (nI 0), .int (nI 0)])), (q1, .inr (0, [.null, .int (nI 0), .int (nI 0), .int (nI 0)]))] H := hP
  have hD : va_D A [(x, .inr (2, [.null, .null, .null, .null, .null, .null, .int (nI 0), .int (nI 0)])), (q1, .inr (0, [.null, .int (nI 0), .int (nI 0), .int (nI 0)]))] := hD
  refine lv_dup C.x C.b d_X_init_8 rfl ?_
  refine lv_sipush (v := nI 8192) C.x C.b d_X_init_9 (by decide) ?_
  refine cvI (wr := [(x, .inr (2, [.null, .null, .null, .null, .null, .null, .int (nI 0), .int (nI 0)]))]) C hA hP hD hS hl.1 (c_B_init l D cI cB q1 8192 (by decide)) ok_X_11 [.ref q1, .ref x] [1] [0] rfl (by decide) rfl (by decide) (by decide) rfl rfl (Nat.le_of_ble_eq_true rfl) (⟨by (try dsimp only [rmO]); omega, by (try dsimp only [rmO]); omega⟩) (⟨by (try dsimp only [rmO]); omega, by (try dsimp only [rmO]); omega⟩) d_X_init_12 ?_
  intro w1 H locs hw hP hD hS
  obtain ⟨rq1, rfl⟩ := hw
  have hP : va_P D classes [(x, .inr (2, [.null, .null, .null, .null, .null, .null, .int (nI 0), .int (nI 0)])), oB q1 rq1 0 0 0, aB cB rq1 8192 (fun _ => 0)] H := hP
  have hD : va_D A [(x, .inr (2, [.null, .null, .null, .null, .null, .null, .int (nI 0), .int (nI 0)])), oB q1 rq1 0 0 0, aB cB rq1 8192 (fun _ => 0)] := hD
  refine pfF (w2 := [(x, .inr (2, [.ref q1, .null, .null, .null, .null, .null, .int (nI 0), .int (nI 0)])), oB q1 rq1 0 0 0, aB cB rq1 8192 (fun _ => 0)]) C hP hD hS 0 2 0 (.object "RunRows$Bytes") rfl rfl (by decide) fl_X_14 rfl rfl (by decide +kernel) rfl rfl (Nat.le_of_ble_eq_true rfl) rfl d_X_init_15 (fun H locs hP hD hS => ?_)
  refine lv_aload_n C.x C.b d_X_init_18 rfl (lv_at hl 0 rfl) ?_
  refine newo (fs := [.null, .int (nI 0), .int (nI 0), .int (nI 0)]) C hA hP hD hS 0 rfl t_B t_B_ok cl_X_7 ia_B in_B (fun j hj => by rcases (show j = 0 ∨ j = 1 ∨ j = 2 ∨ j = 3 by omega) with rfl | rfl | rfl | rfl <;> rfl) (by (try dsimp only [rmO]); omega) (by (try dsimp only [rmO]); omega) d_X_init_19 (fun q2 H hP hD hS => ?_)
  have hP : va_P D classes [(x, .inr (2, [.ref q1, .null, .null, .null, .null, .null, .int (nI 0), .int (nI 0)])), oB q1 rq1 0 0 0, aB cB rq1 8192 (fun _ => 0), (q2, .inr (0, [.null, .int (nI 0), .int (nI 0), .int (nI 0)]))] H := hP
  have hD : va_D A [(x, .inr (2, [.ref q1, .null, .null, .null, .null, .null, .int (nI 0), .int (nI 0)])), oB q1 rq1 0 0 0, aB cB rq1 8192 (fun _ => 0), (q2, .inr (0, [.null, .int (nI 0), .int (nI 0), .int (nI 0)]))] := hD
  refine lv_dup C.x C.b d_X_init_22 rfl ?_
  refine lv_sipush (v := nI 8192) C.x C.b d_X_init_23 (by decide) ?_
  refine cvI (wr := [(x, .inr (2, [.ref q1, .null, .null, .null, .null, .null, .int (nI 0), .int (nI 0)])), oB q1 rq1 0 0 0, aB cB rq1 8192 (fun _ => 0)]) C hA hP hD hS hl.1 (c_B_init l D cI cB q2 8192 (by decide)) ok_X_11 [.ref q2, .ref x] [3] [0, 1, 2] rfl (by decide) rfl (by decide) (by decide) rfl rfl (Nat.le_of_ble_eq_true rfl) (⟨by (try dsimp only [rmO]); omega, by (try dsimp only [rmO]); omega⟩) (⟨by (try dsimp only [rmO]); omega, by (try dsimp only [rmO]); omega⟩) d_X_init_26 ?_
  intro w1 H locs hw hP hD hS
  obtain ⟨rq2, rfl⟩ := hw
  have hP : va_P D classes [(x, .inr (2, [.ref q1, .null, .null, .null, .null, .null, .int (nI 0), .int (nI 0)])), oB q1 rq1 0 0 0, aB cB rq1 8192 (fun _ => 0), oB q2 rq2 0 0 0, aB cB rq2 8192 (fun _ => 0)] H := hP
  have hD : va_D A [(x, .inr (2, [.ref q1, .null, .null, .null, .null, .null, .int (nI 0), .int (nI 0)])), oB q1 rq1 0 0 0, aB cB rq1 8192 (fun _ => 0), oB q2 rq2 0 0 0, aB cB rq2 8192 (fun _ => 0)] := hD
  refine pfF (w2 := [(x, .inr (2, [.ref q1, .ref q2, .null, .null, .null, .null, .int (nI 0), .int (nI 0)])), oB q1 rq1 0 0 0, aB cB rq1 8192 (fun _ => 0), oB q2 rq2 0 0 0, aB cB rq2 8192 (fun _ => 0)]) C hP hD hS 0 2 1 (.object "RunRows$Bytes") rfl rfl (by decide) fl_X_18 rfl rfl (by decide +kernel) rfl rfl (Nat.le_of_ble_eq_true rfl) rfl d_X_init_29 (fun H locs hP hD hS => ?_)
  refine lv_aload_n C.x C.b d_X_init_32 rfl (lv_at hl 0 rfl) ?_
  refine newo (fs := [.null, .int (nI 0), .int (nI 0), .int (nI 0)]) C hA hP hD hS 0 rfl t_B t_B_ok cl_X_7 ia_B in_B (fun j hj => by rcases (show j = 0 ∨ j = 1 ∨ j = 2 ∨ j = 3 by omega) with rfl | rfl | rfl | rfl <;> rfl) (by (try dsimp only [rmO]); omega) (by (try dsimp only [rmO]); omega) d_X_init_33 (fun q3 H hP hD hS => ?_)
  have hP : va_P D classes [(x, .inr (2, [.ref q1, .ref q2, .null, .null, .null, .null, .int (nI 0), .int (nI 0)])), oB q1 rq1 0 0 0, aB cB rq1 8192 (fun _ => 0), oB q2 rq2 0 0 0, aB cB rq2 8192 (fun _ => 0), (q3, .inr (0, [.null, .int (nI 0), .int (nI 0), .int (nI 0)]))] H := hP
  have hD : va_D A [(x, .inr (2, [.ref q1, .ref q2, .null, .null, .null, .null, .int (nI 0), .int (nI 0)])), oB q1 rq1 0 0 0, aB cB rq1 8192 (fun _ => 0), oB q2 rq2 0 0 0, aB cB rq2 8192 (fun _ => 0), (q3, .inr (0, [.null, .int (nI 0), .int (nI 0), .int (nI 0)]))] := hD
  refine lv_dup C.x C.b d_X_init_36 rfl ?_
  refine lv_sipush (v := nI 8192) C.x C.b d_X_init_37 (by decide) ?_
  refine cvI (wr := [(x, .inr (2, [.ref q1, .ref q2, .null, .null, .null, .null, .int (nI 0), .int (nI 0)])), oB q1 rq1 0 0 0, aB cB rq1 8192 (fun _ => 0), oB q2 rq2 0 0 0, aB cB rq2 8192 (fun _ => 0)]) C hA hP hD hS hl.1 (c_B_init l D cI cB q3 8192 (by decide)) ok_X_11 [.ref q3, .ref x] [5] [0, 1, 2, 3, 4] rfl (by decide) rfl (by decide) (by decide) rfl rfl (Nat.le_of_ble_eq_true rfl) (⟨by (try dsimp only [rmO]); omega, by (try dsimp only [rmO]); omega⟩) (⟨by (try dsimp only [rmO]); omega, by (try dsimp only [rmO]); omega⟩) d_X_init_40 ?_
  intro w1 H locs hw hP hD hS
  obtain ⟨rq3, rfl⟩ := hw
  have hP : va_P D classes [(x, .inr (2, [.ref q1, .ref q2, .null, .null, .null, .null, .int (nI 0), .int (nI 0)])), oB q1 rq1 0 0 0, aB cB rq1 8192 (fun _ => 0), oB q2 rq2 0 0 0, aB cB rq2 8192 (fun _ => 0), oB q3 rq3 0 0 0, aB cB rq3 8192 (fun _ => 0)] H := hP
  have hD : va_D A [(x, .inr (2, [.ref q1, .ref q2, .null, .null, .null, .null, .int (nI 0), .int (nI 0)])), oB q1 rq1 0 0 0, aB cB rq1 8192 (fun _ => 0), oB q2 rq2 0 0 0, aB cB rq2 8192 (fun _ => 0), oB q3 rq3 0 0 0, aB cB rq3 8192 (fun _ => 0)] := hD
  refine pfF (w2 := [(x, .inr (2, [.ref q1, .ref q2, .ref q3, .null, .null, .null, .int (nI 0), .int (nI 0)])), oB q1 rq1 0 0 0, aB cB rq1 8192 (fun _ => 0), oB q2 rq2 0 0 0, aB cB rq2 8192 (fun _ => 0), oB q3 rq3 0 0 0, aB cB rq3 8192 (fun _ => 0)]) C hP hD hS 0 2 2 (.object "RunRows$Bytes") rfl rfl (by decide) fl_X_21 rfl rfl (by decide +kernel) rfl rfl (Nat.le_of_ble_eq_true rfl) rfl d_X_init_43 (fun H locs hP hD hS => ?_)
  refine lv_aload_n C.x C.b d_X_init_46 rfl (lv_at hl 0 rfl) ?_
  refine newo (fs := [.null]) C hA hP hD hS 1 rfl t_U t_U_ok cl_X_24 ia_U in_U (fun j hj => by rcases (show j = 0 by omega) with rfl <;> rfl) (by (try dsimp only [rmO]); omega) (by (try dsimp only [rmO]); omega) d_X_init_47 (fun q4 H hP hD hS => ?_)
  have hP : va_P D classes [(x, .inr (2, [.ref q1, .ref q2, .ref q3, .null, .null, .null, .int (nI 0), .int (nI 0)])), oB q1 rq1 0 0 0, aB cB rq1 8192 (fun _ => 0), oB q2 rq2 0 0 0, aB cB rq2 8192 (fun _ => 0), oB q3 rq3 0 0 0, aB cB rq3 8192 (fun _ => 0), (q4, .inr (1, [.null]))] H := hP
  have hD : va_D A [(x, .inr (2, [.ref q1, .ref q2, .ref q3, .null, .null, .null, .int (nI 0), .int (nI 0)])), oB q1 rq1 0 0 0, aB cB rq1 8192 (fun _ => 0), oB q2 rq2 0 0 0, aB cB rq2 8192 (fun _ => 0), oB q3 rq3 0 0 0, aB cB rq3 8192 (fun _ => 0), (q4, .inr (1, [.null]))] := hD
  refine lv_dup C.x C.b d_X_init_50 rfl ?_
  refine cvN (wr := [(x, .inr (2, [.ref q1, .ref q2, .ref q3, .null, .null, .null, .int (nI 0), .int (nI 0)])), oB q1 rq1 0 0 0, aB cB rq1 8192 (fun _ => 0), oB q2 rq2 0 0 0, aB cB rq2 8192 (fun _ => 0), oB q3 rq3 0 0 0, aB cB rq3 8192 (fun _ => 0)]) C hA hP hD hS hl.1 (c_U_init l D cI cB q4) ⟨im_U_init, in_U, cd_U_init, rfl, by decide +kernel⟩ C.ns.2.2.2.2.2 [.ref q4, .ref x] [7] [0, 1, 2, 3, 4, 5, 6] rfl (by decide) rfl (by decide) (by decide) rfl rfl (Nat.le_of_ble_eq_true rfl) (⟨by (try dsimp only [rmO]); omega, by (try dsimp only [rmO]); omega⟩) (⟨by (try dsimp only [rmO]); omega, by (try dsimp only [rmO]); omega⟩) d_X_init_51 ?_
  intro w1 H locs hw hP hD hS
  obtain ⟨rq4, rfl⟩ := hw
  have hP : va_P D classes [(x, .inr (2, [.ref q1, .ref q2, .ref q3, .null, .null, .null, .int (nI 0), .int (nI 0)])), oB q1 rq1 0 0 0, aB cB rq1 8192 (fun _ => 0), oB q2 rq2 0 0 0, aB cB rq2 8192 (fun _ => 0), oB q3 rq3 0 0 0, aB cB rq3 8192 (fun _ => 0), oU q4 rq4, aN cI rq4 4096 (fun _ => 0)] H := hP
  have hD : va_D A [(x, .inr (2, [.ref q1, .ref q2, .ref q3, .null, .null, .null, .int (nI 0), .int (nI 0)])), oB q1 rq1 0 0 0, aB cB rq1 8192 (fun _ => 0), oB q2 rq2 0 0 0, aB cB rq2 8192 (fun _ => 0), oB q3 rq3 0 0 0, aB cB rq3 8192 (fun _ => 0), oU q4 rq4, aN cI rq4 4096 (fun _ => 0)] := hD
  refine pfF (w2 := [(x, .inr (2, [.ref q1, .ref q2, .ref q3, .ref q4, .null, .null, .int (nI 0), .int (nI 0)])), oB q1 rq1 0 0 0, aB cB rq1 8192 (fun _ => 0), oB q2 rq2 0 0 0, aB cB rq2 8192 (fun _ => 0), oB q3 rq3 0 0 0, aB cB rq3 8192 (fun _ => 0), oU q4 rq4, aN cI rq4 4096 (fun _ => 0)]) C hP hD hS 0 2 3 (.object "RunRows$Runs") rfl rfl (by decide) fl_X_27 rfl rfl (by decide +kernel) rfl rfl (Nat.le_of_ble_eq_true rfl) rfl d_X_init_54 (fun H locs hP hD hS => ?_)
  refine lv_aload_n C.x C.b d_X_init_57 rfl (lv_at hl 0 rfl) ?_
  refine lv_sipush (v := nI 4096) C.x C.b d_X_init_58 (by decide) ?_
  refine newI C hA hP hD hS (by decide) (by (try dsimp only [rmO]); omega) (by (try dsimp only [rmO]); omega) d_X_init_61 (fun q5 H hP hD hS => ?_)
  have hP : va_P D classes [(x, .inr (2, [.ref q1, .ref q2, .ref q3, .ref q4, .null, .null, .int (nI 0), .int (nI 0)])), oB q1 rq1 0 0 0, aB cB rq1 8192 (fun _ => 0), oB q2 rq2 0 0 0, aB cB rq2 8192 (fun _ => 0), oB q3 rq3 0 0 0, aB cB rq3 8192 (fun _ => 0), oU q4 rq4, aN cI rq4 4096 (fun _ => 0), aN cI q5 4096 (fun _ => 0)] H := hP
  have hD : va_D A [(x, .inr (2, [.ref q1, .ref q2, .ref q3, .ref q4, .null, .null, .int (nI 0), .int (nI 0)])), oB q1 rq1 0 0 0, aB cB rq1 8192 (fun _ => 0), oB q2 rq2 0 0 0, aB cB rq2 8192 (fun _ => 0), oB q3 rq3 0 0 0, aB cB rq3 8192 (fun _ => 0), oU q4 rq4, aN cI rq4 4096 (fun _ => 0), aN cI q5 4096 (fun _ => 0)] := hD
  refine pfF (w2 := [(x, .inr (2, [.ref q1, .ref q2, .ref q3, .ref q4, .ref q5, .null, .int (nI 0), .int (nI 0)])), oB q1 rq1 0 0 0, aB cB rq1 8192 (fun _ => 0), oB q2 rq2 0 0 0, aB cB rq2 8192 (fun _ => 0), oB q3 rq3 0 0 0, aB cB rq3 8192 (fun _ => 0), oU q4 rq4, aN cI rq4 4096 (fun _ => 0), aN cI q5 4096 (fun _ => 0)]) C hP hD hS 0 2 4 (.array .int) rfl rfl (by decide) fl_X_31 rfl rfl (by decide +kernel) rfl rfl (Nat.le_of_ble_eq_true rfl) rfl d_X_init_63 (fun H locs hP hD hS => ?_)
  refine lv_aload_n C.x C.b d_X_init_66 rfl (lv_at hl 0 rfl) ?_
  refine lv_sipush (v := nI 4096) C.x C.b d_X_init_67 (by decide) ?_
  refine newI C hA hP hD hS (by decide) (by (try dsimp only [rmO]); omega) (by (try dsimp only [rmO]); omega) d_X_init_70 (fun q6 H hP hD hS => ?_)
  have hP : va_P D classes [(x, .inr (2, [.ref q1, .ref q2, .ref q3, .ref q4, .ref q5, .null, .int (nI 0), .int (nI 0)])), oB q1 rq1 0 0 0, aB cB rq1 8192 (fun _ => 0), oB q2 rq2 0 0 0, aB cB rq2 8192 (fun _ => 0), oB q3 rq3 0 0 0, aB cB rq3 8192 (fun _ => 0), oU q4 rq4, aN cI rq4 4096 (fun _ => 0), aN cI q5 4096 (fun _ => 0), aN cI q6 4096 (fun _ => 0)] H := hP
  have hD : va_D A [(x, .inr (2, [.ref q1, .ref q2, .ref q3, .ref q4, .ref q5, .null, .int (nI 0), .int (nI 0)])), oB q1 rq1 0 0 0, aB cB rq1 8192 (fun _ => 0), oB q2 rq2 0 0 0, aB cB rq2 8192 (fun _ => 0), oB q3 rq3 0 0 0, aB cB rq3 8192 (fun _ => 0), oU q4 rq4, aN cI rq4 4096 (fun _ => 0), aN cI q5 4096 (fun _ => 0), aN cI q6 4096 (fun _ => 0)] := hD
  refine pfF (w2 := [oX x q1 q2 q3 q4 q5 q6 0 0, oB q1 rq1 0 0 0, aB cB rq1 8192 (fun _ => 0), oB q2 rq2 0 0 0, aB cB rq2 8192 (fun _ => 0), oB q3 rq3 0 0 0, aB cB rq3 8192 (fun _ => 0), oU q4 rq4, aN cI rq4 4096 (fun _ => 0), aN cI q5 4096 (fun _ => 0), aN cI q6 4096 (fun _ => 0)]) C hP hD hS 0 2 5 (.array .int) rfl rfl (by decide) fl_X_35 rfl rfl (by decide +kernel) rfl rfl (Nat.le_of_ble_eq_true rfl) rfl d_X_init_72 (fun H locs hP hD hS => ?_)
  have hP : va_P D classes [oX x q1 q2 q3 q4 q5 q6 0 0, oB q1 rq1 0 0 0, aB cB rq1 8192 (fun _ => 0), oB q2 rq2 0 0 0, aB cB rq2 8192 (fun _ => 0), oB q3 rq3 0 0 0, aB cB rq3 8192 (fun _ => 0), oU q4 rq4, aN cI rq4 4096 (fun _ => 0), aN cI q5 4096 (fun _ => 0), aN cI q6 4096 (fun _ => 0)] H := hP.sub [0, 1, 2, 3, 4, 5, 6, 7, 8, 9, 10] rfl
  have hD : va_D A [oX x q1 q2 q3 q4 q5 q6 0 0, oB q1 rq1 0 0 0, aB cB rq1 8192 (fun _ => 0), oB q2 rq2 0 0 0, aB cB rq2 8192 (fun _ => 0), oB q3 rq3 0 0 0, aB cB rq3 8192 (fun _ => 0), oU q4 rq4, aN cI rq4 4096 (fun _ => 0), aN cI q5 4096 (fun _ => 0), aN cI q6 4096 (fun _ => 0)] := hD.sub [0, 1, 2, 3, 4, 5, 6, 7, 8, 9, 10] (by decide) rfl
  exact retv C hP hD hS d_X_init_75 (by omega) (by omega) (⟨_, _, _, _, _, _, _, _, _, _, _, _, _, _, _, _, 1, _, _, _, _, _, _, rfl, Hd_nil _, Hd_nil _, Hd_nil _, Hd_nil _, Or.inl rfl, by decide⟩)
end
section
/-! contracts of RunRowsModel: put, putVarint, alike, the constructor, width, clear, size, value, output (printed by gen/m1.py) -/
set_option maxHeartbeats 4000000 in
set_option maxRecDepth 100000 in
/-- put(c): one byte more -/
theorem c_M_put (l : Launch) (D : va_G) (cI cB : ClassId) (x ro sp vn w tn im a0 f0 tp ip op : Nat) (c0 : Nat) (L : List Nat) (t : Nat → Nat) (hL : Hd t L) (hl2 : L.length < 24000) : Kv l D cI cB y_M_put b_M_put 2 0 0 0 0 [.ref x, .int (nI c0)] [oM x 0 ro sp vn w tn im L.length a0 f0 tp ip op, aN cI op 24000 t] (fun w1 => ∃ t2 : Nat → Nat, w1 = [oM x 0 ro sp vn w tn im (L.length + 1) a0 f0 tp ip op, aN cI op 24000 t2] ∧ Hd t2 (L ++ [c0 % 256])) := by
  refine ent (fun A => va_Qv _ (BW D A) A) (by decide) (Nat.le_of_ble_eq_true rfl) ?_
  intro p e s m below meth c A ls C hA hP hD hS hl
  have hl : lv_has ls 2 [(0, .ref x), (1, .int (nI c0))] := hl
  refine lv_aload_n C.x C.b d_M_put_0 rfl (lv_at hl 0 rfl) ?_
  refine gf C hP 0 3 12 rfl rfl (by decide) fl_M_22 rfl d_M_put_1 ?_
  refine lv_aload_n C.x C.b d_M_put_4 rfl (lv_at hl 0 rfl) ?_
  refine gf C hP 0 3 7 rfl rfl (by decide) fl_M_29 rfl d_M_put_5 ?_
  refine lv_iload_n C.x C.b d_M_put_8 rfl (lv_at hl 1 rfl) ?_
  refine lv_sipush (v := nI 255) C.x C.b d_M_put_9 (by decide) ?_
  refine lv_iand C.x C.b d_M_put_12 ?_
  refine ra_i (ni_255 _) ?_
  refine ist (w2 := [oM x 0 ro sp vn w tn im L.length a0 f0 tp ip op, aN cI op 24000 (va_up t L.length (c0 % 256))]) C hP hD hS 1 rfl (by omega) (by omega) rfl d_M_put_13 (fun H locs hP hD hS => ?_)
  refine lv_aload_n C.x C.b d_M_put_14 rfl (lv_at hl 0 rfl) ?_
  refine lv_dup C.x C.b d_M_put_15 rfl ?_
  refine gf C hP 0 3 7 rfl rfl (by decide) fl_M_29 rfl d_M_put_16 ?_
  refine lv_iconst (v := nI 1) C.x C.b d_M_put_19 (by decide) ?_
  refine lv_iadd C.x C.b d_M_put_20 ?_
  refine ra_i (nI_add _ _) ?_
  refine pf (w2 := [oM x 0 ro sp vn w tn im (L.length + 1) a0 f0 tp ip op, aN cI op 24000 (va_up t L.length (c0 % 256))]) C hP hD hS 0 3 7 (.int) rfl rfl (by decide) fl_M_29 rfl (by decide +kernel) rfl rfl (Nat.le_of_ble_eq_true rfl) rfl d_M_put_21 (fun H locs hP hD hS => ?_)
  exact retv C hP hD hS d_M_put_24 (by omega) (by omega) (⟨_, rfl, Hd_push hL _⟩)
set_option maxHeartbeats 4000000 in
set_option maxRecDepth 100000 in
/-- putVarint(x), x below 2^14 -/
theorem c_M_putVarint (l : Launch) (D : va_G) (cI cB : ClassId) (x ro sp vn w tn im a0 f0 tp ip op : Nat) (x1 : Nat) (L : List Nat) (t : Nat → Nat) (hL : Hd t L) (hx : x1 < 16384) (hl2 : L.length + 2 < 24000) : Kv l D cI cB y_M_putVarint b_M_putVarint 5 1 21 0 0 [.ref x, .long (lN x1)] [oM x 0 ro sp vn w tn im L.length a0 f0 tp ip op, aN cI op 24000 t] (fun w1 => ∃ t2 : Nat → Nat, w1 = [oM x 0 ro sp vn w tn im ((L ++ vi x1).length) a0 f0 tp ip op, aN cI op 24000 t2] ∧ Hd t2 (L ++ vi x1)) := by
  refine ent (fun A => va_Qv _ (BW D A) A) (by decide) (Nat.le_of_ble_eq_true rfl) ?_
  intro p e s m below meth c A ls C hA hP hD hS hl
  have hl : lv_has ls 5 [(0, .ref x), (1, .long (lN x1))] := hl
  refine lv_lload_n C.x C.b d_M_putVarint_0 rfl (lv_at hl 1 rfl) ?_
  refine lv_lstore_n (lv' := [(3, .long (lN x1)), (0, .ref x), (1, .long (lN x1))]) C.x C.b d_M_putVarint_1 rfl hl (by decide) rfl (fun ls hl => ?_)
  refine lv_lload_n C.x C.b d_M_putVarint_2 rfl (lv_at hl 0 rfl) ?_
  refine lv_lconst (v := lN 0) C.x C.b d_M_putVarint_3 (by decide) ?_
  refine jl_lt (tgt := 16) C d_M_putVarint_4 d_M_putVarint_5 (by decide) (by omega) (by omega) (fun hz => ?_) (fun hz => ?_)
  · exfalso; omega
  · refine lv_lload_n C.x C.b d_M_putVarint_8 rfl (lv_at hl 0 rfl) ?_
    refine lv_ldc2 C.x C.b C.ow (C.ts _ ct_M_38) d_M_putVarint_9 ?_
    refine ra_l (y := lN 127) (by decide) ?_
    refine jl_le (tgt := 38) C d_M_putVarint_12 d_M_putVarint_13 (by decide) (by omega) (by omega) (fun h => ?_) (fun h => ?_)
    · have ev : vi x1 = [x1] := if_pos (by omega)
      refine lv_aload_n C.x C.b d_M_putVarint_38 rfl (lv_at hl 1 rfl) ?_
      refine lv_lload_n C.x C.b d_M_putVarint_39 rfl (lv_at hl 0 rfl) ?_
      refine lv_l2i C.x C.b d_M_putVarint_40 (lN_i _) ?_
      refine cvV (wr := []) C hA hP hD hS hl.1 (c_M_put l D cI cB x ro sp vn w tn im a0 f0 tp ip op x1 L t hL (by omega)) ok_M_40 [] [0, 1] [] 3 0 rfl rfl rfl rfl (by decide) rfl (by decide) (by decide) rfl rfl (Nat.le_of_ble_eq_true rfl) (⟨by (try dsimp only [rmO]); omega, by (try dsimp only [rmO]); omega⟩) (⟨by (try dsimp only [rmO]); omega, by (try dsimp only [rmO]); omega⟩) d_M_putVarint_41 ?_
      intro w1 H locs hw hP hD hS
      obtain ⟨t1, rfl, hL1⟩ := hw
      have hP : va_P D classes [oM x 0 ro sp vn w tn im (L.length + 1) a0 f0 tp ip op, aN cI op 24000 t1] H := hP
      have hD : va_D A [oM x 0 ro sp vn w tn im (L.length + 1) a0 f0 tp ip op, aN cI op 24000 t1] := hD
      rw [Nat.mod_eq_of_lt (show x1 < 256 by omega)] at hL1
      have el : L.length + 1 = (L ++ vi x1).length := by rw [ev]; simp
      rw [el] at hP hD
      exact retv C hP hD hS d_M_putVarint_44 (by omega) (by omega) (⟨_, rfl, by rw [ev]; exact hL1⟩)
    · have ev : vi x1 = [x1 % 128 + 128, x1 / 128] := if_neg (by omega)
      have e2 : (vi x1).length = 2 := by rw [ev]; rfl
      refine lv_aload_n C.x C.b d_M_putVarint_16 rfl (lv_at hl 1 rfl) ?_
      refine lv_lload_n C.x C.b d_M_putVarint_17 rfl (lv_at hl 0 rfl) ?_
      refine lv_ldc2 C.x C.b C.ow (C.ts _ ct_M_38) d_M_putVarint_18 ?_
      refine ra_l (y := lN 127) (by decide) ?_
      refine lv_land C.x C.b d_M_putVarint_21 ?_
      refine ra_l (y := lN (x1 % 128)) (wb_mask (k := 7) (by omega) (by decide)) ?_
      refine lv_l2i C.x C.b d_M_putVarint_22 (lN_i _) ?_
      refine lv_sipush (v := nI 128) C.x C.b d_M_putVarint_23 (by decide) ?_
      refine lv_iadd C.x C.b d_M_putVarint_26 ?_
      refine ra_i (nI_add _ _) ?_
      refine cvV (wr := []) C hA hP hD hS hl.1 (c_M_put l D cI cB x ro sp vn w tn im a0 f0 tp ip op (x1 % 128 + 128) L t hL (by omega)) ok_M_40 [] [0, 1] [] 3 0 rfl rfl rfl rfl (by decide) rfl (by decide) (by decide) rfl rfl (Nat.le_of_ble_eq_true rfl) (⟨by (try dsimp only [rmO]); omega, by (try dsimp only [rmO]); omega⟩) (⟨by (try dsimp only [rmO]); omega, by (try dsimp only [rmO]); omega⟩) d_M_putVarint_27 ?_
      intro w1 H locs hw hP hD hS
      obtain ⟨t1, rfl, hL1⟩ := hw
      have hP : va_P D classes [oM x 0 ro sp vn w tn im (L.length + 1) a0 f0 tp ip op, aN cI op 24000 t1] H := hP
      have hD : va_D A [oM x 0 ro sp vn w tn im (L.length + 1) a0 f0 tp ip op, aN cI op 24000 t1] := hD
      rw [Nat.mod_eq_of_lt (show x1 % 128 + 128 < 256 by omega)] at hL1
      obtain ⟨M, hm1⟩ : ∃ z, z = L ++ [x1 % 128 + 128] := ⟨_, rfl⟩
      rw [← hm1] at hL1
      have hn1 : L.length + 1 = M.length := by rw [hm1]; simp
      rw [hn1] at hP hD
      refine lv_lload_n C.x C.b d_M_putVarint_30 rfl (lv_at hl 0 rfl) ?_
      refine lv_bipush (v := nI 7) C.x C.b d_M_putVarint_31 (by decide) ?_
      refine lv_lushr C.x C.b d_M_putVarint_33 (wb_shr (by omega) (by omega)) ?_
      refine ra_l (y := lN (x1 / 128)) (rfl) ?_
      refine lv_lstore_n (lv' := [(3, .long (lN (x1 / 128))), (0, .ref x), (1, .long (lN x1))]) C.x C.b d_M_putVarint_34 rfl hl (by decide) rfl (fun ls hl => ?_)
      refine lv_goto (tgt := 2) C.x C.b d_M_putVarint_35 (by decide) ?_
      refine lv_lload_n C.x C.b d_M_putVarint_2 rfl (lv_at hl 0 rfl) ?_
      refine lv_lconst (v := lN 0) C.x C.b d_M_putVarint_3 (by decide) ?_
      refine jl_lt (tgt := 16) C d_M_putVarint_4 d_M_putVarint_5 (by decide) (by omega) (by omega) (fun hz => ?_) (fun hz => ?_)
      · exfalso; omega
      · refine lv_lload_n C.x C.b d_M_putVarint_8 rfl (lv_at hl 0 rfl) ?_
        refine lv_ldc2 C.x C.b C.ow (C.ts _ ct_M_38) d_M_putVarint_9 ?_
        refine ra_l (y := lN 127) (by decide) ?_
        refine jl_le (tgt := 38) C d_M_putVarint_12 d_M_putVarint_13 (by decide) (by omega) (by omega) (fun h => ?_) (fun h => ?_)
        · refine lv_aload_n C.x C.b d_M_putVarint_38 rfl (lv_at hl 1 rfl) ?_
          refine lv_lload_n C.x C.b d_M_putVarint_39 rfl (lv_at hl 0 rfl) ?_
          refine lv_l2i C.x C.b d_M_putVarint_40 (lN_i _) ?_
          refine cvV (wr := []) C hA hP hD hS hl.1 (c_M_put l D cI cB x ro sp vn w tn im a0 f0 tp ip op (x1 / 128) M t1 hL1 (by omega)) ok_M_40 [] [0, 1] [] 3 0 rfl rfl rfl rfl (by decide) rfl (by decide) (by decide) rfl rfl (Nat.le_of_ble_eq_true rfl) (⟨by (try dsimp only [rmO]); omega, by (try dsimp only [rmO]); omega⟩) (⟨by (try dsimp only [rmO]); omega, by (try dsimp only [rmO]); omega⟩) d_M_putVarint_41 ?_
          intro w1 H locs hw hP hD hS
          obtain ⟨t2, rfl, hL2⟩ := hw
          have hP : va_P D classes [oM x 0 ro sp vn w tn im (M.length + 1) a0 f0 tp ip op, aN cI op 24000 t2] H := hP
          have hD : va_D A [oM x 0 ro sp vn w tn im (M.length + 1) a0 f0 tp ip op, aN cI op 24000 t2] := hD
          rw [Nat.mod_eq_of_lt (show x1 / 128 < 256 by omega)] at hL2
          have eq : M ++ [x1 / 128] = L ++ vi x1 := by rw [hm1, ev]; simp
          rw [eq] at hL2
          have el : M.length + 1 = (L ++ vi x1).length := by rw [← eq]; simp
          rw [el] at hP hD
          exact retv C hP hD hS d_M_putVarint_44 (by omega) (by omega) (⟨_, rfl, hL2⟩)
        · exfalso; omega
set_option maxHeartbeats 4000000 in
set_option maxRecDepth 100000 in
/-- alike: the loop -/
theorem lp_M_alike {p : Program} {l : Launch} {e : Env} {R : Room} {s : State} {m : MethodId} {args : Array Value} {below : List Frame} {meth : Method} {c : Code} {D : va_G} {cI cB : ClassId} {A : Nat → Prop} (C : Cx p s m args meth c D cI cB b_M_alike 4 R_M (some .int) "alike") (hA : ∀ q : Nat, s.heap.size ≤ q → A q) (ro fr n : Nat) (V : List Nat) (v : Nat → Nat) (hV : Hd v V) (hV32 : ∀ x ∈ V, x < 2 ^ 32) (hVn : V.length = n) (hn : n ≤ 4096) (hfr : fr < n) (post : Int32 → va_W → Prop) (hp : post (nI (run (gt V) (n - fr) fr)) [aN cI ro 4096 v]) : ∀ (d i : Nat), fr + i + d = n → (0 < d ∨ 0 < i) → (∀ j, j < i → gt V (fr + j) = gt V fr) → ∀ (H : Heap) (locs : List Loc) (ls : Array Slot), va_P D classes [aN cI ro 4096 v] H → va_D A [aN cI ro 4096 v] → va_S A s.heap H locs → lv_has ls 4 [(0, .ref ro), (1, .int (nI fr)), (2, .int (nI n)), (3, .int (nI (fr + i)))] → W p l e R s m args below meth c H locs 0 0 (MQ below (va_Qi post (BW D A) A) args s 0 0 A) (F0 m 2 ls []) := by
  intro d
  induction d with
  | zero =>
    intro i hi hi0 heq H locs ls hP hD hS hl
    refine lv_iload_n C.x C.b d_M_alike_2 rfl (lv_at hl 3 rfl) ?_
    refine lv_iload_n C.x C.b d_M_alike_3 rfl (lv_at hl 2 rfl) ?_
    refine jc_ge (tgt := 22) C d_M_alike_4 (by decide) (by omega) (by omega) (fun h => ?_) (fun h => ?_)
    · refine lv_iload_n C.x C.b d_M_alike_22 rfl (lv_at hl 3 rfl) ?_
      refine lv_iload_n C.x C.b d_M_alike_23 rfl (lv_at hl 1 rfl) ?_
      refine lv_isub C.x C.b d_M_alike_24 ?_
      refine ra_i (nI_subS (by omega)) ?_
      refine ra_i (y := nI (run (gt V) (n - fr) fr)) (by rw [show fr + i - fr = i by omega, run_uniq (gt V) (n - fr) fr i (by omega) (by omega) heq (fun q => by omega)]) ?_
      exact reti C hP hD hS d_M_alike_25 (rfl) (by omega) (by omega) (hp)
    · exfalso; omega
  | succ d ih =>
    intro i hi hi0 heq H locs ls hP hD hS hl
    refine lv_iload_n C.x C.b d_M_alike_2 rfl (lv_at hl 3 rfl) ?_
    refine lv_iload_n C.x C.b d_M_alike_3 rfl (lv_at hl 2 rfl) ?_
    refine jc_ge (tgt := 22) C d_M_alike_4 (by decide) (by omega) (by omega) (fun h => ?_) (fun h => ?_)
    · refine lv_iload_n C.x C.b d_M_alike_22 rfl (lv_at hl 3 rfl) ?_
      refine lv_iload_n C.x C.b d_M_alike_23 rfl (lv_at hl 1 rfl) ?_
      refine lv_isub C.x C.b d_M_alike_24 ?_
      refine ra_i (nI_subS (by omega)) ?_
      refine ra_i (y := nI (run (gt V) (n - fr) fr)) (by rw [show fr + i - fr = i by omega, run_uniq (gt V) (n - fr) fr i (by omega) (by omega) heq (fun q => by omega)]) ?_
      exact reti C hP hD hS d_M_alike_25 (rfl) (by omega) (by omega) (hp)
    · refine lv_aload_n C.x C.b d_M_alike_7 rfl (lv_at hl 0 rfl) ?_
      refine lv_iload_n C.x C.b d_M_alike_8 rfl (lv_at hl 3 rfl) ?_
      refine ild C hP 0 rfl (by omega) (by omega) d_M_alike_9 ?_
      refine ra_i (y := nI (gt V (fr + i))) (by rw [hV (fr + i) (by omega)]) ?_
      refine lv_aload_n C.x C.b d_M_alike_10 rfl (lv_at hl 0 rfl) ?_
      refine lv_iload_n C.x C.b d_M_alike_11 rfl (lv_at hl 1 rfl) ?_
      refine ild C hP 0 rfl (by omega) (by omega) d_M_alike_12 ?_
      refine ra_i (y := nI (gt V fr)) (by rw [hV fr (by omega)]) ?_
      refine jcw_ne (tgt := 22) C d_M_alike_13 (by decide) (gt_lt (by decide) hV32 _) (gt_lt (by decide) hV32 _) (fun h2 => ?_) (fun h2 => ?_)
      · have hi1 : 0 < i := Nat.pos_of_ne_zero (fun q => h2 (by rw [q]; rfl))
        refine lv_iload_n C.x C.b d_M_alike_22 rfl (lv_at hl 3 rfl) ?_
        refine lv_iload_n C.x C.b d_M_alike_23 rfl (lv_at hl 1 rfl) ?_
        refine lv_isub C.x C.b d_M_alike_24 ?_
        refine ra_i (nI_subS (by omega)) ?_
        refine ra_i (y := nI (run (gt V) (n - fr) fr)) (by rw [show fr + i - fr = i by omega, run_uniq (gt V) (n - fr) fr i (by omega) (by omega) heq (fun _ => h2)]) ?_
        exact reti C hP hD hS d_M_alike_25 (rfl) (by omega) (by omega) (hp)
      · refine lv_iinc (v := (nI (fr + i + 1))) (lv' := [(3, .int (nI (fr + i + 1))), (0, .ref ro), (1, .int (nI fr)), (2, .int (nI n))]) C.x C.b d_M_alike_16 hl (k := 3) rfl (nI_inc _ 1) (by decide) rfl (fun ls hl => ?_)
        refine lv_goto (tgt := 2) C.x C.b d_M_alike_19 (by decide) ?_
        exact ih (i + 1) (by omega) (by omega) (lt_s heq h2) H locs ls hP hD hS (lv_sub hl [1, 2, 3, 0] rfl)
set_option maxHeartbeats 4000000 in
set_option maxRecDepth 100000 in
/-- alike -/
theorem c_M_alike (l : Launch) (D : va_G) (cI cB : ClassId) (ro fr n : Nat) (V : List Nat) (v : Nat → Nat) (hV : Hd v V) (hV32 : ∀ x ∈ V, x < 2 ^ 32) (hVn : V.length = n) (hn : n ≤ 4096) (hfr : fr < n) : Ki l D cI cB y_M_alike b_M_alike 4 0 0 0 0 .int [.ref ro, .int (nI fr), .int (nI n)] [aN cI ro 4096 v] (fun r w1 => r = nI (run (gt V) (n - fr) fr) ∧ w1 = [aN cI ro 4096 v]) := by
  refine ent (fun A => va_Qi _ (BW D A) A) (by decide) (Nat.le_of_ble_eq_true rfl) ?_
  intro p e s m below meth c A ls C hA hP hD hS hl
  have hl : lv_has ls 4 [(0, .ref ro), (1, .int (nI fr)), (2, .int (nI n))] := hl
  refine lv_iload_n C.x C.b d_M_alike_0 rfl (lv_at hl 1 rfl) ?_
  refine lv_istore_n (lv' := [(3, .int (nI fr)), (0, .ref ro), (1, .int (nI fr)), (2, .int (nI n))]) C.x C.b d_M_alike_1 rfl hl (by decide) rfl (fun ls hl => ?_)
  exact lp_M_alike C hA ro fr n V v hV hV32 hVn hn hfr _ ⟨rfl, rfl⟩ (n - fr) 0 (by omega) (by omega) (fun j hj => by omega) _ _ ls hP hD hS (lv_sub hl [1, 2, 3, 0] rfl)
set_option maxHeartbeats 4000000 in
set_option maxRecDepth 100000 in
/-- RunRowsModel() -/
theorem c_M_init (l : Launch) (D : va_G) (cI cB : ClassId) (x : Nat) : Kv l D cI cB y_M_init b_M_init 1 1 12 5 48584 [.ref x] [(x, .inr (3, [.int (nI 0), .null, .null, .int (nI 0), .int (nI 0), .int (nI 0), .int (nI 0), .int (nI 0), .int (nI 0), .int (nI 0), .null, .null, .null]))] (fun w1 => RM cI x [] [] [] [] 0 w1) := by
  refine ent (fun A => va_Qv _ (BW D A) A) (by decide) (Nat.le_of_ble_eq_true rfl) ?_
  intro p e s m below meth c A ls C hA hP hD hS hl
  have hl : lv_has ls 1 [(0, .ref x)] := hl
  refine lv_aload_n C.x C.b d_M_init_0 rfl (lv_at hl 0 rfl) ?_
  refine oinit C hl.1 ml_M_1 (Nat.le_refl 1) (Nat.le_of_ble_eq_true rfl) d_M_init_1 ?_
  refine lv_aload_n C.x C.b d_M_init_4 rfl (lv_at hl 0 rfl) ?_
  refine lv_sipush (v := nI 4096) C.x C.b d_M_init_5 (by decide) ?_
  refine newI C hA hP hD hS (by decide) (by (try dsimp only [rmO]); omega) (by (try dsimp only [rmO]); omega) d_M_init_8 (fun q1 H hP hD hS => ?_)
  have hP : va_P D classes [(x, .inr (3, [.int (nI 0), .null, .null, .int (nI 0), .int (nI 0), .int (nI 0), .int (nI 0), .int (nI 0), .int (nI 0), .int (nI 0), .null, .null, .null])), aN cI q1 4096 (fun _ => 0)] H := hP
  have hD : va_D A [(x, .inr (3, [.int (nI 0), .null, .null, .int (nI 0), .int (nI 0), .int (nI 0), .int (nI 0), .int (nI 0), .int (nI 0), .int (nI 0), .null, .null, .null])), aN cI q1 4096 (fun _ => 0)] := hD
  refine pfF (w2 := [(x, .inr (3, [.int (nI 0), .ref q1, .null, .int (nI 0), .int (nI 0), .int (nI 0), .int (nI 0), .int (nI 0), .int (nI 0), .int (nI 0), .null, .null, .null])), aN cI q1 4096 (fun _ => 0)]) C hP hD hS 0 3 1 (.array .int) rfl rfl (by decide) fl_M_7 rfl rfl (by decide +kernel) rfl rfl (Nat.le_of_ble_eq_true rfl) rfl d_M_init_10 (fun H locs hP hD hS => ?_)
  refine lv_aload_n C.x C.b d_M_init_13 rfl (lv_at hl 0 rfl) ?_
  refine lv_sipush (v := nI 4104) C.x C.b d_M_init_14 (by decide) ?_
  refine newI C hA hP hD hS (by decide) (by (try dsimp only [rmO]); omega) (by (try dsimp only [rmO]); omega) d_M_init_17 (fun q2 H hP hD hS => ?_)
  have hP : va_P D classes [(x, .inr (3, [.int (nI 0), .ref q1, .null, .int (nI 0), .int (nI 0), .int (nI 0), .int (nI 0), .int (nI 0), .int (nI 0), .int (nI 0), .null, .null, .null])), aN cI q1 4096 (fun _ => 0), aN cI q2 4104 (fun _ => 0)] H := hP
  have hD : va_D A [(x, .inr (3, [.int (nI 0), .ref q1, .null, .int (nI 0), .int (nI 0), .int (nI 0), .int (nI 0), .int (nI 0), .int (nI 0), .int (nI 0), .null, .null, .null])), aN cI q1 4096 (fun _ => 0), aN cI q2 4104 (fun _ => 0)] := hD
  refine pfF (w2 := [(x, .inr (3, [.int (nI 0), .ref q1, .ref q2, .int (nI 0), .int (nI 0), .int (nI 0), .int (nI 0), .int (nI 0), .int (nI 0), .int (nI 0), .null, .null, .null])), aN cI q1 4096 (fun _ => 0), aN cI q2 4104 (fun _ => 0)]) C hP hD hS 0 3 2 (.array .int) rfl rfl (by decide) fl_M_13 rfl rfl (by decide +kernel) rfl rfl (Nat.le_of_ble_eq_true rfl) rfl d_M_init_19 (fun H locs hP hD hS => ?_)
  refine lv_aload_n C.x C.b d_M_init_22 rfl (lv_at hl 0 rfl) ?_
  refine lv_sipush (v := nI 8192) C.x C.b d_M_init_23 (by decide) ?_
  refine newI C hA hP hD hS (by decide) (by (try dsimp only [rmO]); omega) (by (try dsimp only [rmO]); omega) d_M_init_26 (fun q3 H hP hD hS => ?_)
  have hP : va_P D classes [(x, .inr (3, [.int (nI 0), .ref q1, .ref q2, .int (nI 0), .int (nI 0), .int (nI 0), .int (nI 0), .int (nI 0), .int (nI 0), .int (nI 0), .null, .null, .null])), aN cI q1 4096 (fun _ => 0), aN cI q2 4104 (fun _ => 0), aN cI q3 8192 (fun _ => 0)] H := hP
  have hD : va_D A [(x, .inr (3, [.int (nI 0), .ref q1, .ref q2, .int (nI 0), .int (nI 0), .int (nI 0), .int (nI 0), .int (nI 0), .int (nI 0), .int (nI 0), .null, .null, .null])), aN cI q1 4096 (fun _ => 0), aN cI q2 4104 (fun _ => 0), aN cI q3 8192 (fun _ => 0)] := hD
  refine pfF (w2 := [(x, .inr (3, [.int (nI 0), .ref q1, .ref q2, .int (nI 0), .int (nI 0), .int (nI 0), .int (nI 0), .int (nI 0), .int (nI 0), .int (nI 0), .ref q3, .null, .null])), aN cI q1 4096 (fun _ => 0), aN cI q2 4104 (fun _ => 0), aN cI q3 8192 (fun _ => 0)]) C hP hD hS 0 3 10 (.array .int) rfl rfl (by decide) fl_M_16 rfl rfl (by decide +kernel) rfl rfl (Nat.le_of_ble_eq_true rfl) rfl d_M_init_28 (fun H locs hP hD hS => ?_)
  refine lv_aload_n C.x C.b d_M_init_31 rfl (lv_at hl 0 rfl) ?_
  refine lv_sipush (v := nI 8192) C.x C.b d_M_init_32 (by decide) ?_
  refine newI C hA hP hD hS (by decide) (by (try dsimp only [rmO]); omega) (by (try dsimp only [rmO]); omega) d_M_init_35 (fun q4 H hP hD hS => ?_)
  have hP : va_P D classes [(x, .inr (3, [.int (nI 0), .ref q1, .ref q2, .int (nI 0), .int (nI 0), .int (nI 0), .int (nI 0), .int (nI 0), .int (nI 0), .int (nI 0), .ref q3, .null, .null])), aN cI q1 4096 (fun _ => 0), aN cI q2 4104 (fun _ => 0), aN cI q3 8192 (fun _ => 0), aN cI q4 8192 (fun _ => 0)] H := hP
  have hD : va_D A [(x, .inr (3, [.int (nI 0), .ref q1, .ref q2, .int (nI 0), .int (nI 0), .int (nI 0), .int (nI 0), .int (nI 0), .int (nI 0), .int (nI 0), .ref q3, .null, .null])), aN cI q1 4096 (fun _ => 0), aN cI q2 4104 (fun _ => 0), aN cI q3 8192 (fun _ => 0), aN cI q4 8192 (fun _ => 0)] := hD
  refine pfF (w2 := [(x, .inr (3, [.int (nI 0), .ref q1, .ref q2, .int (nI 0), .int (nI 0), .int (nI 0), .int (nI 0), .int (nI 0), .int (nI 0), .int (nI 0), .ref q3, .ref q4, .null])), aN cI q1 4096 (fun _ => 0), aN cI q2 4104 (fun _ => 0), aN cI q3 8192 (fun _ => 0), aN cI q4 8192 (fun _ => 0)]) C hP hD hS 0 3 11 (.array .int) rfl rfl (by decide) fl_M_19 rfl rfl (by decide +kernel) rfl rfl (Nat.le_of_ble_eq_true rfl) rfl d_M_init_37 (fun H locs hP hD hS => ?_)
  refine lv_aload_n C.x C.b d_M_init_40 rfl (lv_at hl 0 rfl) ?_
  refine lv_sipush (v := nI 24000) C.x C.b d_M_init_41 (by decide) ?_
  refine newI C hA hP hD hS (by decide) (by (try dsimp only [rmO]); omega) (by (try dsimp only [rmO]); omega) d_M_init_44 (fun q5 H hP hD hS => ?_)
  have hP : va_P D classes [(x, .inr (3, [.int (nI 0), .ref q1, .ref q2, .int (nI 0), .int (nI 0), .int (nI 0), .int (nI 0), .int (nI 0), .int (nI 0), .int (nI 0), .ref q3, .ref q4, .null])), aN cI q1 4096 (fun _ => 0), aN cI q2 4104 (fun _ => 0), aN cI q3 8192 (fun _ => 0), aN cI q4 8192 (fun _ => 0), aN cI q5 24000 (fun _ => 0)] H := hP
  have hD : va_D A [(x, .inr (3, [.int (nI 0), .ref q1, .ref q2, .int (nI 0), .int (nI 0), .int (nI 0), .int (nI 0), .int (nI 0), .int (nI 0), .int (nI 0), .ref q3, .ref q4, .null])), aN cI q1 4096 (fun _ => 0), aN cI q2 4104 (fun _ => 0), aN cI q3 8192 (fun _ => 0), aN cI q4 8192 (fun _ => 0), aN cI q5 24000 (fun _ => 0)] := hD
  refine pfF (w2 := [oM x 0 q1 q2 0 0 0 0 0 0 0 q3 q4 q5, aN cI q1 4096 (fun _ => 0), aN cI q2 4104 (fun _ => 0), aN cI q3 8192 (fun _ => 0), aN cI q4 8192 (fun _ => 0), aN cI q5 24000 (fun _ => 0)]) C hP hD hS 0 3 12 (.array .int) rfl rfl (by decide) fl_M_22 rfl rfl (by decide +kernel) rfl rfl (Nat.le_of_ble_eq_true rfl) rfl d_M_init_46 (fun H locs hP hD hS => ?_)
  exact retv C hP hD hS d_M_init_49 (by omega) (by omega) (⟨_, _, _, _, _, _, _, _, _, _, _, _, rfl, Hd_nil _, Hd_nil _, Hd_nil _, Hd_nil _⟩)
set_option maxHeartbeats 4000000 in
set_option maxRecDepth 100000 in
/-- width -/
theorem c_M_width (l : Launch) (D : va_G) (cI cB : ClassId) (x : Nat) (T I O V : List Nat) (w : Nat) (hv : Vd T I O V w) (ws : va_W) (hR : RM cI x T I O V w ws) (x1 : Nat) (hx1 : x1 < 2 ^ 32) : Ki l D cI cB y_M_width b_M_width 2 0 0 0 0 .boolean [.ref x, .int (nI x1)] ws (fun r w1 => r = wiR x1 ∧ RM cI x T I O V (wiW w x1) w1) := by
  obtain ⟨ro, sp, tp, ip, op, a0, f0, tt, ti, to_, v, vs, rfl, hT, hI, hO, hV⟩ := hR
  obtain ⟨v1, v2, v3, v4, v5, v6, v7, v8, v9⟩ := hv
  refine ent (fun A => va_Qi _ (BW D A) A) (by decide) (Nat.le_of_ble_eq_true rfl) ?_
  intro p e s m below meth c A ls C hA hP hD hS hl
  have hl : lv_has ls 2 [(0, .ref x), (1, .int (nI x1))] := hl
  refine lv_aload_n C.x C.b d_M_width_0 rfl (lv_at hl 0 rfl) ?_
  refine lv_iconst (v := nI 0) C.x C.b d_M_width_1 (by decide) ?_
  refine pf (w2 := [oM x 0 ro sp V.length w T.length I.length O.length a0 f0 tp ip op, aN cI ro 4096 v, aN cI sp 4104 vs, aN cI tp 8192 tt, aN cI ip 8192 ti, aN cI op 24000 to_]) C hP hD hS 0 3 0 (.int) rfl rfl (by decide) fl_M_25 rfl (by decide +kernel) rfl rfl (Nat.le_of_ble_eq_true rfl) rfl d_M_width_2 (fun H locs hP hD hS => ?_)
  refine lv_iload_n C.x C.b d_M_width_5 rfl (lv_at hl 1 rfl) ?_
  refine jz_lt (tgt := 15) C d_M_width_6 (by decide) (by omega) (fun h1 => ?_) (fun h1 => ?_)
  · refine lv_iconst (v := nI 0) C.x C.b d_M_width_15 (by decide) ?_
    exact reti C hP hD hS d_M_width_16 (by decide) (by omega) (by omega) (⟨(if_neg (by omega)).symm, by unfold wiW; rw [if_neg (by omega)]; exact ⟨_, _, _, _, _, _, _, _, _, _, _, _, rfl, hT, hI, hO, hV⟩⟩)
  · refine lv_iload_n C.x C.b d_M_width_9 rfl (lv_at hl 1 rfl) ?_
    refine lv_bipush (v := nI 32) C.x C.b d_M_width_10 (by decide) ?_
    refine jc_le (tgt := 17) C d_M_width_12 (by decide) (by omega) (by omega) (fun h2 => ?_) (fun h2 => ?_)
    · refine lv_aload_n C.x C.b d_M_width_17 rfl (lv_at hl 0 rfl) ?_
      refine lv_iload_n C.x C.b d_M_width_18 rfl (lv_at hl 1 rfl) ?_
      refine pf (w2 := [oM x 0 ro sp V.length x1 T.length I.length O.length a0 f0 tp ip op, aN cI ro 4096 v, aN cI sp 4104 vs, aN cI tp 8192 tt, aN cI ip 8192 ti, aN cI op 24000 to_]) C hP hD hS 0 3 4 (.int) rfl rfl (by decide) fl_M_50 rfl (by decide +kernel) rfl rfl (Nat.le_of_ble_eq_true rfl) rfl d_M_width_19 (fun H locs hP hD hS => ?_)
      refine lv_iconst (v := nI 1) C.x C.b d_M_width_22 (by decide) ?_
      exact reti C hP hD hS d_M_width_23 (by decide) (by omega) (by omega) (⟨(if_pos (by omega)).symm, by unfold wiW; rw [if_pos (by omega)]; exact ⟨_, _, _, _, _, _, _, _, _, _, _, _, rfl, hT, hI, hO, hV⟩⟩)
    · refine lv_iconst (v := nI 0) C.x C.b d_M_width_15 (by decide) ?_
      exact reti C hP hD hS d_M_width_16 (by decide) (by omega) (by omega) (⟨(if_neg (by omega)).symm, by unfold wiW; rw [if_neg (by omega)]; exact ⟨_, _, _, _, _, _, _, _, _, _, _, _, rfl, hT, hI, hO, hV⟩⟩)
set_option maxHeartbeats 4000000 in
set_option maxRecDepth 100000 in
/-- clear -/
theorem c_M_clear (l : Launch) (D : va_G) (cI cB : ClassId) (x : Nat) (T I O V : List Nat) (w : Nat) (hv : Vd T I O V w) (ws : va_W) (hR : RM cI x T I O V w ws)  : Kv l D cI cB y_M_clear b_M_clear 1 0 0 0 0 [.ref x] ws (fun w1 => RM cI x T I O [] w w1) := by
  obtain ⟨ro, sp, tp, ip, op, a0, f0, tt, ti, to_, v, vs, rfl, hT, hI, hO, hV⟩ := hR
  obtain ⟨v1, v2, v3, v4, v5, v6, v7, v8, v9⟩ := hv
  refine ent (fun A => va_Qv _ (BW D A) A) (by decide) (Nat.le_of_ble_eq_true rfl) ?_
  intro p e s m below meth c A ls C hA hP hD hS hl
  have hl : lv_has ls 1 [(0, .ref x)] := hl
  refine lv_aload_n C.x C.b d_M_clear_0 rfl (lv_at hl 0 rfl) ?_
  refine lv_iconst (v := nI 0) C.x C.b d_M_clear_1 (by decide) ?_
  refine pf (w2 := [oM x 0 ro sp V.length w T.length I.length O.length a0 f0 tp ip op, aN cI ro 4096 v, aN cI sp 4104 vs, aN cI tp 8192 tt, aN cI ip 8192 ti, aN cI op 24000 to_]) C hP hD hS 0 3 0 (.int) rfl rfl (by decide) fl_M_25 rfl (by decide +kernel) rfl rfl (Nat.le_of_ble_eq_true rfl) rfl d_M_clear_2 (fun H locs hP hD hS => ?_)
  refine lv_aload_n C.x C.b d_M_clear_5 rfl (lv_at hl 0 rfl) ?_
  refine lv_iconst (v := nI 0) C.x C.b d_M_clear_6 (by decide) ?_
  refine pf (w2 := [oM x 0 ro sp 0 w T.length I.length O.length a0 f0 tp ip op, aN cI ro 4096 v, aN cI sp 4104 vs, aN cI tp 8192 tt, aN cI ip 8192 ti, aN cI op 24000 to_]) C hP hD hS 0 3 3 (.int) rfl rfl (by decide) fl_M_53 rfl (by decide +kernel) rfl rfl (Nat.le_of_ble_eq_true rfl) rfl d_M_clear_7 (fun H locs hP hD hS => ?_)
  exact retv C hP hD hS d_M_clear_10 (by omega) (by omega) (⟨_, _, _, _, _, _, _, _, _, _, _, _, rfl, hT, hI, hO, Hd_nil v⟩)
set_option maxHeartbeats 4000000 in
set_option maxRecDepth 100000 in
/-- size -/
theorem c_M_size (l : Launch) (D : va_G) (cI cB : ClassId) (x : Nat) (T I O V : List Nat) (w : Nat) (hv : Vd T I O V w) (ws : va_W) (hR : RM cI x T I O V w ws)  : Ki l D cI cB y_M_size b_M_size 1 0 0 0 0 .int [.ref x] ws (fun r w1 => r = nI V.length ∧ RM cI x T I O V w w1) := by
  obtain ⟨ro, sp, tp, ip, op, a0, f0, tt, ti, to_, v, vs, rfl, hT, hI, hO, hV⟩ := hR
  obtain ⟨v1, v2, v3, v4, v5, v6, v7, v8, v9⟩ := hv
  refine ent (fun A => va_Qi _ (BW D A) A) (by decide) (Nat.le_of_ble_eq_true rfl) ?_
  intro p e s m below meth c A ls C hA hP hD hS hl
  have hl : lv_has ls 1 [(0, .ref x)] := hl
  refine lv_aload_n C.x C.b d_M_size_0 rfl (lv_at hl 0 rfl) ?_
  refine lv_iconst (v := nI 0) C.x C.b d_M_size_1 (by decide) ?_
  refine pf (w2 := [oM x 0 ro sp V.length w T.length I.length O.length a0 f0 tp ip op, aN cI ro 4096 v, aN cI sp 4104 vs, aN cI tp 8192 tt, aN cI ip 8192 ti, aN cI op 24000 to_]) C hP hD hS 0 3 0 (.int) rfl rfl (by decide) fl_M_25 rfl (by decide +kernel) rfl rfl (Nat.le_of_ble_eq_true rfl) rfl d_M_size_2 (fun H locs hP hD hS => ?_)
  refine lv_aload_n C.x C.b d_M_size_5 rfl (lv_at hl 0 rfl) ?_
  refine gf C hP 0 3 3 rfl rfl (by decide) fl_M_53 rfl d_M_size_6 ?_
  exact reti C hP hD hS d_M_size_9 (rfl) (by omega) (by omega) (⟨rfl, ⟨_, _, _, _, _, _, _, _, _, _, _, _, rfl, hT, hI, hO, hV⟩⟩)
set_option maxHeartbeats 4000000 in
set_option maxRecDepth 100000 in
/-- value -/
theorem c_M_value (l : Launch) (D : va_G) (cI cB : ClassId) (x : Nat) (T I O V : List Nat) (w : Nat) (hv : Vd T I O V w) (ws : va_W) (hR : RM cI x T I O V w ws) (x1 : Nat) (hx1 : x1 < 2 ^ 32) : Ki l D cI cB y_M_value b_M_value 2 0 0 0 0 .int [.ref x, .int (nI x1)] ws (fun r w1 => r = vaR V x1 ∧ RM cI x T I O V w w1) := by
  obtain ⟨ro, sp, tp, ip, op, a0, f0, tt, ti, to_, v, vs, rfl, hT, hI, hO, hV⟩ := hR
  obtain ⟨v1, v2, v3, v4, v5, v6, v7, v8, v9⟩ := hv
  refine ent (fun A => va_Qi _ (BW D A) A) (by decide) (Nat.le_of_ble_eq_true rfl) ?_
  intro p e s m below meth c A ls C hA hP hD hS hl
  have hl : lv_has ls 2 [(0, .ref x), (1, .int (nI x1))] := hl
  refine lv_aload_n C.x C.b d_M_value_0 rfl (lv_at hl 0 rfl) ?_
  refine lv_iconst (v := nI 0) C.x C.b d_M_value_1 (by decide) ?_
  refine pf (w2 := [oM x 0 ro sp V.length w T.length I.length O.length a0 f0 tp ip op, aN cI ro 4096 v, aN cI sp 4104 vs, aN cI tp 8192 tt, aN cI ip 8192 ti, aN cI op 24000 to_]) C hP hD hS 0 3 0 (.int) rfl rfl (by decide) fl_M_25 rfl (by decide +kernel) rfl rfl (Nat.le_of_ble_eq_true rfl) rfl d_M_value_2 (fun H locs hP hD hS => ?_)
  refine lv_iload_n C.x C.b d_M_value_5 rfl (lv_at hl 1 rfl) ?_
  refine jz_lt (tgt := 17) C d_M_value_6 (by decide) (by omega) (fun h1 => ?_) (fun h1 => ?_)
  · refine lv_iconst (v := nI 0) C.x C.b d_M_value_17 (by decide) ?_
    refine lv_goto (tgt := 27) C.x C.b d_M_value_18 (by decide) ?_
    exact reti C hP hD hS d_M_value_27 (rfl) (by omega) (by omega) (⟨(if_neg (by omega)).symm, ⟨_, _, _, _, _, _, _, _, _, _, _, _, rfl, hT, hI, hO, hV⟩⟩)
  · refine lv_iload_n C.x C.b d_M_value_9 rfl (lv_at hl 1 rfl) ?_
    refine lv_aload_n C.x C.b d_M_value_10 rfl (lv_at hl 0 rfl) ?_
    refine gf C hP 0 3 3 rfl rfl (by decide) fl_M_53 rfl d_M_value_11 ?_
    refine jc_lt (tgt := 21) C d_M_value_14 (by decide) (by omega) (by omega) (fun h2 => ?_) (fun h2 => ?_)
    · refine lv_aload_n C.x C.b d_M_value_21 rfl (lv_at hl 0 rfl) ?_
      refine gf C hP 0 3 1 rfl rfl (by decide) fl_M_7 rfl d_M_value_22 ?_
      refine lv_iload_n C.x C.b d_M_value_25 rfl (lv_at hl 1 rfl) ?_
      refine ild C hP 1 rfl (by omega) (by omega) d_M_value_26 ?_
      refine ra_i (y := nI (gt V x1)) (by rw [hV x1 h2]) ?_
      exact reti C hP hD hS d_M_value_27 (rfl) (by omega) (by omega) (⟨(if_pos h2).symm, ⟨_, _, _, _, _, _, _, _, _, _, _, _, rfl, hT, hI, hO, hV⟩⟩)
    · refine lv_iconst (v := nI 0) C.x C.b d_M_value_17 (by decide) ?_
      refine lv_goto (tgt := 27) C.x C.b d_M_value_18 (by decide) ?_
      exact reti C hP hD hS d_M_value_27 (rfl) (by omega) (by omega) (⟨(if_neg (by omega)).symm, ⟨_, _, _, _, _, _, _, _, _, _, _, _, rfl, hT, hI, hO, hV⟩⟩)
set_option maxHeartbeats 4000000 in
set_option maxRecDepth 100000 in
/-- output -/
theorem c_M_output (l : Launch) (D : va_G) (cI cB : ClassId) (x : Nat) (T I O V : List Nat) (w : Nat) (hv : Vd T I O V w) (ws : va_W) (hR : RM cI x T I O V w ws) (x1 : Nat) (hx1 : x1 < 2 ^ 32) : Ki l D cI cB y_M_output b_M_output 2 0 0 0 0 .int [.ref x, .int (nI x1)] ws (fun r w1 => r = ouR O x1 ∧ RM cI x T I O V w w1) := by
  obtain ⟨ro, sp, tp, ip, op, a0, f0, tt, ti, to_, v, vs, rfl, hT, hI, hO, hV⟩ := hR
  obtain ⟨v1, v2, v3, v4, v5, v6, v7, v8, v9⟩ := hv
  refine ent (fun A => va_Qi _ (BW D A) A) (by decide) (Nat.le_of_ble_eq_true rfl) ?_
  intro p e s m below meth c A ls C hA hP hD hS hl
  have hl : lv_has ls 2 [(0, .ref x), (1, .int (nI x1))] := hl
  refine lv_aload_n C.x C.b d_M_output_0 rfl (lv_at hl 0 rfl) ?_
  refine lv_iconst (v := nI 0) C.x C.b d_M_output_1 (by decide) ?_
  refine pf (w2 := [oM x 0 ro sp V.length w T.length I.length O.length a0 f0 tp ip op, aN cI ro 4096 v, aN cI sp 4104 vs, aN cI tp 8192 tt, aN cI ip 8192 ti, aN cI op 24000 to_]) C hP hD hS 0 3 0 (.int) rfl rfl (by decide) fl_M_25 rfl (by decide +kernel) rfl rfl (Nat.le_of_ble_eq_true rfl) rfl d_M_output_2 (fun H locs hP hD hS => ?_)
  refine lv_iload_n C.x C.b d_M_output_5 rfl (lv_at hl 1 rfl) ?_
  refine jz_lt (tgt := 17) C d_M_output_6 (by decide) (by omega) (fun h1 => ?_) (fun h1 => ?_)
  · refine lv_iconst (v := (-1)) C.x C.b d_M_output_17 (by decide) ?_
    refine lv_goto (tgt := 27) C.x C.b d_M_output_18 (by decide) ?_
    exact reti C hP hD hS d_M_output_27 (rfl) (by omega) (by omega) (⟨(if_neg (by omega)).symm, ⟨_, _, _, _, _, _, _, _, _, _, _, _, rfl, hT, hI, hO, hV⟩⟩)
  · refine lv_iload_n C.x C.b d_M_output_9 rfl (lv_at hl 1 rfl) ?_
    refine lv_aload_n C.x C.b d_M_output_10 rfl (lv_at hl 0 rfl) ?_
    refine gf C hP 0 3 7 rfl rfl (by decide) fl_M_29 rfl d_M_output_11 ?_
    refine jc_lt (tgt := 21) C d_M_output_14 (by decide) (by omega) (by omega) (fun h2 => ?_) (fun h2 => ?_)
    · refine lv_aload_n C.x C.b d_M_output_21 rfl (lv_at hl 0 rfl) ?_
      refine gf C hP 0 3 12 rfl rfl (by decide) fl_M_22 rfl d_M_output_22 ?_
      refine lv_iload_n C.x C.b d_M_output_25 rfl (lv_at hl 1 rfl) ?_
      refine ild C hP 5 rfl (by omega) (by omega) d_M_output_26 ?_
      refine ra_i (y := nI (gt O x1)) (by rw [hO x1 h2]) ?_
      exact reti C hP hD hS d_M_output_27 (rfl) (by omega) (by omega) (⟨(if_pos h2).symm, ⟨_, _, _, _, _, _, _, _, _, _, _, _, rfl, hT, hI, hO, hV⟩⟩)
    · refine lv_iconst (v := (-1)) C.x C.b d_M_output_17 (by decide) ?_
      refine lv_goto (tgt := 27) C.x C.b d_M_output_18 (by decide) ?_
      exact reti C hP hD hS d_M_output_27 (rfl) (by omega) (by omega) (⟨(if_neg (by omega)).symm, ⟨_, _, _, _, _, _, _, _, _, _, _, _, rfl, hT, hI, hO, hV⟩⟩)
end
section
/-! contracts of RunRowsModel: feed, add, end, turn (printed by gen/m2.py) -/
def sel (a b c d e k : Nat) : Nat := if k < 4 then a else if k < 8 then b else if k < 12 then c else if k < 16 then d else e
theorem five_gt (a b c d e : Nat) {k : Nat} (h : k < 20) : gt (five a b c d e) k = sel a b c d e k / 2 ^ (24 - 8 * (k % 4)) % 256 := by
  rcases (show k = 0 ∨ k = 1 ∨ k = 2 ∨ k = 3 ∨ k = 4 ∨ k = 5 ∨ k = 6 ∨ k = 7 ∨ k = 8 ∨ k = 9 ∨ k = 10 ∨ k = 11 ∨ k = 12 ∨ k = 13 ∨ k = 14 ∨ k = 15 ∨ k = 16 ∨ k = 17 ∨ k = 18 ∨ k = 19 by omega) with rfl | rfl | rfl | rfl | rfl | rfl | rfl | rfl | rfl | rfl | rfl | rfl | rfl | rfl | rfl | rfl | rfl | rfl | rfl | rfl <;> rfl
theorem Hd_tk {t : Nat → Nat} {T M : List Nat} {i : Nat} (hi : i < M.length) (h : Hd t (T ++ M.take i)) : Hd (va_up t (T.length + i) (gt M i)) (T ++ M.take (i + 1)) := by
  have e : T ++ M.take (i + 1) = (T ++ M.take i) ++ [gt M i] := by rw [take_gt hi, List.append_assoc]
  have q := Hd_push h (gt M i)
  rw [List.length_append, List.length_take, Nat.min_eq_left (by omega)] at q
  rw [e]
  exact q
set_option maxHeartbeats 4000000 in
set_option maxRecDepth 100000 in
/-- feed: the loop -/
theorem lp_M_feed {p : Program} {l : Launch} {e : Env} {R : Room} {s : State} {m : MethodId} {args : Array Value} {below : List Frame} {meth : Method} {c : Code} {D : va_G} {cI cB : ClassId} {A : Nat → Prop} {Q : State → Prop} {cells slots : Nat} (C : Cx p s m args meth c D cI cB b_M_feed 8 R_M (some .boolean) "feed") (hA : ∀ q : Nat, s.heap.size ≤ q → A q) (x ro sp tp ip op a0 f0 : Nat) (ti to_ v vs : Nat → Nat) (T I O V : List Nat) (w : Nat) (hT8 : T.length + 20 ≤ 8192) (x1 : Nat) (hx1 : x1 < 2 ^ 32) (x2 : Nat) (hx2 : x2 < 2 ^ 32) (x3 : Nat) (hx3 : x3 < 2 ^ 32) (x4 : Nat) (hx4 : x4 < 2 ^ 32) (x5 : Nat) (hx5 : x5 < 2 ^ 32) (kk : ∀ (tt : Nat → Nat), Hd tt (T ++ (five x1 x2 x3 x4 x5).take 20) → ∀ (H : Heap) (locs : List Loc) (ls : Array Slot), va_P D classes [oM x 0 ro sp V.length w T.length I.length O.length a0 f0 tp ip op, aN cI ro 4096 v, aN cI sp 4104 vs, aN cI tp 8192 tt, aN cI ip 8192 ti, aN cI op 24000 to_] H → va_D A [oM x 0 ro sp V.length w T.length I.length O.length a0 f0 tp ip op, aN cI ro 4096 v, aN cI sp 4104 vs, aN cI tp 8192 tt, aN cI ip 8192 ti, aN cI op 24000 to_] → va_S A s.heap H locs → lv_has ls 8 [(0, .ref x), (1, .int (nI x1)), (2, .int (nI x2)), (3, .int (nI x3)), (4, .int (nI x4)), (5, .int (nI x5)), (6, .int (nI 20))] → W p l e R s m args below meth c H locs cells slots Q (F0 m 113 ls [])) : ∀ (d i : Nat) (tt : Nat → Nat), i + d = 20 → Hd tt (T ++ (five x1 x2 x3 x4 x5).take i) → ∀ (H : Heap) (locs : List Loc) (ls : Array Slot), va_P D classes [oM x 0 ro sp V.length w T.length I.length O.length a0 f0 tp ip op, aN cI ro 4096 v, aN cI sp 4104 vs, aN cI tp 8192 tt, aN cI ip 8192 ti, aN cI op 24000 to_] H → va_D A [oM x 0 ro sp V.length w T.length I.length O.length a0 f0 tp ip op, aN cI ro 4096 v, aN cI sp 4104 vs, aN cI tp 8192 tt, aN cI ip 8192 ti, aN cI op 24000 to_] → va_S A s.heap H locs → lv_has ls 8 [(0, .ref x), (1, .int (nI x1)), (2, .int (nI x2)), (3, .int (nI x3)), (4, .int (nI x4)), (5, .int (nI x5)), (6, .int (nI i))] → W p l e R s m args below meth c H locs cells slots (Q) (F0 m 23 ls []) := by
  intro d
  induction d with
  | zero =>
    intro i tt hi hT H locs ls hP hD hS hl
    refine lv_iload C.x C.b d_M_feed_23 (lv_at hl 6 rfl) ?_
    refine lv_bipush (v := nI 20) C.x C.b d_M_feed_25 (by decide) ?_
    refine jc_ge (tgt := 113) C d_M_feed_27 (by decide) (by omega) (by omega) (fun h => ?_) (fun h => ?_)
    · obtain rfl : i = 20 := by omega
      exact kk tt hT H locs ls hP hD hS hl
    · exfalso; omega
  | succ d ih =>
    intro i tt hi hT H locs ls hP hD hS hl
    refine lv_iload C.x C.b d_M_feed_23 (lv_at hl 6 rfl) ?_
    refine lv_bipush (v := nI 20) C.x C.b d_M_feed_25 (by decide) ?_
    refine jc_ge (tgt := 113) C d_M_feed_27 (by decide) (by omega) (by omega) (fun h => ?_) (fun h => ?_)
    · exfalso; omega
    · refine lv_iload C.x C.b d_M_feed_30 (lv_at hl 6 rfl) ?_
      refine lv_iconst (v := nI 4) C.x C.b d_M_feed_32 (by decide) ?_
      refine jc_ge (tgt := 40) C d_M_feed_33 (by decide) (by omega) (by omega) (fun h4 => ?_) (fun h4 => ?_)
      · refine lv_iload C.x C.b d_M_feed_40 (lv_at hl 6 rfl) ?_
        refine lv_bipush (v := nI 8) C.x C.b d_M_feed_42 (by decide) ?_
        refine jc_ge (tgt := 51) C d_M_feed_44 (by decide) (by omega) (by omega) (fun h8 => ?_) (fun h8 => ?_)
        · refine lv_iload C.x C.b d_M_feed_51 (lv_at hl 6 rfl) ?_
          refine lv_bipush (v := nI 12) C.x C.b d_M_feed_53 (by decide) ?_
          refine jc_ge (tgt := 62) C d_M_feed_55 (by decide) (by omega) (by omega) (fun h12 => ?_) (fun h12 => ?_)
          · refine lv_iload C.x C.b d_M_feed_62 (lv_at hl 6 rfl) ?_
            refine lv_bipush (v := nI 16) C.x C.b d_M_feed_64 (by decide) ?_
            refine jc_ge (tgt := 74) C d_M_feed_66 (by decide) (by omega) (by omega) (fun h16 => ?_) (fun h16 => ?_)
            · refine lv_iload C.x C.b d_M_feed_74 (lv_at hl 5 rfl) ?_
              have es : sel x1 x2 x3 x4 x5 i = x5 := by unfold sel; rw [if_neg (by omega), if_neg (by omega), if_neg (by omega), if_neg (by omega)]
              refine lv_istore (lv' := [(7, .int (nI x5)), (0, .ref x), (1, .int (nI x1)), (2, .int (nI x2)), (3, .int (nI x3)), (4, .int (nI x4)), (5, .int (nI x5)), (6, .int (nI i))]) C.x C.b d_M_feed_76 hl (by decide) rfl (fun ls hl => ?_)
              refine lv_aload_n C.x C.b d_M_feed_78 rfl (lv_at hl 1 rfl) ?_
              refine gf C hP 0 3 10 rfl rfl (by decide) fl_M_16 rfl d_M_feed_79 ?_
              refine lv_aload_n C.x C.b d_M_feed_82 rfl (lv_at hl 1 rfl) ?_
              refine gf C hP 0 3 5 rfl rfl (by decide) fl_M_44 rfl d_M_feed_83 ?_
              refine lv_iload C.x C.b d_M_feed_86 (lv_at hl 7 rfl) ?_
              refine lv_iadd C.x C.b d_M_feed_88 ?_
              refine ra_i (nI_add _ _) ?_
              refine lv_iload C.x C.b d_M_feed_89 (lv_at hl 0 rfl) ?_
              refine lv_bipush (v := nI 24) C.x C.b d_M_feed_91 (by decide) ?_
              refine lv_bipush (v := nI 8) C.x C.b d_M_feed_93 (by decide) ?_
              refine lv_iload C.x C.b d_M_feed_95 (lv_at hl 7 rfl) ?_
              refine lv_iconst (v := nI 4) C.x C.b d_M_feed_97 (by decide) ?_
              refine lv_irem C.x C.b d_M_feed_98 (nI_ne0 (by decide) (by omega)) ?_
              refine ra_i (pk_rem (by omega) (by decide) (by omega)) ?_
              refine lv_imul C.x C.b d_M_feed_99 ?_
              refine ra_i (pk_mul _ _) ?_
              refine lv_isub C.x C.b d_M_feed_100 ?_
              refine ra_i (nI_subS (by omega)) ?_
              obtain ⟨c9, -, ec9, e89⟩ := ni_sshr (n := x5) (k := 24 - 8 * (i % 4)) hx5 (by omega)
              refine lv_ishr C.x C.b d_M_feed_101 ?_
              refine ra_i (y := nI c9) (ec9) ?_
              refine lv_sipush (v := nI 255) C.x C.b d_M_feed_102 (by decide) ?_
              refine lv_iand C.x C.b d_M_feed_105 ?_
              refine ra_i (ni_255 _) ?_
              refine ra_i (y := nI (gt (five x1 x2 x3 x4 x5) i)) (by rw [e89, five_gt _ _ _ _ _ (by omega), es]) ?_
              refine ist (w2 := [oM x 0 ro sp V.length w T.length I.length O.length a0 f0 tp ip op, aN cI ro 4096 v, aN cI sp 4104 vs, aN cI tp 8192 (va_up tt (T.length + i) (gt (five x1 x2 x3 x4 x5) i)), aN cI ip 8192 ti, aN cI op 24000 to_]) C hP hD hS 3 rfl (by omega) (by omega) rfl d_M_feed_106 (fun H locs hP hD hS => ?_)
              refine lv_iinc (v := (nI (i + 1))) (lv' := [(6, .int (nI (i + 1))), (7, .int (nI x5)), (0, .ref x), (1, .int (nI x1)), (2, .int (nI x2)), (3, .int (nI x3)), (4, .int (nI x4)), (5, .int (nI x5))]) C.x C.b d_M_feed_107 hl (k := 7) rfl (nI_inc _ 1) (by decide) rfl (fun ls hl => ?_)
              refine lv_goto (tgt := 23) C.x C.b d_M_feed_110 (by decide) ?_
              exact ih (i + 1) _ (by omega) (Hd_tk (by rw [five_len]; omega) hT) H locs ls hP hD hS (lv_sub hl [2, 3, 4, 5, 6, 7, 0] rfl)
            · refine lv_iload C.x C.b d_M_feed_69 (lv_at hl 4 rfl) ?_
              refine lv_goto (tgt := 76) C.x C.b d_M_feed_71 (by decide) ?_
              have es : sel x1 x2 x3 x4 x5 i = x4 := by unfold sel; rw [if_neg (by omega), if_neg (by omega), if_neg (by omega), if_pos (by omega)]
              refine lv_istore (lv' := [(7, .int (nI x4)), (0, .ref x), (1, .int (nI x1)), (2, .int (nI x2)), (3, .int (nI x3)), (4, .int (nI x4)), (5, .int (nI x5)), (6, .int (nI i))]) C.x C.b d_M_feed_76 hl (by decide) rfl (fun ls hl => ?_)
              refine lv_aload_n C.x C.b d_M_feed_78 rfl (lv_at hl 1 rfl) ?_
              refine gf C hP 0 3 10 rfl rfl (by decide) fl_M_16 rfl d_M_feed_79 ?_
              refine lv_aload_n C.x C.b d_M_feed_82 rfl (lv_at hl 1 rfl) ?_
              refine gf C hP 0 3 5 rfl rfl (by decide) fl_M_44 rfl d_M_feed_83 ?_
              refine lv_iload C.x C.b d_M_feed_86 (lv_at hl 7 rfl) ?_
              refine lv_iadd C.x C.b d_M_feed_88 ?_
              refine ra_i (nI_add _ _) ?_
              refine lv_iload C.x C.b d_M_feed_89 (lv_at hl 0 rfl) ?_
              refine lv_bipush (v := nI 24) C.x C.b d_M_feed_91 (by decide) ?_
              refine lv_bipush (v := nI 8) C.x C.b d_M_feed_93 (by decide) ?_
              refine lv_iload C.x C.b d_M_feed_95 (lv_at hl 7 rfl) ?_
              refine lv_iconst (v := nI 4) C.x C.b d_M_feed_97 (by decide) ?_
              refine lv_irem C.x C.b d_M_feed_98 (nI_ne0 (by decide) (by omega)) ?_
              refine ra_i (pk_rem (by omega) (by decide) (by omega)) ?_
              refine lv_imul C.x C.b d_M_feed_99 ?_
              refine ra_i (pk_mul _ _) ?_
              refine lv_isub C.x C.b d_M_feed_100 ?_
              refine ra_i (nI_subS (by omega)) ?_
              obtain ⟨c9, -, ec9, e89⟩ := ni_sshr (n := x4) (k := 24 - 8 * (i % 4)) hx4 (by omega)
              refine lv_ishr C.x C.b d_M_feed_101 ?_
              refine ra_i (y := nI c9) (ec9) ?_
              refine lv_sipush (v := nI 255) C.x C.b d_M_feed_102 (by decide) ?_
              refine lv_iand C.x C.b d_M_feed_105 ?_
              refine ra_i (ni_255 _) ?_
              refine ra_i (y := nI (gt (five x1 x2 x3 x4 x5) i)) (by rw [e89, five_gt _ _ _ _ _ (by omega), es]) ?_
              refine ist (w2 := [oM x 0 ro sp V.length w T.length I.length O.length a0 f0 tp ip op, aN cI ro 4096 v, aN cI sp 4104 vs, aN cI tp 8192 (va_up tt (T.length + i) (gt (five x1 x2 x3 x4 x5) i)), aN cI ip 8192 ti, aN cI op 24000 to_]) C hP hD hS 3 rfl (by omega) (by omega) rfl d_M_feed_106 (fun H locs hP hD hS => ?_)
              refine lv_iinc (v := (nI (i + 1))) (lv' := [(6, .int (nI (i + 1))), (7, .int (nI x4)), (0, .ref x), (1, .int (nI x1)), (2, .int (nI x2)), (3, .int (nI x3)), (4, .int (nI x4)), (5, .int (nI x5))]) C.x C.b d_M_feed_107 hl (k := 7) rfl (nI_inc _ 1) (by decide) rfl (fun ls hl => ?_)
              refine lv_goto (tgt := 23) C.x C.b d_M_feed_110 (by decide) ?_
              exact ih (i + 1) _ (by omega) (Hd_tk (by rw [five_len]; omega) hT) H locs ls hP hD hS (lv_sub hl [2, 3, 4, 5, 6, 7, 0] rfl)
          · refine lv_iload_n C.x C.b d_M_feed_58 rfl (lv_at hl 3 rfl) ?_
            refine lv_goto (tgt := 76) C.x C.b d_M_feed_59 (by decide) ?_
            have es : sel x1 x2 x3 x4 x5 i = x3 := by unfold sel; rw [if_neg (by omega), if_neg (by omega), if_pos (by omega)]
            refine lv_istore (lv' := [(7, .int (nI x3)), (0, .ref x), (1, .int (nI x1)), (2, .int (nI x2)), (3, .int (nI x3)), (4, .int (nI x4)), (5, .int (nI x5)), (6, .int (nI i))]) C.x C.b d_M_feed_76 hl (by decide) rfl (fun ls hl => ?_)
            refine lv_aload_n C.x C.b d_M_feed_78 rfl (lv_at hl 1 rfl) ?_
            refine gf C hP 0 3 10 rfl rfl (by decide) fl_M_16 rfl d_M_feed_79 ?_
            refine lv_aload_n C.x C.b d_M_feed_82 rfl (lv_at hl 1 rfl) ?_
            refine gf C hP 0 3 5 rfl rfl (by decide) fl_M_44 rfl d_M_feed_83 ?_
            refine lv_iload C.x C.b d_M_feed_86 (lv_at hl 7 rfl) ?_
            refine lv_iadd C.x C.b d_M_feed_88 ?_
            refine ra_i (nI_add _ _) ?_
            refine lv_iload C.x C.b d_M_feed_89 (lv_at hl 0 rfl) ?_
            refine lv_bipush (v := nI 24) C.x C.b d_M_feed_91 (by decide) ?_
            refine lv_bipush (v := nI 8) C.x C.b d_M_feed_93 (by decide) ?_
            refine lv_iload C.x C.b d_M_feed_95 (lv_at hl 7 rfl) ?_
            refine lv_iconst (v := nI 4) C.x C.b d_M_feed_97 (by decide) ?_
            refine lv_irem C.x C.b d_M_feed_98 (nI_ne0 (by decide) (by omega)) ?_
            refine ra_i (pk_rem (by omega) (by decide) (by omega)) ?_
            refine lv_imul C.x C.b d_M_feed_99 ?_
            refine ra_i (pk_mul _ _) ?_
            refine lv_isub C.x C.b d_M_feed_100 ?_
            refine ra_i (nI_subS (by omega)) ?_
            obtain ⟨c9, -, ec9, e89⟩ := ni_sshr (n := x3) (k := 24 - 8 * (i % 4)) hx3 (by omega)
            refine lv_ishr C.x C.b d_M_feed_101 ?_
            refine ra_i (y := nI c9) (ec9) ?_
            refine lv_sipush (v := nI 255) C.x C.b d_M_feed_102 (by decide) ?_
            refine lv_iand C.x C.b d_M_feed_105 ?_
            refine ra_i (ni_255 _) ?_
            refine ra_i (y := nI (gt (five x1 x2 x3 x4 x5) i)) (by rw [e89, five_gt _ _ _ _ _ (by omega), es]) ?_
            refine ist (w2 := [oM x 0 ro sp V.length w T.length I.length O.length a0 f0 tp ip op, aN cI ro 4096 v, aN cI sp 4104 vs, aN cI tp 8192 (va_up tt (T.length + i) (gt (five x1 x2 x3 x4 x5) i)), aN cI ip 8192 ti, aN cI op 24000 to_]) C hP hD hS 3 rfl (by omega) (by omega) rfl d_M_feed_106 (fun H locs hP hD hS => ?_)
            refine lv_iinc (v := (nI (i + 1))) (lv' := [(6, .int (nI (i + 1))), (7, .int (nI x3)), (0, .ref x), (1, .int (nI x1)), (2, .int (nI x2)), (3, .int (nI x3)), (4, .int (nI x4)), (5, .int (nI x5))]) C.x C.b d_M_feed_107 hl (k := 7) rfl (nI_inc _ 1) (by decide) rfl (fun ls hl => ?_)
            refine lv_goto (tgt := 23) C.x C.b d_M_feed_110 (by decide) ?_
            exact ih (i + 1) _ (by omega) (Hd_tk (by rw [five_len]; omega) hT) H locs ls hP hD hS (lv_sub hl [2, 3, 4, 5, 6, 7, 0] rfl)
        · refine lv_iload_n C.x C.b d_M_feed_47 rfl (lv_at hl 2 rfl) ?_
          refine lv_goto (tgt := 76) C.x C.b d_M_feed_48 (by decide) ?_
          have es : sel x1 x2 x3 x4 x5 i = x2 := by unfold sel; rw [if_neg (by omega), if_pos (by omega)]
          refine lv_istore (lv' := [(7, .int (nI x2)), (0, .ref x), (1, .int (nI x1)), (2, .int (nI x2)), (3, .int (nI x3)), (4, .int (nI x4)), (5, .int (nI x5)), (6, .int (nI i))]) C.x C.b d_M_feed_76 hl (by decide) rfl (fun ls hl => ?_)
          refine lv_aload_n C.x C.b d_M_feed_78 rfl (lv_at hl 1 rfl) ?_
          refine gf C hP 0 3 10 rfl rfl (by decide) fl_M_16 rfl d_M_feed_79 ?_
          refine lv_aload_n C.x C.b d_M_feed_82 rfl (lv_at hl 1 rfl) ?_
          refine gf C hP 0 3 5 rfl rfl (by decide) fl_M_44 rfl d_M_feed_83 ?_
          refine lv_iload C.x C.b d_M_feed_86 (lv_at hl 7 rfl) ?_
          refine lv_iadd C.x C.b d_M_feed_88 ?_
          refine ra_i (nI_add _ _) ?_
          refine lv_iload C.x C.b d_M_feed_89 (lv_at hl 0 rfl) ?_
          refine lv_bipush (v := nI 24) C.x C.b d_M_feed_91 (by decide) ?_
          refine lv_bipush (v := nI 8) C.x C.b d_M_feed_93 (by decide) ?_
          refine lv_iload C.x C.b d_M_feed_95 (lv_at hl 7 rfl) ?_
          refine lv_iconst (v := nI 4) C.x C.b d_M_feed_97 (by decide) ?_
          refine lv_irem C.x C.b d_M_feed_98 (nI_ne0 (by decide) (by omega)) ?_
          refine ra_i (pk_rem (by omega) (by decide) (by omega)) ?_
          refine lv_imul C.x C.b d_M_feed_99 ?_
          refine ra_i (pk_mul _ _) ?_
          refine lv_isub C.x C.b d_M_feed_100 ?_
          refine ra_i (nI_subS (by omega)) ?_
          obtain ⟨c9, -, ec9, e89⟩ := ni_sshr (n := x2) (k := 24 - 8 * (i % 4)) hx2 (by omega)
          refine lv_ishr C.x C.b d_M_feed_101 ?_
          refine ra_i (y := nI c9) (ec9) ?_
          refine lv_sipush (v := nI 255) C.x C.b d_M_feed_102 (by decide) ?_
          refine lv_iand C.x C.b d_M_feed_105 ?_
          refine ra_i (ni_255 _) ?_
          refine ra_i (y := nI (gt (five x1 x2 x3 x4 x5) i)) (by rw [e89, five_gt _ _ _ _ _ (by omega), es]) ?_
          refine ist (w2 := [oM x 0 ro sp V.length w T.length I.length O.length a0 f0 tp ip op, aN cI ro 4096 v, aN cI sp 4104 vs, aN cI tp 8192 (va_up tt (T.length + i) (gt (five x1 x2 x3 x4 x5) i)), aN cI ip 8192 ti, aN cI op 24000 to_]) C hP hD hS 3 rfl (by omega) (by omega) rfl d_M_feed_106 (fun H locs hP hD hS => ?_)
          refine lv_iinc (v := (nI (i + 1))) (lv' := [(6, .int (nI (i + 1))), (7, .int (nI x2)), (0, .ref x), (1, .int (nI x1)), (2, .int (nI x2)), (3, .int (nI x3)), (4, .int (nI x4)), (5, .int (nI x5))]) C.x C.b d_M_feed_107 hl (k := 7) rfl (nI_inc _ 1) (by decide) rfl (fun ls hl => ?_)
          refine lv_goto (tgt := 23) C.x C.b d_M_feed_110 (by decide) ?_
          exact ih (i + 1) _ (by omega) (Hd_tk (by rw [five_len]; omega) hT) H locs ls hP hD hS (lv_sub hl [2, 3, 4, 5, 6, 7, 0] rfl)
      · refine lv_iload_n C.x C.b d_M_feed_36 rfl (lv_at hl 1 rfl) ?_
        refine lv_goto (tgt := 76) C.x C.b d_M_feed_37 (by decide) ?_
        have es : sel x1 x2 x3 x4 x5 i = x1 := by unfold sel; rw [if_pos (by omega)]
        refine lv_istore (lv' := [(7, .int (nI x1)), (0, .ref x), (1, .int (nI x1)), (2, .int (nI x2)), (3, .int (nI x3)), (4, .int (nI x4)), (5, .int (nI x5)), (6, .int (nI i))]) C.x C.b d_M_feed_76 hl (by decide) rfl (fun ls hl => ?_)
        refine lv_aload_n C.x C.b d_M_feed_78 rfl (lv_at hl 1 rfl) ?_
        refine gf C hP 0 3 10 rfl rfl (by decide) fl_M_16 rfl d_M_feed_79 ?_
        refine lv_aload_n C.x C.b d_M_feed_82 rfl (lv_at hl 1 rfl) ?_
        refine gf C hP 0 3 5 rfl rfl (by decide) fl_M_44 rfl d_M_feed_83 ?_
        refine lv_iload C.x C.b d_M_feed_86 (lv_at hl 7 rfl) ?_
        refine lv_iadd C.x C.b d_M_feed_88 ?_
        refine ra_i (nI_add _ _) ?_
        refine lv_iload C.x C.b d_M_feed_89 (lv_at hl 0 rfl) ?_
        refine lv_bipush (v := nI 24) C.x C.b d_M_feed_91 (by decide) ?_
        refine lv_bipush (v := nI 8) C.x C.b d_M_feed_93 (by decide) ?_
        refine lv_iload C.x C.b d_M_feed_95 (lv_at hl 7 rfl) ?_
        refine lv_iconst (v := nI 4) C.x C.b d_M_feed_97 (by decide) ?_
        refine lv_irem C.x C.b d_M_feed_98 (nI_ne0 (by decide) (by omega)) ?_
        refine ra_i (pk_rem (by omega) (by decide) (by omega)) ?_
        refine lv_imul C.x C.b d_M_feed_99 ?_
        refine ra_i (pk_mul _ _) ?_
        refine lv_isub C.x C.b d_M_feed_100 ?_
        refine ra_i (nI_subS (by omega)) ?_
        obtain ⟨c9, -, ec9, e89⟩ := ni_sshr (n := x1) (k := 24 - 8 * (i % 4)) hx1 (by omega)
        refine lv_ishr C.x C.b d_M_feed_101 ?_
        refine ra_i (y := nI c9) (ec9) ?_
        refine lv_sipush (v := nI 255) C.x C.b d_M_feed_102 (by decide) ?_
        refine lv_iand C.x C.b d_M_feed_105 ?_
        refine ra_i (ni_255 _) ?_
        refine ra_i (y := nI (gt (five x1 x2 x3 x4 x5) i)) (by rw [e89, five_gt _ _ _ _ _ (by omega), es]) ?_
        refine ist (w2 := [oM x 0 ro sp V.length w T.length I.length O.length a0 f0 tp ip op, aN cI ro 4096 v, aN cI sp 4104 vs, aN cI tp 8192 (va_up tt (T.length + i) (gt (five x1 x2 x3 x4 x5) i)), aN cI ip 8192 ti, aN cI op 24000 to_]) C hP hD hS 3 rfl (by omega) (by omega) rfl d_M_feed_106 (fun H locs hP hD hS => ?_)
        refine lv_iinc (v := (nI (i + 1))) (lv' := [(6, .int (nI (i + 1))), (7, .int (nI x1)), (0, .ref x), (1, .int (nI x1)), (2, .int (nI x2)), (3, .int (nI x3)), (4, .int (nI x4)), (5, .int (nI x5))]) C.x C.b d_M_feed_107 hl (k := 7) rfl (nI_inc _ 1) (by decide) rfl (fun ls hl => ?_)
        refine lv_goto (tgt := 23) C.x C.b d_M_feed_110 (by decide) ?_
        exact ih (i + 1) _ (by omega) (Hd_tk (by rw [five_len]; omega) hT) H locs ls hP hD hS (lv_sub hl [2, 3, 4, 5, 6, 7, 0] rfl)
set_option maxHeartbeats 4000000 in
set_option maxRecDepth 100000 in
/-- feed -/
theorem c_M_feed (l : Launch) (D : va_G) (cI cB : ClassId) (x : Nat) (T I O V : List Nat) (w : Nat) (hv : Vd T I O V w) (ws : va_W) (hR : RM cI x T I O V w ws) (x1 : Nat) (hx1 : x1 < 2 ^ 32) (x2 : Nat) (hx2 : x2 < 2 ^ 32) (x3 : Nat) (hx3 : x3 < 2 ^ 32) (x4 : Nat) (hx4 : x4 < 2 ^ 32) (x5 : Nat) (hx5 : x5 < 2 ^ 32) : Ki l D cI cB y_M_feed b_M_feed 8 0 0 0 0 .boolean [.ref x, .int (nI x1), .int (nI x2), .int (nI x3), .int (nI x4), .int (nI x5)] ws (fun r w1 => r = fdR T ∧ RM cI x (fdT T x1 x2 x3 x4 x5) I O V w w1) := by
  obtain ⟨ro, sp, tp, ip, op, a0, f0, tt, ti, to_, v, vs, rfl, hT, hI, hO, hV⟩ := hR
  obtain ⟨v1, v2, v3, v4, v5, v6, v7, v8, v9⟩ := hv
  refine ent (fun A => va_Qi _ (BW D A) A) (by decide) (Nat.le_of_ble_eq_true rfl) ?_
  intro p e s m below meth c A ls C hA hP hD hS hl
  have hl : lv_has ls 8 [(0, .ref x), (1, .int (nI x1)), (2, .int (nI x2)), (3, .int (nI x3)), (4, .int (nI x4)), (5, .int (nI x5))] := hl
  refine lv_aload_n C.x C.b d_M_feed_0 rfl (lv_at hl 0 rfl) ?_
  refine lv_iconst (v := nI 0) C.x C.b d_M_feed_1 (by decide) ?_
  refine pf (w2 := [oM x 0 ro sp V.length w T.length I.length O.length a0 f0 tp ip op, aN cI ro 4096 v, aN cI sp 4104 vs, aN cI tp 8192 tt, aN cI ip 8192 ti, aN cI op 24000 to_]) C hP hD hS 0 3 0 (.int) rfl rfl (by decide) fl_M_25 rfl (by decide +kernel) rfl rfl (Nat.le_of_ble_eq_true rfl) rfl d_M_feed_2 (fun H locs hP hD hS => ?_)
  refine lv_aload_n C.x C.b d_M_feed_5 rfl (lv_at hl 0 rfl) ?_
  refine gf C hP 0 3 5 rfl rfl (by decide) fl_M_44 rfl d_M_feed_6 ?_
  refine lv_bipush (v := nI 20) C.x C.b d_M_feed_9 (by decide) ?_
  refine lv_iadd C.x C.b d_M_feed_11 ?_
  refine ra_i (nI_add _ _) ?_
  refine lv_sipush (v := nI 8192) C.x C.b d_M_feed_12 (by decide) ?_
  refine jc_le (tgt := 20) C d_M_feed_15 (by decide) (by omega) (by omega) (fun h => ?_) (fun h => ?_)
  · refine lv_iconst (v := nI 0) C.x C.b d_M_feed_20 (by decide) ?_
    refine lv_istore (lv' := [(6, .int (nI 0)), (0, .ref x), (1, .int (nI x1)), (2, .int (nI x2)), (3, .int (nI x3)), (4, .int (nI x4)), (5, .int (nI x5))]) C.x C.b d_M_feed_21 hl (by decide) rfl (fun ls hl => ?_)
    refine lp_M_feed C hA x ro sp tp ip op a0 f0 ti to_ v vs T I O V w h x1 hx1 x2 hx2 x3 hx3 x4 hx4 x5 hx5 (fun tt hT H locs ls hP hD hS hl => ?_) 20 0 tt rfl (by simpa using hT) H locs ls hP hD hS (lv_sub hl [1, 2, 3, 4, 5, 6, 0] rfl)
    refine lv_aload_n C.x C.b d_M_feed_113 rfl (lv_at hl 0 rfl) ?_
    refine lv_dup C.x C.b d_M_feed_114 rfl ?_
    refine gf C hP 0 3 5 rfl rfl (by decide) fl_M_44 rfl d_M_feed_115 ?_
    refine lv_bipush (v := nI 20) C.x C.b d_M_feed_118 (by decide) ?_
    refine lv_iadd C.x C.b d_M_feed_120 ?_
    refine ra_i (nI_add _ _) ?_
    refine pf (w2 := [oM x 0 ro sp V.length w (T.length + 20) I.length O.length a0 f0 tp ip op, aN cI ro 4096 v, aN cI sp 4104 vs, aN cI tp 8192 tt, aN cI ip 8192 ti, aN cI op 24000 to_]) C hP hD hS 0 3 5 (.int) rfl rfl (by decide) fl_M_44 rfl (by decide +kernel) rfl rfl (Nat.le_of_ble_eq_true rfl) rfl d_M_feed_121 (fun H locs hP hD hS => ?_)
    have e1 : (five x1 x2 x3 x4 x5).take 20 = five x1 x2 x3 x4 x5 := List.take_of_length_le (by rw [five_len]; exact Nat.le_refl _)
    rw [e1] at hT
    have e2 : fdT T x1 x2 x3 x4 x5 = T ++ five x1 x2 x3 x4 x5 := if_pos h
    have e3 : T.length + 20 = (fdT T x1 x2 x3 x4 x5).length := by rw [e2, List.length_append, five_len]
    rw [e3] at hP hD
    rw [← e2] at hT
    refine lv_iconst (v := nI 1) C.x C.b d_M_feed_124 (by decide) ?_
    exact reti C hP hD hS d_M_feed_125 (by decide) (by omega) (by omega) (⟨(if_pos h).symm, ⟨_, _, _, _, _, _, _, _, _, _, _, _, rfl, hT, hI, hO, hV⟩⟩)
  · refine lv_iconst (v := nI 0) C.x C.b d_M_feed_18 (by decide) ?_
    exact reti C hP hD hS d_M_feed_19 (by decide) (by omega) (by omega) (⟨(if_neg (by omega)).symm, by unfold fdT; rw [if_neg (by omega)]; exact ⟨_, _, _, _, _, _, _, _, _, _, _, _, rfl, hT, hI, hO, hV⟩⟩)
set_option maxHeartbeats 4000000 in
set_option maxRecDepth 100000 in
/-- add: the loop -/
theorem lp_M_add {p : Program} {l : Launch} {e : Env} {R : Room} {s : State} {m : MethodId} {args : Array Value} {below : List Frame} {meth : Method} {c : Code} {D : va_G} {cI cB : ClassId} {A : Nat → Prop} {Q : State → Prop} {cells slots : Nat} (C : Cx p s m args meth c D cI cB b_M_add 4 R_M (some .boolean) "add") (hA : ∀ q : Nat, s.heap.size ≤ q → A q) (x ro sp tp ip op a0 f0 : Nat) (tt ti to_ vs : Nat → Nat) (T I O V : List Nat) (w x1 x2 : Nat) (hn : V.length + x2 ≤ 4096) (kk : ∀ (v : Nat → Nat), Hd v (V ++ List.replicate x2 x1) → ∀ (H : Heap) (locs : List Loc) (ls : Array Slot), va_P D classes [oM x 0 ro sp V.length w T.length I.length O.length a0 f0 tp ip op, aN cI ro 4096 v, aN cI sp 4104 vs, aN cI tp 8192 tt, aN cI ip 8192 ti, aN cI op 24000 to_] H → va_D A [oM x 0 ro sp V.length w T.length I.length O.length a0 f0 tp ip op, aN cI ro 4096 v, aN cI sp 4104 vs, aN cI tp 8192 tt, aN cI ip 8192 ti, aN cI op 24000 to_] → va_S A s.heap H locs → lv_has ls 4 [(0, .ref x), (1, .int (nI x1)), (2, .int (nI x2)), (3, .int (nI x2))] → W p l e R s m args below meth c H locs cells slots Q (F0 m 56 ls [])) : ∀ (d i : Nat) (v : Nat → Nat), i + d = x2 → Hd v (V ++ List.replicate i x1) → ∀ (H : Heap) (locs : List Loc) (ls : Array Slot), va_P D classes [oM x 0 ro sp V.length w T.length I.length O.length a0 f0 tp ip op, aN cI ro 4096 v, aN cI sp 4104 vs, aN cI tp 8192 tt, aN cI ip 8192 ti, aN cI op 24000 to_] H → va_D A [oM x 0 ro sp V.length w T.length I.length O.length a0 f0 tp ip op, aN cI ro 4096 v, aN cI sp 4104 vs, aN cI tp 8192 tt, aN cI ip 8192 ti, aN cI op 24000 to_] → va_S A s.heap H locs → lv_has ls 4 [(0, .ref x), (1, .int (nI x1)), (2, .int (nI x2)), (3, .int (nI i))] → W p l e R s m args below meth c H locs cells slots (Q) (F0 m 33 ls []) := by
  intro d
  induction d with
  | zero =>
    intro i v hi hV H locs ls hP hD hS hl
    refine lv_iload_n C.x C.b d_M_add_33 rfl (lv_at hl 3 rfl) ?_
    refine lv_iload_n C.x C.b d_M_add_34 rfl (lv_at hl 2 rfl) ?_
    refine jc_ge (tgt := 56) C d_M_add_35 (by decide) (by omega) (by omega) (fun h => ?_) (fun h => ?_)
    · obtain rfl : i = x2 := by omega
      exact kk v hV H locs ls hP hD hS hl
    · exfalso; omega
  | succ d ih =>
    intro i v hi hV H locs ls hP hD hS hl
    refine lv_iload_n C.x C.b d_M_add_33 rfl (lv_at hl 3 rfl) ?_
    refine lv_iload_n C.x C.b d_M_add_34 rfl (lv_at hl 2 rfl) ?_
    refine jc_ge (tgt := 56) C d_M_add_35 (by decide) (by omega) (by omega) (fun h => ?_) (fun h => ?_)
    · exfalso; omega
    · refine lv_aload_n C.x C.b d_M_add_38 rfl (lv_at hl 0 rfl) ?_
      refine gf C hP 0 3 1 rfl rfl (by decide) fl_M_7 rfl d_M_add_39 ?_
      refine lv_aload_n C.x C.b d_M_add_42 rfl (lv_at hl 0 rfl) ?_
      refine gf C hP 0 3 3 rfl rfl (by decide) fl_M_53 rfl d_M_add_43 ?_
      refine lv_iload_n C.x C.b d_M_add_46 rfl (lv_at hl 3 rfl) ?_
      refine lv_iadd C.x C.b d_M_add_47 ?_
      refine ra_i (nI_add _ _) ?_
      refine lv_iload_n C.x C.b d_M_add_48 rfl (lv_at hl 1 rfl) ?_
      refine ist (w2 := [oM x 0 ro sp V.length w T.length I.length O.length a0 f0 tp ip op, aN cI ro 4096 (va_up v (V.length + i) x1), aN cI sp 4104 vs, aN cI tp 8192 tt, aN cI ip 8192 ti, aN cI op 24000 to_]) C hP hD hS 1 rfl (by omega) (by omega) rfl d_M_add_49 (fun H locs hP hD hS => ?_)
      refine lv_iinc (v := (nI (i + 1))) (lv' := [(3, .int (nI (i + 1))), (0, .ref x), (1, .int (nI x1)), (2, .int (nI x2))]) C.x C.b d_M_add_50 hl (k := 3) rfl (nI_inc _ 1) (by decide) rfl (fun ls hl => ?_)
      refine lv_goto (tgt := 33) C.x C.b d_M_add_53 (by decide) ?_
      exact ih (i + 1) _ (by omega) (Hd_rep hV) H locs ls hP hD hS (lv_sub hl [1, 2, 3, 0] rfl)
set_option maxHeartbeats 4000000 in
set_option maxRecDepth 100000 in
/-- add -/
theorem c_M_add (l : Launch) (D : va_G) (cI cB : ClassId) (x : Nat) (T I O V : List Nat) (w : Nat) (hv : Vd T I O V w) (ws : va_W) (hR : RM cI x T I O V w ws) (x1 x2 : Nat) (hx1 : x1 < 2 ^ 32) (hx2 : x2 < 2 ^ 32) : Ki l D cI cB y_M_add b_M_add 4 0 0 0 0 .boolean [.ref x, .int (nI x1), .int (nI x2)] ws (fun r w1 => r = adR V x2 ∧ RM cI x T I O (adV V x1 x2) w w1) := by
  obtain ⟨ro, sp, tp, ip, op, a0, f0, tt, ti, to_, v, vs, rfl, hT, hI, hO, hV⟩ := hR
  obtain ⟨v1, v2, v3, v4, v5, v6, v7, v8, v9⟩ := hv
  refine ent (fun A => va_Qi _ (BW D A) A) (by decide) (Nat.le_of_ble_eq_true rfl) ?_
  intro p e s m below meth c A ls C hA hP hD hS hl
  have hl : lv_has ls 4 [(0, .ref x), (1, .int (nI x1)), (2, .int (nI x2))] := hl
  refine lv_aload_n C.x C.b d_M_add_0 rfl (lv_at hl 0 rfl) ?_
  refine lv_iconst (v := nI 0) C.x C.b d_M_add_1 (by decide) ?_
  refine pf (w2 := [oM x 0 ro sp V.length w T.length I.length O.length a0 f0 tp ip op, aN cI ro 4096 v, aN cI sp 4104 vs, aN cI tp 8192 tt, aN cI ip 8192 ti, aN cI op 24000 to_]) C hP hD hS 0 3 0 (.int) rfl rfl (by decide) fl_M_25 rfl (by decide +kernel) rfl rfl (Nat.le_of_ble_eq_true rfl) rfl d_M_add_2 (fun H locs hP hD hS => ?_)
  refine lv_iload_n C.x C.b d_M_add_5 rfl (lv_at hl 2 rfl) ?_
  refine lv_iconst (v := nI 1) C.x C.b d_M_add_6 (by decide) ?_
  refine jcs_lt (tgt := 29) C d_M_add_7 (by decide) hx2 (by decide) (fun h1 => ?_) (fun h1 => ?_)
  · refine lv_iconst (v := nI 0) C.x C.b d_M_add_29 (by decide) ?_
    exact reti C hP hD hS d_M_add_30 (by decide) (by omega) (by omega) (⟨(if_neg (by omega)).symm, by unfold adV; rw [if_neg (by omega)]; exact ⟨_, _, _, _, _, _, _, _, _, _, _, _, rfl, hT, hI, hO, hV⟩⟩)
  · refine lv_iload_n C.x C.b d_M_add_10 rfl (lv_at hl 2 rfl) ?_
    refine lv_sipush (v := nI 4096) C.x C.b d_M_add_11 (by decide) ?_
    refine jc_gt (tgt := 29) C d_M_add_14 (by decide) (by omega) (by omega) (fun h2 => ?_) (fun h2 => ?_)
    · refine lv_iconst (v := nI 0) C.x C.b d_M_add_29 (by decide) ?_
      exact reti C hP hD hS d_M_add_30 (by decide) (by omega) (by omega) (⟨(if_neg (by omega)).symm, by unfold adV; rw [if_neg (by omega)]; exact ⟨_, _, _, _, _, _, _, _, _, _, _, _, rfl, hT, hI, hO, hV⟩⟩)
    · refine lv_aload_n C.x C.b d_M_add_17 rfl (lv_at hl 0 rfl) ?_
      refine gf C hP 0 3 3 rfl rfl (by decide) fl_M_53 rfl d_M_add_18 ?_
      refine lv_iload_n C.x C.b d_M_add_21 rfl (lv_at hl 2 rfl) ?_
      refine lv_iadd C.x C.b d_M_add_22 ?_
      refine ra_i (nI_add _ _) ?_
      refine lv_sipush (v := nI 4096) C.x C.b d_M_add_23 (by decide) ?_
      refine jc_le (tgt := 31) C d_M_add_26 (by decide) (by omega) (by omega) (fun h3 => ?_) (fun h3 => ?_)
      · refine lv_iconst (v := nI 0) C.x C.b d_M_add_31 (by decide) ?_
        refine lv_istore_n (lv' := [(3, .int (nI 0)), (0, .ref x), (1, .int (nI x1)), (2, .int (nI x2))]) C.x C.b d_M_add_32 rfl hl (by decide) rfl (fun ls hl => ?_)
        refine lp_M_add C hA x ro sp tp ip op a0 f0 tt ti to_ vs T I O V w x1 x2 (by omega) (fun v hV H locs ls hP hD hS hl => ?_) x2 0 v (by omega) (by simpa using hV) H locs ls hP hD hS (lv_sub hl [1, 2, 3, 0] rfl)
        refine lv_aload_n C.x C.b d_M_add_56 rfl (lv_at hl 0 rfl) ?_
        refine lv_dup C.x C.b d_M_add_57 rfl ?_
        refine gf C hP 0 3 3 rfl rfl (by decide) fl_M_53 rfl d_M_add_58 ?_
        refine lv_iload_n C.x C.b d_M_add_61 rfl (lv_at hl 2 rfl) ?_
        refine lv_iadd C.x C.b d_M_add_62 ?_
        refine ra_i (nI_add _ _) ?_
        refine pf (w2 := [oM x 0 ro sp (V.length + x2) w T.length I.length O.length a0 f0 tp ip op, aN cI ro 4096 v, aN cI sp 4104 vs, aN cI tp 8192 tt, aN cI ip 8192 ti, aN cI op 24000 to_]) C hP hD hS 0 3 3 (.int) rfl rfl (by decide) fl_M_53 rfl (by decide +kernel) rfl rfl (Nat.le_of_ble_eq_true rfl) rfl d_M_add_63 (fun H locs hP hD hS => ?_)
        have ea : V.length + x2 = (adV V x1 x2).length := by unfold adV; rw [if_pos (by omega), List.length_append, List.length_replicate]
        have eb : V ++ List.replicate x2 x1 = adV V x1 x2 := by unfold adV; rw [if_pos (by omega)]
        rw [ea] at hP hD
        rw [eb] at hV
        refine lv_iconst (v := nI 1) C.x C.b d_M_add_66 (by decide) ?_
        exact reti C hP hD hS d_M_add_67 (by decide) (by omega) (by omega) (⟨(if_pos (by omega)).symm, ⟨_, _, _, _, _, _, _, _, _, _, _, _, rfl, hT, hI, hO, hV⟩⟩)
      · refine lv_iconst (v := nI 0) C.x C.b d_M_add_29 (by decide) ?_
        exact reti C hP hD hS d_M_add_30 (by decide) (by omega) (by omega) (⟨(if_neg (by omega)).symm, by unfold adV; rw [if_neg (by omega)]; exact ⟨_, _, _, _, _, _, _, _, _, _, _, _, rfl, hT, hI, hO, hV⟩⟩)
set_option maxHeartbeats 4000000 in
set_option maxRecDepth 100000 in
/-- M_end: the loop -/
theorem lp_M_end {p : Program} {l : Launch} {e : Env} {R : Room} {s : State} {m : MethodId} {args : Array Value} {below : List Frame} {meth : Method} {c : Code} {D : va_G} {cI cB : ClassId} {A : Nat → Prop} {Q : State → Prop} {cells slots : Nat} (C : Cx p s m args meth c D cI cB b_M_end 3 R_M (some .boolean) "end") (hA : ∀ q : Nat, s.heap.size ≤ q → A q) (x ro sp tp ip op a0 f0 : Nat) (tt to_ v vs : Nat → Nat) (T I O V : List Nat) (w : Nat) (x1 : Nat) (hx1 : x1 ≤ T.length) (hT8 : T.length ≤ 8192) (hT : Hd tt T) (kk : ∀ (ti : Nat → Nat), Hd ti (T.take x1) → ∀ (H : Heap) (locs : List Loc) (ls : Array Slot), va_P D classes [oM x 0 ro sp V.length w T.length I.length O.length a0 f0 tp ip op, aN cI ro 4096 v, aN cI sp 4104 vs, aN cI tp 8192 tt, aN cI ip 8192 ti, aN cI op 24000 to_] H → va_D A [oM x 0 ro sp V.length w T.length I.length O.length a0 f0 tp ip op, aN cI ro 4096 v, aN cI sp 4104 vs, aN cI tp 8192 tt, aN cI ip 8192 ti, aN cI op 24000 to_] → va_S A s.heap H locs → lv_has ls 3 [(0, .ref x), (1, .int (nI x1)), (2, .int (nI x1))] → W p l e R s m args below meth c H locs cells slots Q (F0 m 44 ls [])) : ∀ (d i : Nat) (ti : Nat → Nat), i + d = x1 → Hd ti (T.take i) → ∀ (H : Heap) (locs : List Loc) (ls : Array Slot), va_P D classes [oM x 0 ro sp V.length w T.length I.length O.length a0 f0 tp ip op, aN cI ro 4096 v, aN cI sp 4104 vs, aN cI tp 8192 tt, aN cI ip 8192 ti, aN cI op 24000 to_] H → va_D A [oM x 0 ro sp V.length w T.length I.length O.length a0 f0 tp ip op, aN cI ro 4096 v, aN cI sp 4104 vs, aN cI tp 8192 tt, aN cI ip 8192 ti, aN cI op 24000 to_] → va_S A s.heap H locs → lv_has ls 3 [(0, .ref x), (1, .int (nI x1)), (2, .int (nI i))] → W p l e R s m args below meth c H locs cells slots (Q) (F0 m 21 ls []) := by
  intro d
  induction d with
  | zero =>
    intro i ti hi hI H locs ls hP hD hS hl
    refine lv_iload_n C.x C.b d_M_end_21 rfl (lv_at hl 2 rfl) ?_
    refine lv_iload_n C.x C.b d_M_end_22 rfl (lv_at hl 1 rfl) ?_
    refine jc_ge (tgt := 44) C d_M_end_23 (by decide) (by omega) (by omega) (fun h => ?_) (fun h => ?_)
    · obtain rfl : i = x1 := by omega
      exact kk ti hI H locs ls hP hD hS hl
    · exfalso; omega
  | succ d ih =>
    intro i ti hi hI H locs ls hP hD hS hl
    have hti : (T.take i).length = i := by rw [List.length_take]; omega
    refine lv_iload_n C.x C.b d_M_end_21 rfl (lv_at hl 2 rfl) ?_
    refine lv_iload_n C.x C.b d_M_end_22 rfl (lv_at hl 1 rfl) ?_
    refine jc_ge (tgt := 44) C d_M_end_23 (by decide) (by omega) (by omega) (fun h => ?_) (fun h => ?_)
    · exfalso; omega
    · refine lv_aload_n C.x C.b d_M_end_26 rfl (lv_at hl 0 rfl) ?_
      refine gf C hP 0 3 11 rfl rfl (by decide) fl_M_19 rfl d_M_end_27 ?_
      refine lv_iload_n C.x C.b d_M_end_30 rfl (lv_at hl 2 rfl) ?_
      refine lv_aload_n C.x C.b d_M_end_31 rfl (lv_at hl 0 rfl) ?_
      refine gf C hP 0 3 10 rfl rfl (by decide) fl_M_16 rfl d_M_end_32 ?_
      refine lv_iload_n C.x C.b d_M_end_35 rfl (lv_at hl 2 rfl) ?_
      refine ild C hP 3 rfl (by omega) (by omega) d_M_end_36 ?_
      refine ra_i (y := nI (gt T i)) (by rw [hT i (by omega)]) ?_
      refine ist (w2 := [oM x 0 ro sp V.length w T.length I.length O.length a0 f0 tp ip op, aN cI ro 4096 v, aN cI sp 4104 vs, aN cI tp 8192 tt, aN cI ip 8192 (va_up ti i (gt T i)), aN cI op 24000 to_]) C hP hD hS 4 rfl (by omega) (by omega) rfl d_M_end_37 (fun H locs hP hD hS => ?_)
      refine lv_iinc (v := (nI (i + 1))) (lv' := [(2, .int (nI (i + 1))), (0, .ref x), (1, .int (nI x1))]) C.x C.b d_M_end_38 hl (k := 2) rfl (nI_inc _ 1) (by decide) rfl (fun ls hl => ?_)
      refine lv_goto (tgt := 21) C.x C.b d_M_end_41 (by decide) ?_
      have hI2 := Hd_push hI (gt T i)
      rw [← take_gt (by omega), hti] at hI2
      exact ih (i + 1) _ (by omega) hI2 H locs ls hP hD hS (lv_sub hl [1, 2, 0] rfl)
set_option maxHeartbeats 4000000 in
set_option maxRecDepth 100000 in
/-- M_turn: the loop -/
theorem lp_M_turn {p : Program} {l : Launch} {e : Env} {R : Room} {s : State} {m : MethodId} {args : Array Value} {below : List Frame} {meth : Method} {c : Code} {D : va_G} {cI cB : ClassId} {A : Nat → Prop} {Q : State → Prop} {cells slots : Nat} (C : Cx p s m args meth c D cI cB b_M_turn 2 R_M (some .boolean) "turn") (hA : ∀ q : Nat, s.heap.size ≤ q → A q) (x ro sp tp ip op a0 f0 : Nat) (tt to_ v vs : Nat → Nat) (T I O V : List Nat) (w : Nat) (hO8 : O.length ≤ 8192) (hO : Hd to_ O) (kk : ∀ (ti : Nat → Nat), Hd ti (O.take O.length) → ∀ (H : Heap) (locs : List Loc) (ls : Array Slot), va_P D classes [oM x 0 ro sp V.length w T.length I.length O.length a0 f0 tp ip op, aN cI ro 4096 v, aN cI sp 4104 vs, aN cI tp 8192 tt, aN cI ip 8192 ti, aN cI op 24000 to_] H → va_D A [oM x 0 ro sp V.length w T.length I.length O.length a0 f0 tp ip op, aN cI ro 4096 v, aN cI sp 4104 vs, aN cI tp 8192 tt, aN cI ip 8192 ti, aN cI op 24000 to_] → va_S A s.heap H locs → lv_has ls 2 [(0, .ref x), (1, .int (nI O.length))] → W p l e R s m args below meth c H locs cells slots Q (F0 m 45 ls [])) : ∀ (d i : Nat) (ti : Nat → Nat), i + d = O.length → Hd ti (O.take i) → ∀ (H : Heap) (locs : List Loc) (ls : Array Slot), va_P D classes [oM x 0 ro sp V.length w T.length I.length O.length a0 f0 tp ip op, aN cI ro 4096 v, aN cI sp 4104 vs, aN cI tp 8192 tt, aN cI ip 8192 ti, aN cI op 24000 to_] H → va_D A [oM x 0 ro sp V.length w T.length I.length O.length a0 f0 tp ip op, aN cI ro 4096 v, aN cI sp 4104 vs, aN cI tp 8192 tt, aN cI ip 8192 ti, aN cI op 24000 to_] → va_S A s.heap H locs → lv_has ls 2 [(0, .ref x), (1, .int (nI i))] → W p l e R s m args below meth c H locs cells slots (Q) (F0 m 19 ls []) := by
  intro d
  induction d with
  | zero =>
    intro i ti hi hI H locs ls hP hD hS hl
    refine lv_iload_n C.x C.b d_M_turn_19 rfl (lv_at hl 1 rfl) ?_
    refine lv_aload_n C.x C.b d_M_turn_20 rfl (lv_at hl 0 rfl) ?_
    refine gf C hP 0 3 7 rfl rfl (by decide) fl_M_29 rfl d_M_turn_21 ?_
    refine jc_ge (tgt := 45) C d_M_turn_24 (by decide) (by omega) (by omega) (fun h => ?_) (fun h => ?_)
    · obtain rfl : i = O.length := by omega
      exact kk ti hI H locs ls hP hD hS hl
    · exfalso; omega
  | succ d ih =>
    intro i ti hi hI H locs ls hP hD hS hl
    have hti : (O.take i).length = i := by rw [List.length_take]; omega
    refine lv_iload_n C.x C.b d_M_turn_19 rfl (lv_at hl 1 rfl) ?_
    refine lv_aload_n C.x C.b d_M_turn_20 rfl (lv_at hl 0 rfl) ?_
    refine gf C hP 0 3 7 rfl rfl (by decide) fl_M_29 rfl d_M_turn_21 ?_
    refine jc_ge (tgt := 45) C d_M_turn_24 (by decide) (by omega) (by omega) (fun h => ?_) (fun h => ?_)
    · exfalso; omega
    · refine lv_aload_n C.x C.b d_M_turn_27 rfl (lv_at hl 0 rfl) ?_
      refine gf C hP 0 3 11 rfl rfl (by decide) fl_M_19 rfl d_M_turn_28 ?_
      refine lv_iload_n C.x C.b d_M_turn_31 rfl (lv_at hl 1 rfl) ?_
      refine lv_aload_n C.x C.b d_M_turn_32 rfl (lv_at hl 0 rfl) ?_
      refine gf C hP 0 3 12 rfl rfl (by decide) fl_M_22 rfl d_M_turn_33 ?_
      refine lv_iload_n C.x C.b d_M_turn_36 rfl (lv_at hl 1 rfl) ?_
      refine ild C hP 5 rfl (by omega) (by omega) d_M_turn_37 ?_
      refine ra_i (y := nI (gt O i)) (by rw [hO i (by omega)]) ?_
      refine ist (w2 := [oM x 0 ro sp V.length w T.length I.length O.length a0 f0 tp ip op, aN cI ro 4096 v, aN cI sp 4104 vs, aN cI tp 8192 tt, aN cI ip 8192 (va_up ti i (gt O i)), aN cI op 24000 to_]) C hP hD hS 4 rfl (by omega) (by omega) rfl d_M_turn_38 (fun H locs hP hD hS => ?_)
      refine lv_iinc (v := (nI (i + 1))) (lv' := [(1, .int (nI (i + 1))), (0, .ref x)]) C.x C.b d_M_turn_39 hl (k := 1) rfl (nI_inc _ 1) (by decide) rfl (fun ls hl => ?_)
      refine lv_goto (tgt := 19) C.x C.b d_M_turn_42 (by decide) ?_
      have hI2 := Hd_push hI (gt O i)
      rw [← take_gt (by omega), hti] at hI2
      exact ih (i + 1) _ (by omega) hI2 H locs ls hP hD hS (lv_sub hl [1, 0] rfl)
set_option maxHeartbeats 4000000 in
set_option maxRecDepth 100000 in
/-- end -/
theorem c_M_end (l : Launch) (D : va_G) (cI cB : ClassId) (x : Nat) (T I O V : List Nat) (w : Nat) (hv : Vd T I O V w) (ws : va_W) (hR : RM cI x T I O V w ws) (x1 : Nat) (hx1 : x1 < 2 ^ 32) : Ki l D cI cB y_M_end b_M_end 3 0 0 0 0 .boolean [.ref x, .int (nI x1)] ws (fun r w1 => r = enR T x1 ∧ RM cI x (enT T x1) (enI T I x1) O V w w1) := by
  obtain ⟨ro, sp, tp, ip, op, a0, f0, tt, ti, to_, v, vs, rfl, hT, hI, hO, hV⟩ := hR
  obtain ⟨v1, v2, v3, v4, v5, v6, v7, v8, v9⟩ := hv
  refine ent (fun A => va_Qi _ (BW D A) A) (by decide) (Nat.le_of_ble_eq_true rfl) ?_
  intro p e s m below meth c A ls C hA hP hD hS hl
  have hl : lv_has ls 3 [(0, .ref x), (1, .int (nI x1))] := hl
  refine lv_aload_n C.x C.b d_M_end_0 rfl (lv_at hl 0 rfl) ?_
  refine lv_iconst (v := nI 0) C.x C.b d_M_end_1 (by decide) ?_
  refine pf (w2 := [oM x 0 ro sp V.length w T.length I.length O.length a0 f0 tp ip op, aN cI ro 4096 v, aN cI sp 4104 vs, aN cI tp 8192 tt, aN cI ip 8192 ti, aN cI op 24000 to_]) C hP hD hS 0 3 0 (.int) rfl rfl (by decide) fl_M_25 rfl (by decide +kernel) rfl rfl (Nat.le_of_ble_eq_true rfl) rfl d_M_end_2 (fun H locs hP hD hS => ?_)
  refine lv_iload_n C.x C.b d_M_end_5 rfl (lv_at hl 1 rfl) ?_
  refine jz_lt (tgt := 17) C d_M_end_6 (by decide) (by omega) (fun h1 => ?_) (fun h1 => ?_)
  · refine lv_iconst (v := nI 0) C.x C.b d_M_end_17 (by decide) ?_
    exact reti C hP hD hS d_M_end_18 (by decide) (by omega) (by omega) (⟨(if_neg (by omega)).symm, by unfold enT enI; rw [if_neg (by omega), if_neg (by omega)]; exact ⟨_, _, _, _, _, _, _, _, _, _, _, _, rfl, hT, hI, hO, hV⟩⟩)
  · refine lv_iload_n C.x C.b d_M_end_9 rfl (lv_at hl 1 rfl) ?_
    refine lv_aload_n C.x C.b d_M_end_10 rfl (lv_at hl 0 rfl) ?_
    refine gf C hP 0 3 5 rfl rfl (by decide) fl_M_44 rfl d_M_end_11 ?_
    refine jc_le (tgt := 19) C d_M_end_14 (by decide) (by omega) (by omega) (fun h2 => ?_) (fun h2 => ?_)
    · refine lv_iconst (v := nI 0) C.x C.b d_M_end_19 (by decide) ?_
      refine lv_istore_n (lv' := [(2, .int (nI 0)), (0, .ref x), (1, .int (nI x1))]) C.x C.b d_M_end_20 rfl hl (by decide) rfl (fun ls hl => ?_)
      refine lp_M_end C hA x ro sp tp ip op a0 f0 tt to_ v vs T I O V w x1 h2 v1 hT (fun ti hI H locs ls hP hD hS hl => ?_) x1 0 ti (by omega) (Hd_nil ti) H locs ls hP hD hS (lv_sub hl [1, 2, 0] rfl)
      refine lv_aload_n C.x C.b d_M_end_44 rfl (lv_at hl 0 rfl) ?_
      refine lv_iload_n C.x C.b d_M_end_45 rfl (lv_at hl 1 rfl) ?_
      refine pf (w2 := [oM x 0 ro sp V.length w T.length x1 O.length a0 f0 tp ip op, aN cI ro 4096 v, aN cI sp 4104 vs, aN cI tp 8192 tt, aN cI ip 8192 ti, aN cI op 24000 to_]) C hP hD hS 0 3 6 (.int) rfl rfl (by decide) fl_M_47 rfl (by decide +kernel) rfl rfl (Nat.le_of_ble_eq_true rfl) rfl d_M_end_46 (fun H locs hP hD hS => ?_)
      refine lv_aload_n C.x C.b d_M_end_49 rfl (lv_at hl 0 rfl) ?_
      refine lv_iconst (v := nI 0) C.x C.b d_M_end_50 (by decide) ?_
      refine pf (w2 := [oM x 0 ro sp V.length w 0 x1 O.length a0 f0 tp ip op, aN cI ro 4096 v, aN cI sp 4104 vs, aN cI tp 8192 tt, aN cI ip 8192 ti, aN cI op 24000 to_]) C hP hD hS 0 3 5 (.int) rfl rfl (by decide) fl_M_44 rfl (by decide +kernel) rfl rfl (Nat.le_of_ble_eq_true rfl) rfl d_M_end_51 (fun H locs hP hD hS => ?_)
      have ex : oM x 0 ro sp V.length w 0 x1 O.length a0 f0 tp ip op = oM x 0 ro sp V.length w 0 (T.take x1).length O.length a0 f0 tp ip op := by rw [List.length_take, Nat.min_eq_left h2]
      rw [ex] at hP hD
      have hP : va_P D classes [oM x 0 ro sp V.length w 0 ((T.take x1).length) O.length a0 f0 tp ip op, aN cI ro 4096 v, aN cI sp 4104 vs, aN cI tp 8192 tt, aN cI ip 8192 ti, aN cI op 24000 to_] H := hP
      have hD : va_D A [oM x 0 ro sp V.length w 0 ((T.take x1).length) O.length a0 f0 tp ip op, aN cI ro 4096 v, aN cI sp 4104 vs, aN cI tp 8192 tt, aN cI ip 8192 ti, aN cI op 24000 to_] := hD
      refine lv_iconst (v := nI 1) C.x C.b d_M_end_54 (by decide) ?_
      exact reti C hP hD hS d_M_end_55 (by decide) (by omega) (by omega) (⟨(if_pos h2).symm, by unfold enT enI; rw [if_pos h2, if_pos h2]; exact ⟨_, _, _, _, _, _, _, _, _, _, _, _, rfl, Hd_nil tt, hI, hO, hV⟩⟩)
    · refine lv_iconst (v := nI 0) C.x C.b d_M_end_17 (by decide) ?_
      exact reti C hP hD hS d_M_end_18 (by decide) (by omega) (by omega) (⟨(if_neg (by omega)).symm, by unfold enT enI; rw [if_neg (by omega), if_neg (by omega)]; exact ⟨_, _, _, _, _, _, _, _, _, _, _, _, rfl, hT, hI, hO, hV⟩⟩)
set_option maxHeartbeats 4000000 in
set_option maxRecDepth 100000 in
/-- turn -/
theorem c_M_turn (l : Launch) (D : va_G) (cI cB : ClassId) (x : Nat) (T I O V : List Nat) (w : Nat) (hv : Vd T I O V w) (ws : va_W) (hR : RM cI x T I O V w ws)  : Ki l D cI cB y_M_turn b_M_turn 2 0 0 0 0 .boolean [.ref x] ws (fun r w1 => r = tuR O ∧ RM cI x T (tuI I O) O V w w1) := by
  obtain ⟨ro, sp, tp, ip, op, a0, f0, tt, ti, to_, v, vs, rfl, hT, hI, hO, hV⟩ := hR
  obtain ⟨v1, v2, v3, v4, v5, v6, v7, v8, v9⟩ := hv
  refine ent (fun A => va_Qi _ (BW D A) A) (by decide) (Nat.le_of_ble_eq_true rfl) ?_
  intro p e s m below meth c A ls C hA hP hD hS hl
  have hl : lv_has ls 2 [(0, .ref x)] := hl
  refine lv_aload_n C.x C.b d_M_turn_0 rfl (lv_at hl 0 rfl) ?_
  refine lv_iconst (v := nI 0) C.x C.b d_M_turn_1 (by decide) ?_
  refine pf (w2 := [oM x 0 ro sp V.length w T.length I.length O.length a0 f0 tp ip op, aN cI ro 4096 v, aN cI sp 4104 vs, aN cI tp 8192 tt, aN cI ip 8192 ti, aN cI op 24000 to_]) C hP hD hS 0 3 0 (.int) rfl rfl (by decide) fl_M_25 rfl (by decide +kernel) rfl rfl (Nat.le_of_ble_eq_true rfl) rfl d_M_turn_2 (fun H locs hP hD hS => ?_)
  refine lv_aload_n C.x C.b d_M_turn_5 rfl (lv_at hl 0 rfl) ?_
  refine gf C hP 0 3 7 rfl rfl (by decide) fl_M_29 rfl d_M_turn_6 ?_
  refine lv_sipush (v := nI 8192) C.x C.b d_M_turn_9 (by decide) ?_
  refine jc_le (tgt := 17) C d_M_turn_12 (by decide) (by omega) (by omega) (fun h => ?_) (fun h => ?_)
  · refine lv_iconst (v := nI 0) C.x C.b d_M_turn_17 (by decide) ?_
    refine lv_istore_n (lv' := [(1, .int (nI 0)), (0, .ref x)]) C.x C.b d_M_turn_18 rfl hl (by decide) rfl (fun ls hl => ?_)
    refine lp_M_turn C hA x ro sp tp ip op a0 f0 tt to_ v vs T I O V w h hO (fun ti hI H locs ls hP hD hS hl => ?_) O.length 0 ti (by omega) (Hd_nil ti) H locs ls hP hD hS (lv_sub hl [1, 0] rfl)
    rw [List.take_length] at hI
    refine lv_aload_n C.x C.b d_M_turn_45 rfl (lv_at hl 0 rfl) ?_
    refine lv_aload_n C.x C.b d_M_turn_46 rfl (lv_at hl 0 rfl) ?_
    refine gf C hP 0 3 7 rfl rfl (by decide) fl_M_29 rfl d_M_turn_47 ?_
    refine pf (w2 := [oM x 0 ro sp V.length w T.length O.length O.length a0 f0 tp ip op, aN cI ro 4096 v, aN cI sp 4104 vs, aN cI tp 8192 tt, aN cI ip 8192 ti, aN cI op 24000 to_]) C hP hD hS 0 3 6 (.int) rfl rfl (by decide) fl_M_47 rfl (by decide +kernel) rfl rfl (Nat.le_of_ble_eq_true rfl) rfl d_M_turn_50 (fun H locs hP hD hS => ?_)
    refine lv_iconst (v := nI 1) C.x C.b d_M_turn_53 (by decide) ?_
    exact reti C hP hD hS d_M_turn_54 (by decide) (by omega) (by omega) (⟨(if_pos h).symm, by unfold tuI; rw [if_pos h]; exact ⟨_, _, _, _, _, _, _, _, _, _, _, _, rfl, hT, hI, hO, hV⟩⟩)
  · refine lv_iconst (v := nI 0) C.x C.b d_M_turn_15 (by decide) ?_
    exact reti C hP hD hS d_M_turn_16 (by decide) (by omega) (by omega) (⟨(if_neg (by omega)).symm, by unfold tuI; rw [if_neg (by omega)]; exact ⟨_, _, _, _, _, _, _, _, _, _, _, _, rfl, hT, hI, hO, hV⟩⟩)
end
section
/-! contracts of RunRowsModel: writeRuns, encode (printed by gen/m3.py) -/
set_option maxHeartbeats 4000000 in
set_option maxRecDepth 100000 in
/-- writeRuns: the bytes of a number -/
theorem lp_M_wfix {p : Program} {l : Launch} {e : Env} {R : Room} {s : State} {m : MethodId} {args : Array Value} {below : List Frame} {meth : Method} {c : Code} {D : va_G} {cI cB : ClassId} {A : Nat → Prop} {Q : State → Prop} {cells slots : Nat} (C : Cx p s m args meth c D cI cB b_M_writeRuns 11 R_M none "writeRuns") (hA : ∀ q : Nat, s.heap.size ≤ q → A q) (x ro sp vn w tn im a0 f0 tp ip op : Nat) (k n rk : Nat) (V : List Nat) (v : Nat → Nat) (hV : Hd v V) (hV32 : ∀ x ∈ V, x < 2 ^ 32) (hVn : V.length = n) (hn : n ≤ 4096) (hw : w ≤ 32) (hk : k < n) (L : List Nat) (hLb : L.length + 4 < 24000) (hR1 : 2 ≤ R.frames) (hR2 : 45 ≤ R.locals) (hRc : cells ≤ R.cells) (hRs : slots ≤ R.slots) (kk : ∀ (t : Nat → Nat), Hd t (L ++ fx (gt V k) ((w + 7) / 8)) → ∀ (H : Heap) (locs : List Loc) (ls : Array Slot), va_P D classes [oM x 0 ro sp vn w tn im ((L ++ fx (gt V k) ((w + 7) / 8)).length) a0 f0 tp ip op, aN cI ro 4096 v, aN cI op 24000 t] H → va_D A [oM x 0 ro sp vn w tn im ((L ++ fx (gt V k) ((w + 7) / 8)).length) a0 f0 tp ip op, aN cI ro 4096 v, aN cI op 24000 t] → va_S A s.heap H locs → lv_has ls 11 [(0, .ref x), (1, .ref ro), (2, .int (nI n)), (3, .int (nI w)), (4, .int (nI k)), (5, .int (nI rk)), (6, .int (nI (8 * ((w + 7) / 8))))] → W p l e R s m args below meth c H locs cells slots Q (F0 m 62 ls [])) : ∀ (d i : Nat) (M : List Nat) (t : Nat → Nat), i + d = (w + 7) / 8 → M = L ++ fx (gt V k) i → Hd t M → ∀ (H : Heap) (locs : List Loc) (ls : Array Slot), va_P D classes [oM x 0 ro sp vn w tn im M.length a0 f0 tp ip op, aN cI ro 4096 v, aN cI op 24000 t] H → va_D A [oM x 0 ro sp vn w tn im M.length a0 f0 tp ip op, aN cI ro 4096 v, aN cI op 24000 t] → va_S A s.heap H locs → lv_has ls 11 [(0, .ref x), (1, .ref ro), (2, .int (nI n)), (3, .int (nI w)), (4, .int (nI k)), (5, .int (nI rk)), (6, .int (nI (8 * i)))] → W p l e R s m args below meth c H locs cells slots (Q) (F0 m 39 ls []) := by
  intro d
  induction d with
  | zero =>
    intro i M t hi hM hL H locs ls hP hD hS hl
    refine lv_iload C.x C.b d_M_writeRuns_39 (lv_at hl 6 rfl) ?_
    refine lv_iload_n C.x C.b d_M_writeRuns_41 rfl (lv_at hl 3 rfl) ?_
    refine jc_ge (tgt := 62) C d_M_writeRuns_42 (by decide) (by omega) (by omega) (fun h => ?_) (fun h => ?_)
    · obtain rfl : i = (w + 7) / 8 := by omega
      subst hM
      exact kk t hL H locs ls hP hD hS hl
    · exfalso; omega
  | succ d ih =>
    intro i M t hi hM hL H locs ls hP hD hS hl
    have hml : M.length = L.length + i := by rw [hM, List.length_append, fx_len]
    refine lv_iload C.x C.b d_M_writeRuns_39 (lv_at hl 6 rfl) ?_
    refine lv_iload_n C.x C.b d_M_writeRuns_41 rfl (lv_at hl 3 rfl) ?_
    refine jc_ge (tgt := 62) C d_M_writeRuns_42 (by decide) (by omega) (by omega) (fun h => ?_) (fun h => ?_)
    · exfalso; omega
    · refine lv_aload_n C.x C.b d_M_writeRuns_45 rfl (lv_at hl 0 rfl) ?_
      refine lv_aload_n C.x C.b d_M_writeRuns_46 rfl (lv_at hl 1 rfl) ?_
      refine lv_iload C.x C.b d_M_writeRuns_47 (lv_at hl 4 rfl) ?_
      refine ild C hP 1 rfl (by omega) (by omega) d_M_writeRuns_49 ?_
      refine ra_i (y := nI (gt V k)) (by rw [hV k (by omega)]) ?_
      refine lv_iload C.x C.b d_M_writeRuns_50 (lv_at hl 6 rfl) ?_
      obtain ⟨c9, -, ec9, e89⟩ := ni_sshr (n := gt V k) (k := 8 * i) (gt_lt (by decide) hV32 k) (by omega)
      refine lv_ishr C.x C.b d_M_writeRuns_52 ?_
      refine ra_i (y := nI c9) (ec9) ?_
      refine cvV (wr := [aN cI ro 4096 v]) C hA hP hD hS hl.1 (c_M_put l D cI cB x ro sp vn w tn im a0 f0 tp ip op c9 M t hL (by omega)) ok_M_40 [] [0, 2] [1] 3 0 rfl rfl rfl rfl (by decide) rfl (by decide) (by decide) rfl rfl (Nat.le_of_ble_eq_true rfl) (⟨by (try dsimp only [rmO]); omega, by (try dsimp only [rmO]); omega⟩) (⟨by (try dsimp only [rmO]); omega, by (try dsimp only [rmO]); omega⟩) d_M_writeRuns_53 ?_
      intro w1 H locs hw hP hD hS
      obtain ⟨t1, rfl, hL1⟩ := hw
      have hP : va_P D classes [aN cI ro 4096 v, oM x 0 ro sp vn w tn im (M.length + 1) a0 f0 tp ip op, aN cI op 24000 t1] H := hP
      have hD : va_D A [aN cI ro 4096 v, oM x 0 ro sp vn w tn im (M.length + 1) a0 f0 tp ip op, aN cI op 24000 t1] := hD
      rw [e89] at hL1
      refine W.widen (k := cells) (n := slots) (by omega) (by omega) ?_
      obtain ⟨M2, hm1⟩ : ∃ z, z = M ++ [gt V k / 2 ^ (8 * i) % 256] := ⟨_, rfl⟩
      rw [← hm1] at hL1
      have hn1 : M.length + 1 = M2.length := by rw [hm1]; simp
      rw [hn1] at hP hD
      have hP : va_P D classes [oM x 0 ro sp vn w tn im M2.length a0 f0 tp ip op, aN cI ro 4096 v, aN cI op 24000 t1] H := hP.sub [1, 0, 2] rfl
      have hD : va_D A [oM x 0 ro sp vn w tn im M2.length a0 f0 tp ip op, aN cI ro 4096 v, aN cI op 24000 t1] := hD.sub [1, 0, 2] (by decide) rfl
      refine lv_iinc (v := (nI (8 * (i + 1)))) (lv' := [(6, .int (nI (8 * (i + 1)))), (0, .ref x), (1, .ref ro), (2, .int (nI n)), (3, .int (nI w)), (4, .int (nI k)), (5, .int (nI rk))]) C.x C.b d_M_writeRuns_56 hl (k := 6) rfl (by rw [Nat.mul_add]; exact nI_inc _ 8) (by decide) rfl (fun ls hl => ?_)
      refine lv_goto (tgt := 39) C.x C.b d_M_writeRuns_59 (by decide) ?_
      exact ih (i + 1) M2 t1 (by omega) (by rw [hm1, hM, List.append_assoc]; congr 1; exact (range_push _ i).symm) hL1 H locs ls hP hD hS (lv_sub hl [1, 2, 3, 4, 5, 6, 0] rfl)
set_option maxHeartbeats 4000000 in
set_option maxRecDepth 100000 in
/-- writeRuns: how many groups -/
theorem lp_M_wgrp {p : Program} {l : Launch} {e : Env} {R : Room} {s : State} {m : MethodId} {args : Array Value} {below : List Frame} {meth : Method} {c : Code} {D : va_G} {cI cB : ClassId} {A : Nat → Prop} {Q : State → Prop} {cells slots : Nat} (C : Cx p s m args meth c D cI cB b_M_writeRuns 11 R_M none "writeRuns") (hA : ∀ q : Nat, s.heap.size ≤ q → A q) (x ro sp vn w tn im a0 f0 tp ip op : Nat) (k n : Nat) (V : List Nat) (v : Nat → Nat) (hV : Hd v V) (hV32 : ∀ x ∈ V, x < 2 ^ 32) (hVn : V.length = n) (hn : n ≤ 4096) (hk : k < n) (L : List Nat) (t : Nat → Nat) (hR1 : 2 ≤ R.frames) (hR2 : 45 ≤ R.locals) (hRc : cells ≤ R.cells) (hRs : slots ≤ R.slots) : ∀ (q g : Nat), n ≤ k + 8 * g + q → k + 8 * g ≤ 8192 → (∀ (g2 : Nat), k + 8 * g2 = gE (gt V) n q (k + 8 * g) → ∀ (H : Heap) (locs : List Loc) (ls : Array Slot), va_P D classes [oM x 0 ro sp vn w tn im L.length a0 f0 tp ip op, aN cI ro 4096 v, aN cI op 24000 t] H → va_D A [oM x 0 ro sp vn w tn im L.length a0 f0 tp ip op, aN cI ro 4096 v, aN cI op 24000 t] → va_S A s.heap H locs → lv_has ls 11 [(0, .ref x), (1, .ref ro), (2, .int (nI n)), (3, .int (nI w)), (4, .int (nI k)), (6, .int (nI g2))] → W p l e R s m args below meth c H locs cells slots Q (F0 m 111 ls [])) → ∀ (H : Heap) (locs : List Loc) (ls : Array Slot), va_P D classes [oM x 0 ro sp vn w tn im L.length a0 f0 tp ip op, aN cI ro 4096 v, aN cI op 24000 t] H → va_D A [oM x 0 ro sp vn w tn im L.length a0 f0 tp ip op, aN cI ro 4096 v, aN cI op 24000 t] → va_S A s.heap H locs → lv_has ls 11 [(0, .ref x), (1, .ref ro), (2, .int (nI n)), (3, .int (nI w)), (4, .int (nI k)), (6, .int (nI g))] → W p l e R s m args below meth c H locs cells slots (Q) (F0 m 75 ls []) := by
  intro q
  induction q with
  | zero =>
    intro g hg hg2 kk H locs ls hP hD hS hl
    refine lv_iload C.x C.b d_M_writeRuns_75 (lv_at hl 4 rfl) ?_
    refine lv_bipush (v := nI 8) C.x C.b d_M_writeRuns_77 (by decide) ?_
    refine lv_iload C.x C.b d_M_writeRuns_79 (lv_at hl 5 rfl) ?_
    refine lv_imul C.x C.b d_M_writeRuns_81 ?_
    refine ra_i (pk_mul _ _) ?_
    refine lv_iadd C.x C.b d_M_writeRuns_82 ?_
    refine ra_i (nI_add _ _) ?_
    refine lv_iload_n C.x C.b d_M_writeRuns_83 rfl (lv_at hl 2 rfl) ?_
    refine jc_ge (tgt := 111) C d_M_writeRuns_84 (by decide) (by omega) (by omega) (fun h => ?_) (fun h => ?_)
    · exact kk g (by rw [gE_out (by omega)]) H locs ls hP hD hS hl
    · exfalso; omega
  | succ q ih =>
    intro g hg hg2 kk H locs ls hP hD hS hl
    refine lv_iload C.x C.b d_M_writeRuns_75 (lv_at hl 4 rfl) ?_
    refine lv_bipush (v := nI 8) C.x C.b d_M_writeRuns_77 (by decide) ?_
    refine lv_iload C.x C.b d_M_writeRuns_79 (lv_at hl 5 rfl) ?_
    refine lv_imul C.x C.b d_M_writeRuns_81 ?_
    refine ra_i (pk_mul _ _) ?_
    refine lv_iadd C.x C.b d_M_writeRuns_82 ?_
    refine ra_i (nI_add _ _) ?_
    refine lv_iload_n C.x C.b d_M_writeRuns_83 rfl (lv_at hl 2 rfl) ?_
    refine jc_ge (tgt := 111) C d_M_writeRuns_84 (by decide) (by omega) (by omega) (fun h => ?_) (fun h => ?_)
    · exact kk g (by rw [gE_out (by omega)]) H locs ls hP hD hS hl
    · refine lv_aload_n C.x C.b d_M_writeRuns_87 rfl (lv_at hl 1 rfl) ?_
      refine lv_iload C.x C.b d_M_writeRuns_88 (lv_at hl 4 rfl) ?_
      refine lv_bipush (v := nI 8) C.x C.b d_M_writeRuns_90 (by decide) ?_
      refine lv_iload C.x C.b d_M_writeRuns_92 (lv_at hl 5 rfl) ?_
      refine lv_imul C.x C.b d_M_writeRuns_94 ?_
      refine ra_i (pk_mul _ _) ?_
      refine lv_iadd C.x C.b d_M_writeRuns_95 ?_
      refine ra_i (nI_add _ _) ?_
      refine lv_iload_n C.x C.b d_M_writeRuns_96 rfl (lv_at hl 2 rfl) ?_
      refine ciS (wr := [oM x 0 ro sp vn w tn im L.length a0 f0 tp ip op, aN cI op 24000 t]) C hA hP hD hS hl.1 (c_M_alike l D cI cB ro (k + 8 * g) n V v hV hV32 hVn hn (by omega)) ok_M_56 [] [1] [0, 2] rfl (by decide) rfl (by decide) (by decide) rfl rfl (Nat.le_of_ble_eq_true rfl) (⟨by (try dsimp only [rmO]); omega, by (try dsimp only [rmO]); omega⟩) (⟨by (try dsimp only [rmO]); omega, by (try dsimp only [rmO]); omega⟩) d_M_writeRuns_97 ?_
      intro ra w1 H locs hw hP hD hS
      obtain ⟨rfl, rfl⟩ := hw
      have hP : va_P D classes [oM x 0 ro sp vn w tn im L.length a0 f0 tp ip op, aN cI op 24000 t, aN cI ro 4096 v] H := hP
      have hD : va_D A [oM x 0 ro sp vn w tn im L.length a0 f0 tp ip op, aN cI op 24000 t, aN cI ro 4096 v] := hD
      have hP : va_P D classes [oM x 0 ro sp vn w tn im L.length a0 f0 tp ip op, aN cI ro 4096 v, aN cI op 24000 t] H := hP.sub [0, 2, 1] rfl
      have hD : va_D A [oM x 0 ro sp vn w tn im L.length a0 f0 tp ip op, aN cI ro 4096 v, aN cI op 24000 t] := hD.sub [0, 2, 1] (by decide) rfl
      refine W.widen (k := cells) (n := slots) (by omega) (by omega) ?_
      have hrl := run_le (gt V) (n - (k + 8 * g)) (k + 8 * g)
      refine lv_bipush (v := nI 8) C.x C.b d_M_writeRuns_100 (by decide) ?_
      refine jc_ge (tgt := 111) C d_M_writeRuns_102 (by decide) (by omega) (by omega) (fun h2 => ?_) (fun h2 => ?_)
      · exact kk g (by rw [gE_out (by omega)]) H locs ls hP hD hS hl
      · refine lv_iinc (v := (nI (g + 1))) (lv' := [(6, .int (nI (g + 1))), (0, .ref x), (1, .ref ro), (2, .int (nI n)), (3, .int (nI w)), (4, .int (nI k))]) C.x C.b d_M_writeRuns_105 hl (k := 5) rfl (nI_inc _ 1) (by decide) rfl (fun ls hl => ?_)
        refine lv_goto (tgt := 75) C.x C.b d_M_writeRuns_108 (by decide) ?_
        exact ih (g + 1) (by omega) (by omega) (fun g2 hg2 H locs ls hP hD hS hl => kk g2 (by rw [gE_in ⟨h, h2⟩]; exact hg2) H locs ls hP hD hS hl) H locs ls hP hD hS (lv_sub hl [1, 2, 3, 4, 5, 0] rfl)
set_option maxHeartbeats 4000000 in
set_option maxRecDepth 100000 in
/-- writeRuns: the bits of a byte -/
theorem lp_M_wbit {p : Program} {l : Launch} {e : Env} {R : Room} {s : State} {m : MethodId} {args : Array Value} {below : List Frame} {meth : Method} {c : Code} {D : va_G} {cI cB : ClassId} {Q : State → Prop} {cells slots : Nat} {H : Heap} {locs : List Loc} (C : Cx p s m args meth c D cI cB b_M_writeRuns 11 R_M none "writeRuns") (x ro sp vn w tn im a0 f0 tp ip op : Nat) (k n g y : Nat) (V : List Nat) (v : Nat → Nat) (hV : Hd v V) (hV32 : ∀ x ∈ V, x < 2 ^ 32) (hVn : V.length = n) (hn : n ≤ 4096) (hw : w ≤ 32) (hw0 : 0 < w) (hy : 8 * y ≤ 200000) (hk : k ≤ 8192) (L : List Nat) (t : Nat → Nat) (hP : va_P D classes [oM x 0 ro sp vn w tn im L.length a0 f0 tp ip op, aN cI ro 4096 v, aN cI op 24000 t] H) (kk : ∀ (ls : Array Slot), lv_has ls 11 [(0, .ref x), (1, .ref ro), (2, .int (nI n)), (3, .int (nI w)), (4, .int (nI k)), (6, .int (nI g)), (7, .int (nI (8 * y))), (8, .int (nI (bs (vb (gt V) n w k) (8 * y) 8))), (9, .int (nI 8))] → W p l e R s m args below meth c H locs cells slots Q (F0 m 198 ls [])) : ∀ (d i : Nat), i + d = 8 → ∀ (ls : Array Slot), lv_has ls 11 [(0, .ref x), (1, .ref ro), (2, .int (nI n)), (3, .int (nI w)), (4, .int (nI k)), (6, .int (nI g)), (7, .int (nI (8 * y))), (8, .int (nI (bs (vb (gt V) n w k) (8 * y) i))), (9, .int (nI i))] → W p l e R s m args below meth c H locs cells slots Q (F0 m 145 ls []) := by
  intro d
  induction d with
  | zero =>
    intro i hi ls hl
    refine lv_iload C.x C.b d_M_writeRuns_145 (lv_at hl 8 rfl) ?_
    refine lv_bipush (v := nI 8) C.x C.b d_M_writeRuns_147 (by decide) ?_
    refine jc_ge (tgt := 198) C d_M_writeRuns_149 (by decide) (by omega) (by omega) (fun h => ?_) (fun h => ?_)
    · obtain rfl : i = 8 := by omega
      exact kk ls hl
    · exfalso; omega
  | succ d ih =>
    intro i hi ls hl
    have hdv := Nat.div_le_self (8 * y + i) w
    have hmd := Nat.mod_lt (8 * y + i) hw0
    refine lv_iload C.x C.b d_M_writeRuns_145 (lv_at hl 8 rfl) ?_
    refine lv_bipush (v := nI 8) C.x C.b d_M_writeRuns_147 (by decide) ?_
    refine jc_ge (tgt := 198) C d_M_writeRuns_149 (by decide) (by omega) (by omega) (fun h => ?_) (fun h => ?_)
    · exfalso; omega
    · refine lv_iload C.x C.b d_M_writeRuns_152 (lv_at hl 4 rfl) ?_
      refine lv_iload C.x C.b d_M_writeRuns_154 (lv_at hl 6 rfl) ?_
      refine lv_iload C.x C.b d_M_writeRuns_156 (lv_at hl 8 rfl) ?_
      refine lv_iadd C.x C.b d_M_writeRuns_158 ?_
      refine ra_i (nI_add _ _) ?_
      refine lv_iload_n C.x C.b d_M_writeRuns_159 rfl (lv_at hl 3 rfl) ?_
      refine lv_idiv C.x C.b d_M_writeRuns_160 (nI_ne0 (hw0) (by omega)) ?_
      refine ra_i (pk_div (by omega) (hw0) (by omega)) ?_
      refine lv_iadd C.x C.b d_M_writeRuns_161 ?_
      refine ra_i (nI_add _ _) ?_
      refine lv_istore (lv' := [(10, .int (nI (k + (8 * y + i) / w))), (0, .ref x), (1, .ref ro), (2, .int (nI n)), (3, .int (nI w)), (4, .int (nI k)), (6, .int (nI g)), (7, .int (nI (8 * y))), (8, .int (nI (bs (vb (gt V) n w k) (8 * y) i))), (9, .int (nI i))]) C.x C.b d_M_writeRuns_162 hl (by decide) rfl (fun ls hl => ?_)
      refine lv_iload C.x C.b d_M_writeRuns_164 (lv_at hl 0 rfl) ?_
      refine lv_iload_n C.x C.b d_M_writeRuns_166 rfl (lv_at hl 3 rfl) ?_
      refine jc_ge (tgt := 192) C d_M_writeRuns_167 (by decide) (by omega) (by omega) (fun hn9 => ?_) (fun hn9 => ?_)
      · have hb0 : vb (gt V) n w k (8 * y + i) = false := by unfold vb; simp [show ¬ k + (8 * y + i) / w < n by omega]
        have es : bs (vb (gt V) n w k) (8 * y) (i + 1) = bs (vb (gt V) n w k) (8 * y) i := by show _ + (vb (gt V) n w k (8 * y + i)).toNat * 2 ^ i = _; rw [hb0]; simp
        rw [← es] at hl
        refine lv_iinc (v := (nI (i + 1))) (lv' := [(9, .int (nI (i + 1))), (10, .int (nI (k + (8 * y + i) / w))), (0, .ref x), (1, .ref ro), (2, .int (nI n)), (3, .int (nI w)), (4, .int (nI k)), (6, .int (nI g)), (7, .int (nI (8 * y))), (8, .int (nI (bs (vb (gt V) n w k) (8 * y) (i + 1))))]) C.x C.b d_M_writeRuns_192 hl (k := 9) rfl (nI_inc _ 1) (by decide) rfl (fun ls hl => ?_)
        refine lv_goto (tgt := 145) C.x C.b d_M_writeRuns_195 (by decide) ?_
        exact ih (i + 1) (by omega) ls (lv_sub hl [2, 3, 4, 5, 6, 7, 8, 9, 0] rfl)
      · have hb1 : (vb (gt V) n w k (8 * y + i)).toNat = gt V (k + (8 * y + i) / w) / 2 ^ ((8 * y + i) % w) % 2 := by unfold vb; rw [decide_eq_true hn9, Bool.true_and, Nat.toNat_testBit]
        have hl1 := bs_lt (vb (gt V) n w k) (8 * y) i
        have hl2 := bs_lt (vb (gt V) n w k) (8 * y) (i + 1)
        have hp8 : (2 : Nat) ^ (i + 1) ≤ 2 ^ 8 := Nat.pow_le_pow_right (by decide) (by omega)
        refine lv_iload C.x C.b d_M_writeRuns_170 (lv_at hl 8 rfl) ?_
        refine lv_aload_n C.x C.b d_M_writeRuns_172 rfl (lv_at hl 2 rfl) ?_
        refine lv_iload C.x C.b d_M_writeRuns_173 (lv_at hl 0 rfl) ?_
        refine ild C hP 1 rfl (by omega) (by omega) d_M_writeRuns_175 ?_
        refine ra_i (y := nI (gt V (k + (8 * y + i) / w))) (by rw [hV _ (by omega)]) ?_
        refine lv_iload C.x C.b d_M_writeRuns_176 (lv_at hl 7 rfl) ?_
        refine lv_iload C.x C.b d_M_writeRuns_178 (lv_at hl 9 rfl) ?_
        refine lv_iadd C.x C.b d_M_writeRuns_180 ?_
        refine ra_i (nI_add _ _) ?_
        refine lv_iload_n C.x C.b d_M_writeRuns_181 rfl (lv_at hl 4 rfl) ?_
        refine lv_irem C.x C.b d_M_writeRuns_182 (nI_ne0 (hw0) (by omega)) ?_
        refine ra_i (pk_rem (by omega) (hw0) (by omega)) ?_
        refine lv_iushr C.x C.b d_M_writeRuns_183 (ni_ushr (gt_lt (by decide) hV32 _) (by omega)) ?_
        refine lv_iconst (v := nI 1) C.x C.b d_M_writeRuns_184 (by decide) ?_
        refine lv_iand C.x C.b d_M_writeRuns_185 ?_
        refine ra_i (ni_1 _) ?_
        refine ra_i (y := nI ((vb (gt V) n w k (8 * y + i)).toNat)) (by rw [hb1]) ?_
        refine lv_iload C.x C.b d_M_writeRuns_186 (lv_at hl 9 rfl) ?_
        refine lv_ishl C.x C.b d_M_writeRuns_188 ?_
        refine ra_i (ni_shl _ (by omega)) ?_
        refine lv_ior C.x C.b d_M_writeRuns_189 ?_
        refine ra_i (y := nI (bs (vb (gt V) n w k) (8 * y) (i + 1))) (ni_orS hl1 (show bs (vb (gt V) n w k) (8 * y) (i + 1) < 2 ^ 32 by omega)) ?_
        refine lv_istore (lv' := [(8, .int (nI (bs (vb (gt V) n w k) (8 * y) (i + 1)))), (10, .int (nI (k + (8 * y + i) / w))), (0, .ref x), (1, .ref ro), (2, .int (nI n)), (3, .int (nI w)), (4, .int (nI k)), (6, .int (nI g)), (7, .int (nI (8 * y))), (9, .int (nI i))]) C.x C.b d_M_writeRuns_190 hl (by decide) rfl (fun ls hl => ?_)
        refine lv_iinc (v := (nI (i + 1))) (lv' := [(9, .int (nI (i + 1))), (8, .int (nI (bs (vb (gt V) n w k) (8 * y) (i + 1)))), (10, .int (nI (k + (8 * y + i) / w))), (0, .ref x), (1, .ref ro), (2, .int (nI n)), (3, .int (nI w)), (4, .int (nI k)), (6, .int (nI g)), (7, .int (nI (8 * y)))]) C.x C.b d_M_writeRuns_192 hl (k := 9) rfl (nI_inc _ 1) (by decide) rfl (fun ls hl => ?_)
        refine lv_goto (tgt := 145) C.x C.b d_M_writeRuns_195 (by decide) ?_
        exact ih (i + 1) (by omega) ls (lv_sub hl [3, 4, 5, 6, 7, 8, 9, 1, 0] rfl)
set_option maxHeartbeats 4000000 in
set_option maxRecDepth 100000 in
/-- writeRuns: the bytes of the groups -/
theorem lp_M_wpack {p : Program} {l : Launch} {e : Env} {R : Room} {s : State} {m : MethodId} {args : Array Value} {below : List Frame} {meth : Method} {c : Code} {D : va_G} {cI cB : ClassId} {A : Nat → Prop} {Q : State → Prop} {cells slots : Nat} (C : Cx p s m args meth c D cI cB b_M_writeRuns 11 R_M none "writeRuns") (hA : ∀ q : Nat, s.heap.size ≤ q → A q) (x ro sp vn w tn im a0 f0 tp ip op : Nat) (k n g : Nat) (V : List Nat) (v : Nat → Nat) (hV : Hd v V) (hV32 : ∀ x ∈ V, x < 2 ^ 32) (hVn : V.length = n) (hn : n ≤ 4096) (hw : w ≤ 32) (hk : k ≤ 8192) (hg : w * g ≤ 17437) (L : List Nat) (hLb : L.length + w * g < 24000) (hwgb : 8 * w * g < 2 ^ 31) (hR1 : 2 ≤ R.frames) (hR2 : 45 ≤ R.locals) (hRc : cells ≤ R.cells) (hRs : slots ≤ R.slots) (kk : ∀ (t : Nat → Nat), Hd t (L ++ pkL (gt V) n w k (w * g)) → ∀ (H : Heap) (locs : List Loc) (ls : Array Slot), va_P D classes [oM x 0 ro sp vn w tn im ((L ++ pkL (gt V) n w k (w * g)).length) a0 f0 tp ip op, aN cI ro 4096 v, aN cI op 24000 t] H → va_D A [oM x 0 ro sp vn w tn im ((L ++ pkL (gt V) n w k (w * g)).length) a0 f0 tp ip op, aN cI ro 4096 v, aN cI op 24000 t] → va_S A s.heap H locs → lv_has ls 11 [(0, .ref x), (1, .ref ro), (2, .int (nI n)), (3, .int (nI w)), (4, .int (nI k)), (6, .int (nI g)), (7, .int (nI (8 * (w * g))))] → W p l e R s m args below meth c H locs cells slots Q (F0 m 210 ls [])) : ∀ (d y : Nat) (M : List Nat) (t : Nat → Nat), y + d = w * g → M = L ++ pkL (gt V) n w k y → Hd t M → ∀ (H : Heap) (locs : List Loc) (ls : Array Slot), va_P D classes [oM x 0 ro sp vn w tn im M.length a0 f0 tp ip op, aN cI ro 4096 v, aN cI op 24000 t] H → va_D A [oM x 0 ro sp vn w tn im M.length a0 f0 tp ip op, aN cI ro 4096 v, aN cI op 24000 t] → va_S A s.heap H locs → lv_has ls 11 [(0, .ref x), (1, .ref ro), (2, .int (nI n)), (3, .int (nI w)), (4, .int (nI k)), (6, .int (nI g)), (7, .int (nI (8 * y)))] → W p l e R s m args below meth c H locs cells slots (Q) (F0 m 127 ls []) := by
  have hwg : 8 * w * g = 8 * (w * g) := Nat.mul_assoc 8 w g
  intro d
  induction d with
  | zero =>
    intro y M t hy hM hL H locs ls hP hD hS hl
    refine lv_iload C.x C.b d_M_writeRuns_127 (lv_at hl 6 rfl) ?_
    refine lv_bipush (v := nI 8) C.x C.b d_M_writeRuns_129 (by decide) ?_
    refine lv_iload_n C.x C.b d_M_writeRuns_131 rfl (lv_at hl 3 rfl) ?_
    refine lv_imul C.x C.b d_M_writeRuns_132 ?_
    refine ra_i (pk_mul _ _) ?_
    refine lv_iload C.x C.b d_M_writeRuns_133 (lv_at hl 5 rfl) ?_
    refine lv_imul C.x C.b d_M_writeRuns_135 ?_
    refine ra_i (pk_mul _ _) ?_
    refine jc_ge (tgt := 210) C d_M_writeRuns_136 (by decide) (by omega) (by omega) (fun h => ?_) (fun h => ?_)
    · obtain rfl : y = w * g := by omega
      subst hM
      exact kk t hL H locs ls hP hD hS hl
    · exfalso; omega
  | succ d ih =>
    intro y M t hy hM hL H locs ls hP hD hS hl
    have hml : M.length = L.length + y := by rw [hM, List.length_append, pkL_len]
    have hw0 : 0 < w := by
      rcases Nat.eq_zero_or_pos w with q | q
      · rw [q, Nat.zero_mul] at hy; omega
      · exact q
    refine lv_iload C.x C.b d_M_writeRuns_127 (lv_at hl 6 rfl) ?_
    refine lv_bipush (v := nI 8) C.x C.b d_M_writeRuns_129 (by decide) ?_
    refine lv_iload_n C.x C.b d_M_writeRuns_131 rfl (lv_at hl 3 rfl) ?_
    refine lv_imul C.x C.b d_M_writeRuns_132 ?_
    refine ra_i (pk_mul _ _) ?_
    refine lv_iload C.x C.b d_M_writeRuns_133 (lv_at hl 5 rfl) ?_
    refine lv_imul C.x C.b d_M_writeRuns_135 ?_
    refine ra_i (pk_mul _ _) ?_
    refine jc_ge (tgt := 210) C d_M_writeRuns_136 (by decide) (by omega) (by omega) (fun h => ?_) (fun h => ?_)
    · exfalso; omega
    · refine lv_iconst (v := nI 0) C.x C.b d_M_writeRuns_139 (by decide) ?_
      refine lv_istore (lv' := [(8, .int (nI 0)), (0, .ref x), (1, .ref ro), (2, .int (nI n)), (3, .int (nI w)), (4, .int (nI k)), (6, .int (nI g)), (7, .int (nI (8 * y)))]) C.x C.b d_M_writeRuns_140 hl (by decide) rfl (fun ls hl => ?_)
      refine lv_iconst (v := nI 0) C.x C.b d_M_writeRuns_142 (by decide) ?_
      refine lv_istore (lv' := [(9, .int (nI 0)), (8, .int (nI 0)), (0, .ref x), (1, .ref ro), (2, .int (nI n)), (3, .int (nI w)), (4, .int (nI k)), (6, .int (nI g)), (7, .int (nI (8 * y)))]) C.x C.b d_M_writeRuns_143 hl (by decide) rfl (fun ls hl => ?_)
      refine lp_M_wbit C x ro sp vn w tn im a0 f0 tp ip op k n g y V v hV hV32 hVn hn hw hw0 (by omega) hk M t hP (fun ls hl => ?_) 8 0 rfl ls (lv_sub hl [2, 3, 4, 5, 6, 7, 8, 1, 0] rfl)
      refine lv_aload_n C.x C.b d_M_writeRuns_198 rfl (lv_at hl 0 rfl) ?_
      refine lv_iload C.x C.b d_M_writeRuns_199 (lv_at hl 7 rfl) ?_
      refine cvV (wr := [aN cI ro 4096 v]) C hA hP hD hS hl.1 (c_M_put l D cI cB x ro sp vn w tn im a0 f0 tp ip op (bs (vb (gt V) n w k) (8 * y) 8) M t hL (by omega)) ok_M_40 [] [0, 2] [1] 3 0 rfl rfl rfl rfl (by decide) rfl (by decide) (by decide) rfl rfl (Nat.le_of_ble_eq_true rfl) (⟨by (try dsimp only [rmO]); omega, by (try dsimp only [rmO]); omega⟩) (⟨by (try dsimp only [rmO]); omega, by (try dsimp only [rmO]); omega⟩) d_M_writeRuns_201 ?_
      intro w1 H locs hw hP hD hS
      obtain ⟨t1, rfl, hL1⟩ := hw
      have hP : va_P D classes [aN cI ro 4096 v, oM x 0 ro sp vn w tn im (M.length + 1) a0 f0 tp ip op, aN cI op 24000 t1] H := hP
      have hD : va_D A [aN cI ro 4096 v, oM x 0 ro sp vn w tn im (M.length + 1) a0 f0 tp ip op, aN cI op 24000 t1] := hD
      rw [Nat.mod_eq_of_lt (show bs (vb (gt V) n w k) (8 * y) 8 < 256 from bs_lt _ _ 8)] at hL1
      refine W.widen (k := cells) (n := slots) (by omega) (by omega) ?_
      obtain ⟨M2, hm1⟩ : ∃ z, z = M ++ [bs (vb (gt V) n w k) (8 * y) 8] := ⟨_, rfl⟩
      rw [← hm1] at hL1
      have hn1 : M.length + 1 = M2.length := by rw [hm1]; simp
      rw [hn1] at hP hD
      have hP : va_P D classes [oM x 0 ro sp vn w tn im M2.length a0 f0 tp ip op, aN cI ro 4096 v, aN cI op 24000 t1] H := hP.sub [1, 0, 2] rfl
      have hD : va_D A [oM x 0 ro sp vn w tn im M2.length a0 f0 tp ip op, aN cI ro 4096 v, aN cI op 24000 t1] := hD.sub [1, 0, 2] (by decide) rfl
      refine lv_iinc (v := (nI (8 * (y + 1)))) (lv' := [(7, .int (nI (8 * (y + 1)))), (0, .ref x), (1, .ref ro), (2, .int (nI n)), (3, .int (nI w)), (4, .int (nI k)), (6, .int (nI g)), (8, .int (nI (bs (vb (gt V) n w k) (8 * y) 8))), (9, .int (nI 8))]) C.x C.b d_M_writeRuns_204 hl (k := 6) rfl (by rw [Nat.mul_add]; exact nI_inc _ 8) (by decide) rfl (fun ls hl => ?_)
      refine lv_goto (tgt := 127) C.x C.b d_M_writeRuns_207 (by decide) ?_
      exact ih (y + 1) M2 t1 (by omega) (by rw [hm1, hM, List.append_assoc]; congr 1; exact (range_push _ y).symm) hL1 H locs ls hP hD hS (lv_sub hl [1, 2, 3, 4, 5, 6, 0] rfl)
set_option maxHeartbeats 4000000 in
set_option maxRecDepth 100000 in
/-- writeRuns: the loop -/
theorem lp_M_writeRuns {p : Program} {l : Launch} {e : Env} {R : Room} {s : State} {m : MethodId} {args : Array Value} {below : List Frame} {meth : Method} {c : Code} {D : va_G} {cI cB : ClassId} {A : Nat → Prop} {Q : State → Prop} {cells slots : Nat} (C : Cx p s m args meth c D cI cB b_M_writeRuns 11 R_M none "writeRuns") (hA : ∀ q : Nat, s.heap.size ≤ q → A q) (x ro sp vn w tn im a0 f0 tp ip op : Nat) (n : Nat) (V : List Nat) (v : Nat → Nat) (hV : Hd v V) (hV32 : ∀ x ∈ V, x < 2 ^ 32) (hVn : V.length = n) (hn : n ≤ 4096) (hw : w ≤ 32) (T : List Nat) (hT : T.length ≤ 17437) (hR1 : 2 ≤ R.frames) (hR2 : 45 ≤ R.locals) (hRc : cells ≤ R.cells) (hRs : slots ≤ R.slots) (kk : ∀ (t : Nat → Nat) (H : Heap) (locs : List Loc) (ls : Array Slot), Hd t T → va_P D classes [oM x 0 ro sp vn w tn im T.length a0 f0 tp ip op, aN cI ro 4096 v, aN cI op 24000 t] H → va_D A [oM x 0 ro sp vn w tn im T.length a0 f0 tp ip op, aN cI ro 4096 v, aN cI op 24000 t] → va_S A s.heap H locs → W p l e R s m args below meth c H locs cells slots Q (F0 m 223 ls [])) : ∀ (q k : Nat) (M : List Nat) (t : Nat → Nat), n ≤ k + q → k ≤ n + 7 → M ++ encF (gt V) n w q k = T → Hd t M → ∀ (H : Heap) (locs : List Loc) (ls : Array Slot), va_P D classes [oM x 0 ro sp vn w tn im M.length a0 f0 tp ip op, aN cI ro 4096 v, aN cI op 24000 t] H → va_D A [oM x 0 ro sp vn w tn im M.length a0 f0 tp ip op, aN cI ro 4096 v, aN cI op 24000 t] → va_S A s.heap H locs → lv_has ls 11 [(0, .ref x), (1, .ref ro), (2, .int (nI n)), (3, .int (nI w)), (4, .int (nI k))] → W p l e R s m args below meth c H locs cells slots (Q) (F0 m 3 ls []) := by
  intro q
  induction q with
  | zero =>
    intro k M t hk hk2 hMT hL H locs ls hP hD hS hl
    refine lv_iload C.x C.b d_M_writeRuns_3 (lv_at hl 4 rfl) ?_
    refine lv_iload_n C.x C.b d_M_writeRuns_5 rfl (lv_at hl 2 rfl) ?_
    refine jc_ge (tgt := 223) C d_M_writeRuns_6 (by decide) (by omega) (by omega) (fun h => ?_) (fun h => ?_)
    · obtain rfl : M = T := by rw [← hMT, encF_end h]; simp
      exact kk t H locs ls hL hP hD hS
    · exfalso; omega
  | succ q ih =>
    intro k M t hk hk2 hMT hL H locs ls hP hD hS hl
    have hlen : M.length + (encF (gt V) n w (q + 1) k).length = T.length := by rw [← hMT, List.length_append]
    refine lv_iload C.x C.b d_M_writeRuns_3 (lv_at hl 4 rfl) ?_
    refine lv_iload_n C.x C.b d_M_writeRuns_5 rfl (lv_at hl 2 rfl) ?_
    refine jc_ge (tgt := 223) C d_M_writeRuns_6 (by decide) (by omega) (by omega) (fun h => ?_) (fun h => ?_)
    · obtain rfl : M = T := by rw [← hMT, encF_end h]; simp
      exact kk t H locs ls hL hP hD hS
    · refine lv_aload_n C.x C.b d_M_writeRuns_9 rfl (lv_at hl 1 rfl) ?_
      refine lv_iload C.x C.b d_M_writeRuns_10 (lv_at hl 4 rfl) ?_
      refine lv_iload_n C.x C.b d_M_writeRuns_12 rfl (lv_at hl 2 rfl) ?_
      refine ciS (wr := [oM x 0 ro sp vn w tn im M.length a0 f0 tp ip op, aN cI op 24000 t]) C hA hP hD hS hl.1 (c_M_alike l D cI cB ro k n V v hV hV32 hVn hn (by omega)) ok_M_56 [] [1] [0, 2] rfl (by decide) rfl (by decide) (by decide) rfl rfl (Nat.le_of_ble_eq_true rfl) (⟨by (try dsimp only [rmO]); omega, by (try dsimp only [rmO]); omega⟩) (⟨by (try dsimp only [rmO]); omega, by (try dsimp only [rmO]); omega⟩) d_M_writeRuns_13 ?_
      intro ra w1 H locs hw hP hD hS
      obtain ⟨rfl, rfl⟩ := hw
      have hP : va_P D classes [oM x 0 ro sp vn w tn im M.length a0 f0 tp ip op, aN cI op 24000 t, aN cI ro 4096 v] H := hP
      have hD : va_D A [oM x 0 ro sp vn w tn im M.length a0 f0 tp ip op, aN cI op 24000 t, aN cI ro 4096 v] := hD
      have hP : va_P D classes [oM x 0 ro sp vn w tn im M.length a0 f0 tp ip op, aN cI ro 4096 v, aN cI op 24000 t] H := hP.sub [0, 2, 1] rfl
      have hD : va_D A [oM x 0 ro sp vn w tn im M.length a0 f0 tp ip op, aN cI ro 4096 v, aN cI op 24000 t] := hD.sub [0, 2, 1] (by decide) rfl
      refine W.widen (k := cells) (n := slots) (by omega) (by omega) ?_
      obtain ⟨rk, hrk⟩ : ∃ z, z = run (gt V) (n - k) k := ⟨_, rfl⟩
      have hrl := run_le (gt V) (n - k) k
      rw [← hrk] at hrl
      refine ra_i (y := nI rk) (by rw [hrk]) ?_
      refine lv_istore (lv' := [(5, .int (nI rk)), (0, .ref x), (1, .ref ro), (2, .int (nI n)), (3, .int (nI w)), (4, .int (nI k))]) C.x C.b d_M_writeRuns_16 hl (by decide) rfl (fun ls hl => ?_)
      refine lv_iload C.x C.b d_M_writeRuns_18 (lv_at hl 0 rfl) ?_
      refine lv_bipush (v := nI 8) C.x C.b d_M_writeRuns_20 (by decide) ?_
      refine jc_lt (tgt := 72) C d_M_writeRuns_22 (by decide) (by omega) (by omega) (fun h8 => ?_) (fun h8 => ?_)
      · refine lv_iconst (v := nI 1) C.x C.b d_M_writeRuns_72 (by decide) ?_
        refine lv_istore (lv' := [(6, .int (nI 1)), (5, .int (nI rk)), (0, .ref x), (1, .ref ro), (2, .int (nI n)), (3, .int (nI w)), (4, .int (nI k))]) C.x C.b d_M_writeRuns_73 hl (by decide) rfl (fun ls hl => ?_)
        refine lp_M_wgrp C hA x ro sp vn w tn im a0 f0 tp ip op k n V v hV hV32 hVn hn h M t hR1 hR2 hRc hRs n 1 (by omega) (by omega) (fun g2 hg2 H locs ls hP hD hS hl => ?_) H locs ls hP hD hS (lv_sub hl [2, 3, 4, 5, 6, 0] rfl)
        obtain ⟨g, hg⟩ : ∃ z, z = eg (gt V) n k := ⟨_, rfl⟩
        have hgs := eg_spec (gt V) n k
        rw [← hg] at hgs
        have hg3 : k + 8 * g2 = gE (gt V) n n (k + 8) := hg2
        obtain rfl : g2 = g := by omega
        have eE := encF_grp (w := w) (f := q) h hg (by rw [← hrk]; exact h8)
        rw [eE] at hMT hlen
        rw [List.length_append, List.length_append, pkL_len] at hlen
        refine lv_aload_n C.x C.b d_M_writeRuns_111 rfl (lv_at hl 0 rfl) ?_
        refine lv_ldc2 C.x C.b C.ow (C.ts _ ct_M_60) d_M_writeRuns_112 ?_
        refine ra_l (y := lN 2) (by decide) ?_
        refine lv_iload C.x C.b d_M_writeRuns_115 (lv_at hl 5 rfl) ?_
        refine lv_i2l C.x C.b d_M_writeRuns_117 (nI_l (by omega)) ?_
        refine lv_lmul C.x C.b d_M_writeRuns_118 ?_
        refine ra_l (lN_mul _ _) ?_
        refine lv_lconst (v := lN 1) C.x C.b d_M_writeRuns_119 (by decide) ?_
        refine lv_ladd C.x C.b d_M_writeRuns_120 ?_
        refine ra_l (lN_add _ _) ?_
        have hvl := vi_len (2 * g2 + 1)
        refine cvV (wr := [aN cI ro 4096 v]) C hA hP hD hS hl.1 (c_M_putVarint l D cI cB x ro sp vn w tn im a0 f0 tp ip op (2 * g2 + 1) M t hL (by omega) (by omega)) ok_M_62 [] [0, 2] [1] 3 0 rfl rfl rfl rfl (by decide) rfl (by decide) (by decide) rfl rfl (Nat.le_of_ble_eq_true rfl) (⟨by (try dsimp only [rmO]); omega, by (try dsimp only [rmO]); omega⟩) (⟨by (try dsimp only [rmO]); omega, by (try dsimp only [rmO]); omega⟩) d_M_writeRuns_121 ?_
        intro w1 H locs hw hP hD hS
        obtain ⟨t1, rfl, hL1⟩ := hw
        have hP : va_P D classes [aN cI ro 4096 v, oM x 0 ro sp vn w tn im ((M ++ vi (2 * g2 + 1)).length) a0 f0 tp ip op, aN cI op 24000 t1] H := hP
        have hD : va_D A [aN cI ro 4096 v, oM x 0 ro sp vn w tn im ((M ++ vi (2 * g2 + 1)).length) a0 f0 tp ip op, aN cI op 24000 t1] := hD
        obtain ⟨M1, hm1⟩ : ∃ z, z = M ++ vi (2 * g2 + 1) := ⟨_, rfl⟩
        rw [← hm1] at hP hD hL1
        have hn1 : M1.length = M.length + (vi (2 * g2 + 1)).length := by rw [hm1, List.length_append]
        have hP : va_P D classes [oM x 0 ro sp vn w tn im M1.length a0 f0 tp ip op, aN cI ro 4096 v, aN cI op 24000 t1] H := hP.sub [1, 0, 2] rfl
        have hD : va_D A [oM x 0 ro sp vn w tn im M1.length a0 f0 tp ip op, aN cI ro 4096 v, aN cI op 24000 t1] := hD.sub [1, 0, 2] (by decide) rfl
        refine W.widen (k := cells) (n := slots) (by omega) (by omega) ?_
        refine lv_iconst (v := nI 0) C.x C.b d_M_writeRuns_124 (by decide) ?_
        refine lv_istore (lv' := [(7, .int (nI 0)), (0, .ref x), (1, .ref ro), (2, .int (nI n)), (3, .int (nI w)), (4, .int (nI k)), (6, .int (nI g2))]) C.x C.b d_M_writeRuns_125 hl (by decide) rfl (fun ls hl => ?_)
        have hwg0 : 8 * w * g2 = 8 * (w * g2) := Nat.mul_assoc 8 w g2
        refine lp_M_wpack C hA x ro sp vn w tn im a0 f0 tp ip op k n g2 V v hV hV32 hVn hn hw (by omega) (by omega) M1 (by omega) (by omega) hR1 hR2 hRc hRs (fun t2 hL2 H locs ls hP hD hS hl => ?_) (w * g2) 0 M1 t1 (by omega) (by simp [pkL]) hL1 H locs ls hP hD hS (lv_sub hl [1, 2, 3, 4, 5, 6, 0] rfl)
        obtain ⟨M2, hm2⟩ : ∃ z, z = M1 ++ pkL (gt V) n w k (w * g2) := ⟨_, rfl⟩
        rw [← hm2] at hP hD hL2
        refine lv_iload C.x C.b d_M_writeRuns_210 (lv_at hl 4 rfl) ?_
        refine lv_bipush (v := nI 8) C.x C.b d_M_writeRuns_212 (by decide) ?_
        refine lv_iload C.x C.b d_M_writeRuns_214 (lv_at hl 5 rfl) ?_
        refine lv_imul C.x C.b d_M_writeRuns_216 ?_
        refine ra_i (pk_mul _ _) ?_
        refine lv_iadd C.x C.b d_M_writeRuns_217 ?_
        refine ra_i (nI_add _ _) ?_
        refine lv_istore (lv' := [(4, .int (nI (k + 8 * g2))), (0, .ref x), (1, .ref ro), (2, .int (nI n)), (3, .int (nI w)), (6, .int (nI g2)), (7, .int (nI (8 * (w * g2))))]) C.x C.b d_M_writeRuns_218 hl (by decide) rfl (fun ls hl => ?_)
        refine lv_goto (tgt := 3) C.x C.b d_M_writeRuns_220 (by decide) ?_
        exact ih (k + 8 * g2) M2 t2 (by omega) (by omega) (by rw [hm2, hm1, ← hMT]; simp only [List.append_assoc]) hL2 H locs ls hP hD hS (lv_sub hl [1, 2, 3, 4, 0] rfl)
      · have eE := encF_run (w := w) (f := q) h hrk h8
        rw [eE] at hMT hlen
        rw [List.length_append, List.length_append, fx_len] at hlen
        refine lv_aload_n C.x C.b d_M_writeRuns_25 rfl (lv_at hl 1 rfl) ?_
        refine lv_ldc2 C.x C.b C.ow (C.ts _ ct_M_60) d_M_writeRuns_26 ?_
        refine ra_l (y := lN 2) (by decide) ?_
        refine lv_iload C.x C.b d_M_writeRuns_29 (lv_at hl 0 rfl) ?_
        refine lv_i2l C.x C.b d_M_writeRuns_31 (nI_l (by omega)) ?_
        refine lv_lmul C.x C.b d_M_writeRuns_32 ?_
        refine ra_l (lN_mul _ _) ?_
        have hvl := vi_len (2 * rk)
        refine cvV (wr := [aN cI ro 4096 v]) C hA hP hD hS hl.1 (c_M_putVarint l D cI cB x ro sp vn w tn im a0 f0 tp ip op (2 * rk) M t hL (by omega) (by omega)) ok_M_62 [] [0, 2] [1] 3 0 rfl rfl rfl rfl (by decide) rfl (by decide) (by decide) rfl rfl (Nat.le_of_ble_eq_true rfl) (⟨by (try dsimp only [rmO]); omega, by (try dsimp only [rmO]); omega⟩) (⟨by (try dsimp only [rmO]); omega, by (try dsimp only [rmO]); omega⟩) d_M_writeRuns_33 ?_
        intro w1 H locs hw hP hD hS
        obtain ⟨t1, rfl, hL1⟩ := hw
        have hP : va_P D classes [aN cI ro 4096 v, oM x 0 ro sp vn w tn im ((M ++ vi (2 * rk)).length) a0 f0 tp ip op, aN cI op 24000 t1] H := hP
        have hD : va_D A [aN cI ro 4096 v, oM x 0 ro sp vn w tn im ((M ++ vi (2 * rk)).length) a0 f0 tp ip op, aN cI op 24000 t1] := hD
        obtain ⟨M1, hm1⟩ : ∃ z, z = M ++ vi (2 * rk) := ⟨_, rfl⟩
        rw [← hm1] at hP hD hL1
        have hn1 : M1.length = M.length + (vi (2 * rk)).length := by rw [hm1, List.length_append]
        have hP : va_P D classes [oM x 0 ro sp vn w tn im M1.length a0 f0 tp ip op, aN cI ro 4096 v, aN cI op 24000 t1] H := hP.sub [1, 0, 2] rfl
        have hD : va_D A [oM x 0 ro sp vn w tn im M1.length a0 f0 tp ip op, aN cI ro 4096 v, aN cI op 24000 t1] := hD.sub [1, 0, 2] (by decide) rfl
        refine W.widen (k := cells) (n := slots) (by omega) (by omega) ?_
        refine lv_iconst (v := nI 0) C.x C.b d_M_writeRuns_36 (by decide) ?_
        refine lv_istore (lv' := [(6, .int (nI 0)), (5, .int (nI rk)), (0, .ref x), (1, .ref ro), (2, .int (nI n)), (3, .int (nI w)), (4, .int (nI k))]) C.x C.b d_M_writeRuns_37 hl (by decide) rfl (fun ls hl => ?_)
        refine lp_M_wfix C hA x ro sp vn w tn im a0 f0 tp ip op k n rk V v hV hV32 hVn hn hw h M1 (by omega) hR1 hR2 hRc hRs (fun t2 hL2 H locs ls hP hD hS hl => ?_) ((w + 7) / 8) 0 M1 t1 (by omega) (by simp [fx]) hL1 H locs ls hP hD hS (lv_sub hl [2, 3, 4, 5, 6, 1, 0] rfl)
        obtain ⟨M2, hm2⟩ : ∃ z, z = M1 ++ fx (gt V k) ((w + 7) / 8) := ⟨_, rfl⟩
        rw [← hm2] at hP hD hL2
        refine lv_iload C.x C.b d_M_writeRuns_62 (lv_at hl 4 rfl) ?_
        refine lv_iload C.x C.b d_M_writeRuns_64 (lv_at hl 5 rfl) ?_
        refine lv_iadd C.x C.b d_M_writeRuns_66 ?_
        refine ra_i (nI_add _ _) ?_
        refine lv_istore (lv' := [(4, .int (nI (k + rk))), (0, .ref x), (1, .ref ro), (2, .int (nI n)), (3, .int (nI w)), (5, .int (nI rk)), (6, .int (nI (8 * ((w + 7) / 8))))]) C.x C.b d_M_writeRuns_67 hl (by decide) rfl (fun ls hl => ?_)
        refine lv_goto (tgt := 3) C.x C.b d_M_writeRuns_69 (by decide) ?_
        exact ih (k + rk) M2 t2 (by omega) (by omega) (by rw [hm2, hm1, ← hMT]; simp only [List.append_assoc]) hL2 H locs ls hP hD hS (lv_sub hl [1, 2, 3, 4, 0] rfl)
set_option maxHeartbeats 4000000 in
set_option maxRecDepth 100000 in
/-- writeRuns -/
theorem c_M_writeRuns (l : Launch) (D : va_G) (cI cB : ClassId) (x ro sp vn w tn im a0 f0 tp ip op : Nat) (n : Nat) (V : List Nat) (v : Nat → Nat) (hV : Hd v V) (hV32 : ∀ x ∈ V, x < 2 ^ 32) (hVn : V.length = n) (hn : n ≤ 4096) (hw : w ≤ 32) (t : Nat → Nat) (hL : Hd t []) : Kv l D cI cB y_M_writeRuns b_M_writeRuns 11 2 45 0 0 [.ref x, .ref ro, .int (nI n), .int (nI w)] [oM x 0 ro sp vn w tn im 0 a0 f0 tp ip op, aN cI ro 4096 v, aN cI op 24000 t] (fun w1 => ∃ t2 : Nat → Nat, w1 = [oM x 0 ro sp vn w tn im ((encF (gt V) n w n 0).length) a0 f0 tp ip op, aN cI ro 4096 v, aN cI op 24000 t2] ∧ Hd t2 (encF (gt V) n w n 0)) := by
  refine ent (fun A => va_Qv _ (BW D A) A) (by decide) (Nat.le_of_ble_eq_true rfl) ?_
  intro p e s m below meth c A ls C hA hP hD hS hl
  have hl : lv_has ls 11 [(0, .ref x), (1, .ref ro), (2, .int (nI n)), (3, .int (nI w))] := hl
  obtain ⟨T, hTe⟩ : ∃ z, z = encF (gt V) n w n 0 := ⟨_, rfl⟩
  have hT : T.length ≤ 17437 := by
    have q := encF_len (gt V) (n := n) hw n 0 (by omega)
    rw [← hTe] at q
    omega
  rw [← hTe]
  refine lv_iconst (v := nI 0) C.x C.b d_M_writeRuns_0 (by decide) ?_
  refine lv_istore (lv' := [(4, .int (nI 0)), (0, .ref x), (1, .ref ro), (2, .int (nI n)), (3, .int (nI w))]) C.x C.b d_M_writeRuns_1 hl (by decide) rfl (fun ls hl => ?_)
  refine lp_M_writeRuns C hA x ro sp vn w tn im a0 f0 tp ip op n V v hV hV32 hVn hn hw T hT (Nat.le_refl 2) (Nat.le_refl 45) (Nat.le_refl 0) (Nat.le_refl 0) (fun t H locs ls hL hP hD hS => ?_) n 0 [] t (by omega) (by omega) (by rw [hTe]; rfl) hL _ _ ls hP hD hS (lv_sub hl [1, 2, 3, 4, 0] rfl)
  exact retv C hP hD hS d_M_writeRuns_223 (by omega) (by omega) (⟨t, rfl, hL⟩)
set_option maxHeartbeats 4000000 in
set_option maxRecDepth 100000 in
/-- encode: do all numbers fit? -/
theorem lp_M_encode {p : Program} {l : Launch} {e : Env} {R : Room} {s : State} {m : MethodId} {args : Array Value} {below : List Frame} {meth : Method} {c : Code} {D : va_G} {cI cB : ClassId} {A : Nat → Prop} (C : Cx p s m args meth c D cI cB b_M_encode 2 R_M (some .int) "encode") (hA : ∀ q : Nat, s.heap.size ≤ q → A q) (x ro sp tp ip op a0 f0 : Nat) (tt ti to_ v vs : Nat → Nat) (T I V : List Nat) (w : Nat) (hV : Hd v V) (hVn : V.length ≤ 4096) (hV32 : ∀ x ∈ V, x < 2 ^ 32) (hw : w ≤ 32) (post : Int32 → va_W → Prop) (hp : ftF (gt V) w V.length = false → post (-1) [oM x 0 ro sp V.length w T.length I.length 0 a0 f0 tp ip op, aN cI ro 4096 v, aN cI sp 4104 vs, aN cI tp 8192 tt, aN cI ip 8192 ti, aN cI op 24000 to_]) (kk : ftF (gt V) w V.length = true → ∀ (H : Heap) (locs : List Loc) (ls : Array Slot), va_P D classes [oM x 0 ro sp V.length w T.length I.length 0 a0 f0 tp ip op, aN cI ro 4096 v, aN cI sp 4104 vs, aN cI tp 8192 tt, aN cI ip 8192 ti, aN cI op 24000 to_] H → va_D A [oM x 0 ro sp V.length w T.length I.length 0 a0 f0 tp ip op, aN cI ro 4096 v, aN cI sp 4104 vs, aN cI tp 8192 tt, aN cI ip 8192 ti, aN cI op 24000 to_] → va_S A s.heap H locs → lv_has ls 2 [(0, .ref x), (1, .int (nI V.length))] → W p l e R s m args below meth c H locs 0 0 (MQ below (va_Qi post (BW D A) A) args s 0 0 A) (F0 m 51 ls [])) : ∀ (d i : Nat), i + d = V.length → ftF (gt V) w i = true → ∀ (H : Heap) (locs : List Loc) (ls : Array Slot), va_P D classes [oM x 0 ro sp V.length w T.length I.length 0 a0 f0 tp ip op, aN cI ro 4096 v, aN cI sp 4104 vs, aN cI tp 8192 tt, aN cI ip 8192 ti, aN cI op 24000 to_] H → va_D A [oM x 0 ro sp V.length w T.length I.length 0 a0 f0 tp ip op, aN cI ro 4096 v, aN cI sp 4104 vs, aN cI tp 8192 tt, aN cI ip 8192 ti, aN cI op 24000 to_] → va_S A s.heap H locs → lv_has ls 2 [(0, .ref x), (1, .int (nI i))] → W p l e R s m args below meth c H locs 0 0 (MQ below (va_Qi post (BW D A) A) args s 0 0 A) (F0 m 12 ls []) := by
  intro d
  induction d with
  | zero =>
    intro i hi hft H locs ls hP hD hS hl
    refine lv_iload_n C.x C.b d_M_encode_12 rfl (lv_at hl 1 rfl) ?_
    refine lv_aload_n C.x C.b d_M_encode_13 rfl (lv_at hl 0 rfl) ?_
    refine gf C hP 0 3 3 rfl rfl (by decide) fl_M_53 rfl d_M_encode_14 ?_
    refine jc_ge (tgt := 51) C d_M_encode_17 (by decide) (by omega) (by omega) (fun h => ?_) (fun h => ?_)
    · obtain rfl : i = V.length := by omega
      exact kk hft H locs ls hP hD hS hl
    · exfalso; omega
  | succ d ih =>
    intro i hi hft H locs ls hP hD hS hl
    have hgx := gt_lt (by decide) hV32 i
    refine lv_iload_n C.x C.b d_M_encode_12 rfl (lv_at hl 1 rfl) ?_
    refine lv_aload_n C.x C.b d_M_encode_13 rfl (lv_at hl 0 rfl) ?_
    refine gf C hP 0 3 3 rfl rfl (by decide) fl_M_53 rfl d_M_encode_14 ?_
    refine jc_ge (tgt := 51) C d_M_encode_17 (by decide) (by omega) (by omega) (fun h => ?_) (fun h => ?_)
    · exfalso; omega
    · refine lv_aload_n C.x C.b d_M_encode_20 rfl (lv_at hl 0 rfl) ?_
      refine gf C hP 0 3 4 rfl rfl (by decide) fl_M_50 rfl d_M_encode_21 ?_
      refine lv_bipush (v := nI 32) C.x C.b d_M_encode_24 (by decide) ?_
      refine jc_ge (tgt := 45) C d_M_encode_26 (by decide) (by omega) (by omega) (fun h2 => ?_) (fun h2 => ?_)
      · refine lv_iinc (v := (nI (i + 1))) (lv' := [(1, .int (nI (i + 1))), (0, .ref x)]) C.x C.b d_M_encode_45 hl (k := 1) rfl (nI_inc _ 1) (by decide) rfl (fun ls hl => ?_)
        refine lv_goto (tgt := 12) C.x C.b d_M_encode_48 (by decide) ?_
        exact ih (i + 1) (by omega) (by simp only [ftF, hft, Bool.true_and, decide_eq_true_eq]; rw [show w = 32 by omega]; exact Nat.div_eq_of_lt hgx) H locs ls hP hD hS (lv_sub hl [1, 0] rfl)
      · refine lv_aload_n C.x C.b d_M_encode_29 rfl (lv_at hl 0 rfl) ?_
        refine gf C hP 0 3 1 rfl rfl (by decide) fl_M_7 rfl d_M_encode_30 ?_
        refine lv_iload_n C.x C.b d_M_encode_33 rfl (lv_at hl 1 rfl) ?_
        refine ild C hP 1 rfl (by omega) (by omega) d_M_encode_34 ?_
        refine ra_i (y := nI (gt V i)) (by rw [hV i (by omega)]) ?_
        refine lv_aload_n C.x C.b d_M_encode_35 rfl (lv_at hl 0 rfl) ?_
        refine gf C hP 0 3 4 rfl rfl (by decide) fl_M_50 rfl d_M_encode_36 ?_
        refine lv_iushr C.x C.b d_M_encode_39 (ni_ushr (hgx) (by omega)) ?_
        refine jzw_eq (tgt := 45) C d_M_encode_40 (by decide) (Nat.lt_of_le_of_lt (Nat.div_le_self _ _) hgx) (fun h3 => ?_) (fun h3 => ?_)
        · refine lv_iinc (v := (nI (i + 1))) (lv' := [(1, .int (nI (i + 1))), (0, .ref x)]) C.x C.b d_M_encode_45 hl (k := 1) rfl (nI_inc _ 1) (by decide) rfl (fun ls hl => ?_)
          refine lv_goto (tgt := 12) C.x C.b d_M_encode_48 (by decide) ?_
          exact ih (i + 1) (by omega) (by simp only [ftF, hft, Bool.true_and, decide_eq_true_eq]; exact h3) H locs ls hP hD hS (lv_sub hl [1, 0] rfl)
        · refine lv_iconst (v := (-1)) C.x C.b d_M_encode_43 (by decide) ?_
          have hff : ftF (gt V) w (i + 1) = false := by simp only [ftF, hft, Bool.true_and, decide_eq_false_iff_not]; exact h3
          have hfn := ftF_mono hff (n := V.length) (by omega)
          exact reti C hP hD hS d_M_encode_44 (rfl) (by omega) (by omega) (hp hfn)
set_option maxHeartbeats 4000000 in
set_option maxRecDepth 100000 in
/-- encode -/
theorem c_M_encode (l : Launch) (D : va_G) (cI cB : ClassId) (x : Nat) (T I O V : List Nat) (w : Nat) (hv : Vd T I O V w) (ws : va_W) (hR : RM cI x T I O V w ws)  : Ki l D cI cB y_M_encode b_M_encode 2 3 75 0 0 .int [.ref x] ws (fun r w1 => r = ecR V w ∧ RM cI x T I (ecO V w) V w w1) := by
  obtain ⟨ro, sp, tp, ip, op, a0, f0, tt, ti, to_, v, vs, rfl, hT, hI, hO, hV⟩ := hR
  obtain ⟨v1, v2, v3, v4, v5, v6, v7, v8, v9⟩ := hv
  refine ent (fun A => va_Qi _ (BW D A) A) (by decide) (Nat.le_of_ble_eq_true rfl) ?_
  intro p e s m below meth c A ls C hA hP hD hS hl
  have hl : lv_has ls 2 [(0, .ref x)] := hl
  refine lv_aload_n C.x C.b d_M_encode_0 rfl (lv_at hl 0 rfl) ?_
  refine lv_iconst (v := nI 0) C.x C.b d_M_encode_1 (by decide) ?_
  refine pf (w2 := [oM x 0 ro sp V.length w T.length I.length O.length a0 f0 tp ip op, aN cI ro 4096 v, aN cI sp 4104 vs, aN cI tp 8192 tt, aN cI ip 8192 ti, aN cI op 24000 to_]) C hP hD hS 0 3 0 (.int) rfl rfl (by decide) fl_M_25 rfl (by decide +kernel) rfl rfl (Nat.le_of_ble_eq_true rfl) rfl d_M_encode_2 (fun H locs hP hD hS => ?_)
  refine lv_aload_n C.x C.b d_M_encode_5 rfl (lv_at hl 0 rfl) ?_
  refine lv_iconst (v := nI 0) C.x C.b d_M_encode_6 (by decide) ?_
  refine pf (w2 := [oM x 0 ro sp V.length w T.length I.length 0 a0 f0 tp ip op, aN cI ro 4096 v, aN cI sp 4104 vs, aN cI tp 8192 tt, aN cI ip 8192 ti, aN cI op 24000 to_]) C hP hD hS 0 3 7 (.int) rfl rfl (by decide) fl_M_29 rfl (by decide +kernel) rfl rfl (Nat.le_of_ble_eq_true rfl) rfl d_M_encode_7 (fun H locs hP hD hS => ?_)
  refine lv_iconst (v := nI 0) C.x C.b d_M_encode_10 (by decide) ?_
  refine lv_istore_n (lv' := [(1, .int (nI 0)), (0, .ref x)]) C.x C.b d_M_encode_11 rfl hl (by decide) rfl (fun ls hl => ?_)
  refine lp_M_encode C hA x ro sp tp ip op a0 f0 tt ti to_ v vs T I V w hV v4 v9 v5 _ (fun hf => ?_) (fun hft H locs ls hP hD hS hl => ?_) V.length 0 (by omega) rfl H locs ls hP hD hS (lv_sub hl [1, 0] rfl)
  · have hft0 : ¬ ftF (gt V) w V.length = true := by rw [hf]; decide
    have eO : ecO V w = [] := if_neg hft0
    exact ⟨(if_neg hft0).symm, by rw [eO]; exact ⟨_, _, _, _, _, _, _, _, _, _, _, _, rfl, hT, hI, Hd_nil to_, hV⟩⟩
  · refine lv_aload_n C.x C.b d_M_encode_51 rfl (lv_at hl 0 rfl) ?_
    refine lv_aload_n C.x C.b d_M_encode_52 rfl (lv_at hl 0 rfl) ?_
    refine gf C hP 0 3 1 rfl rfl (by decide) fl_M_7 rfl d_M_encode_53 ?_
    refine lv_aload_n C.x C.b d_M_encode_56 rfl (lv_at hl 0 rfl) ?_
    refine gf C hP 0 3 3 rfl rfl (by decide) fl_M_53 rfl d_M_encode_57 ?_
    refine lv_aload_n C.x C.b d_M_encode_60 rfl (lv_at hl 0 rfl) ?_
    refine gf C hP 0 3 4 rfl rfl (by decide) fl_M_50 rfl d_M_encode_61 ?_
    refine cvV (wr := [aN cI sp 4104 vs, aN cI tp 8192 tt, aN cI ip 8192 ti]) C hA hP hD hS hl.1 (c_M_writeRuns l D cI cB x ro sp V.length w T.length I.length a0 f0 tp ip op V.length V v hV v9 rfl v4 v5 to_ (Hd_nil to_)) ok_M_83 [] [0, 1, 5] [2, 3, 4] 3 0 rfl rfl rfl rfl (by decide) rfl (by decide) (by decide) rfl rfl (Nat.le_of_ble_eq_true rfl) (⟨by (try dsimp only [rmO]); omega, by (try dsimp only [rmO]); omega⟩) (⟨by (try dsimp only [rmO]); omega, by (try dsimp only [rmO]); omega⟩) d_M_encode_64 ?_
    intro w1 H locs hw hP hD hS
    obtain ⟨t2, rfl, hL2⟩ := hw
    have hP : va_P D classes [aN cI sp 4104 vs, aN cI tp 8192 tt, aN cI ip 8192 ti, oM x 0 ro sp V.length w T.length I.length ((encF (gt V) V.length w V.length 0).length) a0 f0 tp ip op, aN cI ro 4096 v, aN cI op 24000 t2] H := hP
    have hD : va_D A [aN cI sp 4104 vs, aN cI tp 8192 tt, aN cI ip 8192 ti, oM x 0 ro sp V.length w T.length I.length ((encF (gt V) V.length w V.length 0).length) a0 f0 tp ip op, aN cI ro 4096 v, aN cI op 24000 t2] := hD
    have hP : va_P D classes [oM x 0 ro sp V.length w T.length I.length ((encF (gt V) V.length w V.length 0).length) a0 f0 tp ip op, aN cI ro 4096 v, aN cI sp 4104 vs, aN cI tp 8192 tt, aN cI ip 8192 ti, aN cI op 24000 t2] H := hP.sub [3, 4, 0, 1, 2, 5] rfl
    have hD : va_D A [oM x 0 ro sp V.length w T.length I.length ((encF (gt V) V.length w V.length 0).length) a0 f0 tp ip op, aN cI ro 4096 v, aN cI sp 4104 vs, aN cI tp 8192 tt, aN cI ip 8192 ti, aN cI op 24000 t2] := hD.sub [3, 4, 0, 1, 2, 5] (by decide) rfl
    refine lv_aload_n C.x C.b d_M_encode_67 rfl (lv_at hl 0 rfl) ?_
    refine gf C hP 0 3 7 rfl rfl (by decide) fl_M_29 rfl d_M_encode_68 ?_
    have eO : ecO V w = (encF (gt V) V.length w V.length 0) := if_pos hft
    exact reti C hP hD hS d_M_encode_71 (rfl) (by omega) (by omega) (⟨(if_pos hft).symm, by rw [eO]; exact ⟨_, _, _, _, _, _, _, _, _, _, _, _, rfl, hT, hI, hL2, hV⟩⟩)
end
section
/-! contracts of RunRowsModel: varint, bitsAt, readOne, readGroups (printed by gen/m4.py) -/
set_option maxHeartbeats 4000000 in
set_option maxRecDepth 100000 in
/-- varint: the loop -/
theorem lp_M_varint {p : Program} {l : Launch} {e : Env} {R : Room} {s : State} {m : MethodId} {args : Array Value} {below : List Frame} {meth : Method} {c : Code} {D : va_G} {cI cB : ClassId} {A : Nat → Prop} (C : Cx p s m args meth c D cI cB b_M_varint 6 R_M (some .long) "varint") (hA : ∀ q : Nat, s.heap.size ≤ q → A q) (x ro sp vn w tn im om tp ip op : Nat) (E : Nat) (I : List Nat) (t : Nat → Nat) (hI : Hd t I) (hI8 : ∀ x ∈ I, x < 256) (hE : E ≤ I.length) (hIc : I.length ≤ 8192) (post : Int64 → va_W → Prop) : ∀ (d i k acc : Nat), i + d = 10 → i ≤ 9 → acc < 2 ^ (7 * i) → k ≤ E → (∀ (v : Int64) (w1 : va_W), (w1 = [oM x 0 ro sp vn w tn im om ((vr (gt I) E d i k acc).2.1) ((vr (gt I) E d i k acc).1) tp ip op, aN cI ip 8192 t] ∧ ((vr (gt I) E d i k acc).1 = 0 → v = lN (vr (gt I) E d i k acc).2.2)) → post v w1) → ∀ (H : Heap) (locs : List Loc) (ls : Array Slot), va_P D classes [oM x 0 ro sp vn w tn im om k 0 tp ip op, aN cI ip 8192 t] H → va_D A [oM x 0 ro sp vn w tn im om k 0 tp ip op, aN cI ip 8192 t] → va_S A s.heap H locs → lv_has ls 6 [(0, .ref x), (1, .int (nI E)), (2, .long (lN acc)), (4, .int (nI i))] → W p l e R s m args below meth c H locs 0 0 (MQ below (va_Ql post (BW D A) A) args s 0 0 A) (F0 m 5 ls []) := by
  intro d
  induction d with
  | zero => intro i k acc hi hi9; exfalso; omega
  | succ d ih =>
    intro i k acc hi hi9 hacc hk hp H locs ls hP hD hS hl
    refine lv_aload_n C.x C.b d_M_varint_5 rfl (lv_at hl 0 rfl) ?_
    refine gf C hP 0 3 9 rfl rfl (by decide) fl_M_32 rfl d_M_varint_6 ?_
    refine jz_ne (tgt := 111) C d_M_varint_9 (by decide) (by omega) (fun h => ?_) (fun h => ?_)
    · exact absurd rfl h
    · refine lv_aload_n C.x C.b d_M_varint_12 rfl (lv_at hl 0 rfl) ?_
      refine gf C hP 0 3 8 rfl rfl (by decide) fl_M_35 rfl d_M_varint_13 ?_
      refine lv_iload_n C.x C.b d_M_varint_16 rfl (lv_at hl 1 rfl) ?_
      refine jc_lt (tgt := 28) C d_M_varint_17 (by decide) (by omega) (by omega) (fun hk2 => ?_) (fun hk2 => ?_)
      · have hg := gt_lt (by decide) hI8 k
        refine lv_aload_n C.x C.b d_M_varint_28 rfl (lv_at hl 0 rfl) ?_
        refine gf C hP 0 3 11 rfl rfl (by decide) fl_M_19 rfl d_M_varint_29 ?_
        refine lv_aload_n C.x C.b d_M_varint_32 rfl (lv_at hl 0 rfl) ?_
        refine gf C hP 0 3 8 rfl rfl (by decide) fl_M_35 rfl d_M_varint_33 ?_
        refine ild C hP 1 rfl (by omega) (by omega) d_M_varint_36 ?_
        refine ra_i (y := nI (gt I k)) (by rw [hI k (by omega)]) ?_
        refine lv_istore (lv' := [(5, .int (nI (gt I k))), (0, .ref x), (1, .int (nI E)), (2, .long (lN acc)), (4, .int (nI i))]) C.x C.b d_M_varint_37 hl (by decide) rfl (fun ls hl => ?_)
        refine lv_aload_n C.x C.b d_M_varint_39 rfl (lv_at hl 1 rfl) ?_
        refine lv_dup C.x C.b d_M_varint_40 rfl ?_
        refine gf C hP 0 3 8 rfl rfl (by decide) fl_M_35 rfl d_M_varint_41 ?_
        refine lv_iconst (v := nI 1) C.x C.b d_M_varint_44 (by decide) ?_
        refine lv_iadd C.x C.b d_M_varint_45 ?_
        refine ra_i (nI_add _ _) ?_
        refine pf (w2 := [oM x 0 ro sp vn w tn im om (k + 1) 0 tp ip op, aN cI ip 8192 t]) C hP hD hS 0 3 8 (.int) rfl rfl (by decide) fl_M_35 rfl (by decide +kernel) rfl rfl (Nat.le_of_ble_eq_true rfl) rfl d_M_varint_46 (fun H locs hP hD hS => ?_)
        refine lv_iload C.x C.b d_M_varint_49 (lv_at hl 4 rfl) ?_
        refine lv_bipush (v := nI 9) C.x C.b d_M_varint_51 (by decide) ?_
        refine jc_ne (tgt := 62) C d_M_varint_53 (by decide) (by omega) (by omega) (fun h9 => ?_) (fun h9 => ?_)
        · refine lv_iload C.x C.b d_M_varint_62 (lv_at hl 4 rfl) ?_
          refine jz_le (tgt := 80) C d_M_varint_64 (by decide) (by omega) (fun h3 => ?_) (fun h3 => ?_)
          · have hnb : ¬ ((i = 9 ∧ 1 < gt I k) ∨ (0 < i ∧ gt I k = 0)) := by omega
            have hsum := vr_sum (b := gt I k) hi9 (by omega) hacc
            refine lv_lload_n C.x C.b d_M_varint_80 rfl (lv_at hl 3 rfl) ?_
            refine lv_iload C.x C.b d_M_varint_81 (lv_at hl 0 rfl) ?_
            refine lv_bipush (v := nI 127) C.x C.b d_M_varint_83 (by decide) ?_
            refine lv_iand C.x C.b d_M_varint_85 ?_
            refine ra_i (ni_127 _) ?_
            refine lv_i2l C.x C.b d_M_varint_86 (nI_l (by omega)) ?_
            refine lv_bipush (v := nI 7) C.x C.b d_M_varint_87 (by decide) ?_
            refine lv_iload C.x C.b d_M_varint_89 (lv_at hl 4 rfl) ?_
            refine lv_imul C.x C.b d_M_varint_91 ?_
            refine ra_i (pk_mul _ _) ?_
            refine lv_lshl C.x C.b d_M_varint_92 (wb_shl _ (by omega)) ?_
            refine lv_lor C.x C.b d_M_varint_93 ?_
            refine ra_l (y := lN (acc + gt I k % 128 * 2 ^ (7 * i))) (lN_orS hacc hsum) ?_
            refine lv_lstore_n (lv' := [(2, .long (lN (acc + gt I k % 128 * 2 ^ (7 * i)))), (5, .int (nI (gt I k))), (0, .ref x), (1, .int (nI E)), (4, .int (nI i))]) C.x C.b d_M_varint_94 rfl hl (by decide) rfl (fun ls hl => ?_)
            refine lv_iload C.x C.b d_M_varint_95 (lv_at hl 1 rfl) ?_
            refine lv_sipush (v := nI 128) C.x C.b d_M_varint_97 (by decide) ?_
            refine jc_ge (tgt := 105) C d_M_varint_100 (by decide) (by omega) (by omega) (fun h5 => ?_) (fun h5 => ?_)
            · refine lv_iinc (v := (nI (i + 1))) (lv' := [(4, .int (nI (i + 1))), (2, .long (lN (acc + gt I k % 128 * 2 ^ (7 * i)))), (5, .int (nI (gt I k))), (0, .ref x), (1, .int (nI E))]) C.x C.b d_M_varint_105 hl (k := 4) rfl (nI_inc _ 1) (by decide) rfl (fun ls hl => ?_)
              refine lv_goto (tgt := 5) C.x C.b d_M_varint_108 (by decide) ?_
              exact ih (i + 1) (k + 1) _ (by omega) (by omega) (vr_acc hacc) (by omega) (fun v w1 q => hp v w1 (by rw [vr_go hk2 hnb h5]; exact q)) H locs ls hP hD hS (lv_sub hl [3, 4, 1, 0] rfl)
            · refine lv_lload_n C.x C.b d_M_varint_103 rfl (lv_at hl 0 rfl) ?_
              exact retl C hP hD hS d_M_varint_104 (by omega) (by omega) (hp _ _ (by rw [vr_end hk2 hnb h5]; exact ⟨rfl, fun _ => rfl⟩))
          · refine lv_iload C.x C.b d_M_varint_67 (lv_at hl 0 rfl) ?_
            refine jz_ne (tgt := 80) C d_M_varint_69 (by decide) (by omega) (fun h4 => ?_) (fun h4 => ?_)
            · have hnb : ¬ ((i = 9 ∧ 1 < gt I k) ∨ (0 < i ∧ gt I k = 0)) := by omega
              have hsum := vr_sum (b := gt I k) hi9 (by omega) hacc
              refine lv_lload_n C.x C.b d_M_varint_80 rfl (lv_at hl 3 rfl) ?_
              refine lv_iload C.x C.b d_M_varint_81 (lv_at hl 0 rfl) ?_
              refine lv_bipush (v := nI 127) C.x C.b d_M_varint_83 (by decide) ?_
              refine lv_iand C.x C.b d_M_varint_85 ?_
              refine ra_i (ni_127 _) ?_
              refine lv_i2l C.x C.b d_M_varint_86 (nI_l (by omega)) ?_
              refine lv_bipush (v := nI 7) C.x C.b d_M_varint_87 (by decide) ?_
              refine lv_iload C.x C.b d_M_varint_89 (lv_at hl 4 rfl) ?_
              refine lv_imul C.x C.b d_M_varint_91 ?_
              refine ra_i (pk_mul _ _) ?_
              refine lv_lshl C.x C.b d_M_varint_92 (wb_shl _ (by omega)) ?_
              refine lv_lor C.x C.b d_M_varint_93 ?_
              refine ra_l (y := lN (acc + gt I k % 128 * 2 ^ (7 * i))) (lN_orS hacc hsum) ?_
              refine lv_lstore_n (lv' := [(2, .long (lN (acc + gt I k % 128 * 2 ^ (7 * i)))), (5, .int (nI (gt I k))), (0, .ref x), (1, .int (nI E)), (4, .int (nI i))]) C.x C.b d_M_varint_94 rfl hl (by decide) rfl (fun ls hl => ?_)
              refine lv_iload C.x C.b d_M_varint_95 (lv_at hl 1 rfl) ?_
              refine lv_sipush (v := nI 128) C.x C.b d_M_varint_97 (by decide) ?_
              refine jc_ge (tgt := 105) C d_M_varint_100 (by decide) (by omega) (by omega) (fun h5 => ?_) (fun h5 => ?_)
              · refine lv_iinc (v := (nI (i + 1))) (lv' := [(4, .int (nI (i + 1))), (2, .long (lN (acc + gt I k % 128 * 2 ^ (7 * i)))), (5, .int (nI (gt I k))), (0, .ref x), (1, .int (nI E))]) C.x C.b d_M_varint_105 hl (k := 4) rfl (nI_inc _ 1) (by decide) rfl (fun ls hl => ?_)
                refine lv_goto (tgt := 5) C.x C.b d_M_varint_108 (by decide) ?_
                exact ih (i + 1) (k + 1) _ (by omega) (by omega) (vr_acc hacc) (by omega) (fun v w1 q => hp v w1 (by rw [vr_go hk2 hnb h5]; exact q)) H locs ls hP hD hS (lv_sub hl [3, 4, 1, 0] rfl)
              · refine lv_lload_n C.x C.b d_M_varint_103 rfl (lv_at hl 0 rfl) ?_
                exact retl C hP hD hS d_M_varint_104 (by omega) (by omega) (hp _ _ (by rw [vr_end hk2 hnb h5]; exact ⟨rfl, fun _ => rfl⟩))
            · refine lv_aload_n C.x C.b d_M_varint_72 rfl (lv_at hl 1 rfl) ?_
              refine lv_iconst (v := nI 2) C.x C.b d_M_varint_73 (by decide) ?_
              refine pf (w2 := [oM x 0 ro sp vn w tn im om (k + 1) 2 tp ip op, aN cI ip 8192 t]) C hP hD hS 0 3 9 (.int) rfl rfl (by decide) fl_M_32 rfl (by decide +kernel) rfl rfl (Nat.le_of_ble_eq_true rfl) rfl d_M_varint_74 (fun H locs hP hD hS => ?_)
              refine lv_goto (tgt := 108) C.x C.b d_M_varint_77 (by decide) ?_
              refine lv_goto (tgt := 5) C.x C.b d_M_varint_108 (by decide) ?_
              refine lv_aload_n C.x C.b d_M_varint_5 rfl (lv_at hl 1 rfl) ?_
              refine gf C hP 0 3 9 rfl rfl (by decide) fl_M_32 rfl d_M_varint_6 ?_
              refine jz_ne (tgt := 111) C d_M_varint_9 (by decide) (by omega) (fun hz => ?_) (fun hz => ?_)
              · refine lv_lconst (v := lN 0) C.x C.b d_M_varint_111 (by decide) ?_
                exact retl C hP hD hS d_M_varint_112 (by omega) (by omega) (hp _ _ (by rw [vr_bad hk2 (Or.inr ⟨h3, h4⟩)]; exact ⟨rfl, fun q => absurd q (Nat.succ_ne_zero _)⟩))
              · exact absurd hz (by decide)
        · refine lv_iload C.x C.b d_M_varint_56 (lv_at hl 0 rfl) ?_
          refine lv_iconst (v := nI 1) C.x C.b d_M_varint_58 (by decide) ?_
          refine jc_gt (tgt := 72) C d_M_varint_59 (by decide) (by omega) (by omega) (fun h6 => ?_) (fun h6 => ?_)
          · refine lv_aload_n C.x C.b d_M_varint_72 rfl (lv_at hl 1 rfl) ?_
            refine lv_iconst (v := nI 2) C.x C.b d_M_varint_73 (by decide) ?_
            refine pf (w2 := [oM x 0 ro sp vn w tn im om (k + 1) 2 tp ip op, aN cI ip 8192 t]) C hP hD hS 0 3 9 (.int) rfl rfl (by decide) fl_M_32 rfl (by decide +kernel) rfl rfl (Nat.le_of_ble_eq_true rfl) rfl d_M_varint_74 (fun H locs hP hD hS => ?_)
            refine lv_goto (tgt := 108) C.x C.b d_M_varint_77 (by decide) ?_
            refine lv_goto (tgt := 5) C.x C.b d_M_varint_108 (by decide) ?_
            refine lv_aload_n C.x C.b d_M_varint_5 rfl (lv_at hl 1 rfl) ?_
            refine gf C hP 0 3 9 rfl rfl (by decide) fl_M_32 rfl d_M_varint_6 ?_
            refine jz_ne (tgt := 111) C d_M_varint_9 (by decide) (by omega) (fun hz => ?_) (fun hz => ?_)
            · refine lv_lconst (v := lN 0) C.x C.b d_M_varint_111 (by decide) ?_
              exact retl C hP hD hS d_M_varint_112 (by omega) (by omega) (hp _ _ (by rw [vr_bad hk2 (Or.inl ⟨h9, h6⟩)]; exact ⟨rfl, fun q => absurd q (Nat.succ_ne_zero _)⟩))
            · exact absurd hz (by decide)
          · refine lv_iload C.x C.b d_M_varint_62 (lv_at hl 4 rfl) ?_
            refine jz_le (tgt := 80) C d_M_varint_64 (by decide) (by omega) (fun h3 => ?_) (fun h3 => ?_)
            · have hnb : ¬ ((i = 9 ∧ 1 < gt I k) ∨ (0 < i ∧ gt I k = 0)) := by omega
              have hsum := vr_sum (b := gt I k) hi9 (by omega) hacc
              refine lv_lload_n C.x C.b d_M_varint_80 rfl (lv_at hl 3 rfl) ?_
              refine lv_iload C.x C.b d_M_varint_81 (lv_at hl 0 rfl) ?_
              refine lv_bipush (v := nI 127) C.x C.b d_M_varint_83 (by decide) ?_
              refine lv_iand C.x C.b d_M_varint_85 ?_
              refine ra_i (ni_127 _) ?_
              refine lv_i2l C.x C.b d_M_varint_86 (nI_l (by omega)) ?_
              refine lv_bipush (v := nI 7) C.x C.b d_M_varint_87 (by decide) ?_
              refine lv_iload C.x C.b d_M_varint_89 (lv_at hl 4 rfl) ?_
              refine lv_imul C.x C.b d_M_varint_91 ?_
              refine ra_i (pk_mul _ _) ?_
              refine lv_lshl C.x C.b d_M_varint_92 (wb_shl _ (by omega)) ?_
              refine lv_lor C.x C.b d_M_varint_93 ?_
              refine ra_l (y := lN (acc + gt I k % 128 * 2 ^ (7 * i))) (lN_orS hacc hsum) ?_
              refine lv_lstore_n (lv' := [(2, .long (lN (acc + gt I k % 128 * 2 ^ (7 * i)))), (5, .int (nI (gt I k))), (0, .ref x), (1, .int (nI E)), (4, .int (nI i))]) C.x C.b d_M_varint_94 rfl hl (by decide) rfl (fun ls hl => ?_)
              refine lv_iload C.x C.b d_M_varint_95 (lv_at hl 1 rfl) ?_
              refine lv_sipush (v := nI 128) C.x C.b d_M_varint_97 (by decide) ?_
              refine jc_ge (tgt := 105) C d_M_varint_100 (by decide) (by omega) (by omega) (fun h5 => ?_) (fun h5 => ?_)
              · refine lv_iinc (v := (nI (i + 1))) (lv' := [(4, .int (nI (i + 1))), (2, .long (lN (acc + gt I k % 128 * 2 ^ (7 * i)))), (5, .int (nI (gt I k))), (0, .ref x), (1, .int (nI E))]) C.x C.b d_M_varint_105 hl (k := 4) rfl (nI_inc _ 1) (by decide) rfl (fun ls hl => ?_)
                refine lv_goto (tgt := 5) C.x C.b d_M_varint_108 (by decide) ?_
                exact ih (i + 1) (k + 1) _ (by omega) (by omega) (vr_acc hacc) (by omega) (fun v w1 q => hp v w1 (by rw [vr_go hk2 hnb h5]; exact q)) H locs ls hP hD hS (lv_sub hl [3, 4, 1, 0] rfl)
              · refine lv_lload_n C.x C.b d_M_varint_103 rfl (lv_at hl 0 rfl) ?_
                exact retl C hP hD hS d_M_varint_104 (by omega) (by omega) (hp _ _ (by rw [vr_end hk2 hnb h5]; exact ⟨rfl, fun _ => rfl⟩))
            · refine lv_iload C.x C.b d_M_varint_67 (lv_at hl 0 rfl) ?_
              refine jz_ne (tgt := 80) C d_M_varint_69 (by decide) (by omega) (fun h4 => ?_) (fun h4 => ?_)
              · have hnb : ¬ ((i = 9 ∧ 1 < gt I k) ∨ (0 < i ∧ gt I k = 0)) := by omega
                have hsum := vr_sum (b := gt I k) hi9 (by omega) hacc
                refine lv_lload_n C.x C.b d_M_varint_80 rfl (lv_at hl 3 rfl) ?_
                refine lv_iload C.x C.b d_M_varint_81 (lv_at hl 0 rfl) ?_
                refine lv_bipush (v := nI 127) C.x C.b d_M_varint_83 (by decide) ?_
                refine lv_iand C.x C.b d_M_varint_85 ?_
                refine ra_i (ni_127 _) ?_
                refine lv_i2l C.x C.b d_M_varint_86 (nI_l (by omega)) ?_
                refine lv_bipush (v := nI 7) C.x C.b d_M_varint_87 (by decide) ?_
                refine lv_iload C.x C.b d_M_varint_89 (lv_at hl 4 rfl) ?_
                refine lv_imul C.x C.b d_M_varint_91 ?_
                refine ra_i (pk_mul _ _) ?_
                refine lv_lshl C.x C.b d_M_varint_92 (wb_shl _ (by omega)) ?_
                refine lv_lor C.x C.b d_M_varint_93 ?_
                refine ra_l (y := lN (acc + gt I k % 128 * 2 ^ (7 * i))) (lN_orS hacc hsum) ?_
                refine lv_lstore_n (lv' := [(2, .long (lN (acc + gt I k % 128 * 2 ^ (7 * i)))), (5, .int (nI (gt I k))), (0, .ref x), (1, .int (nI E)), (4, .int (nI i))]) C.x C.b d_M_varint_94 rfl hl (by decide) rfl (fun ls hl => ?_)
                refine lv_iload C.x C.b d_M_varint_95 (lv_at hl 1 rfl) ?_
                refine lv_sipush (v := nI 128) C.x C.b d_M_varint_97 (by decide) ?_
                refine jc_ge (tgt := 105) C d_M_varint_100 (by decide) (by omega) (by omega) (fun h5 => ?_) (fun h5 => ?_)
                · refine lv_iinc (v := (nI (i + 1))) (lv' := [(4, .int (nI (i + 1))), (2, .long (lN (acc + gt I k % 128 * 2 ^ (7 * i)))), (5, .int (nI (gt I k))), (0, .ref x), (1, .int (nI E))]) C.x C.b d_M_varint_105 hl (k := 4) rfl (nI_inc _ 1) (by decide) rfl (fun ls hl => ?_)
                  refine lv_goto (tgt := 5) C.x C.b d_M_varint_108 (by decide) ?_
                  exact ih (i + 1) (k + 1) _ (by omega) (by omega) (vr_acc hacc) (by omega) (fun v w1 q => hp v w1 (by rw [vr_go hk2 hnb h5]; exact q)) H locs ls hP hD hS (lv_sub hl [3, 4, 1, 0] rfl)
                · refine lv_lload_n C.x C.b d_M_varint_103 rfl (lv_at hl 0 rfl) ?_
                  exact retl C hP hD hS d_M_varint_104 (by omega) (by omega) (hp _ _ (by rw [vr_end hk2 hnb h5]; exact ⟨rfl, fun _ => rfl⟩))
              · refine lv_aload_n C.x C.b d_M_varint_72 rfl (lv_at hl 1 rfl) ?_
                refine lv_iconst (v := nI 2) C.x C.b d_M_varint_73 (by decide) ?_
                refine pf (w2 := [oM x 0 ro sp vn w tn im om (k + 1) 2 tp ip op, aN cI ip 8192 t]) C hP hD hS 0 3 9 (.int) rfl rfl (by decide) fl_M_32 rfl (by decide +kernel) rfl rfl (Nat.le_of_ble_eq_true rfl) rfl d_M_varint_74 (fun H locs hP hD hS => ?_)
                refine lv_goto (tgt := 108) C.x C.b d_M_varint_77 (by decide) ?_
                refine lv_goto (tgt := 5) C.x C.b d_M_varint_108 (by decide) ?_
                refine lv_aload_n C.x C.b d_M_varint_5 rfl (lv_at hl 1 rfl) ?_
                refine gf C hP 0 3 9 rfl rfl (by decide) fl_M_32 rfl d_M_varint_6 ?_
                refine jz_ne (tgt := 111) C d_M_varint_9 (by decide) (by omega) (fun hz => ?_) (fun hz => ?_)
                · refine lv_lconst (v := lN 0) C.x C.b d_M_varint_111 (by decide) ?_
                  exact retl C hP hD hS d_M_varint_112 (by omega) (by omega) (hp _ _ (by rw [vr_bad hk2 (Or.inr ⟨h3, h4⟩)]; exact ⟨rfl, fun q => absurd q (Nat.succ_ne_zero _)⟩))
                · exact absurd hz (by decide)
      · refine lv_aload_n C.x C.b d_M_varint_20 rfl (lv_at hl 0 rfl) ?_
        refine lv_iconst (v := nI 1) C.x C.b d_M_varint_21 (by decide) ?_
        refine pf (w2 := [oM x 0 ro sp vn w tn im om k 1 tp ip op, aN cI ip 8192 t]) C hP hD hS 0 3 9 (.int) rfl rfl (by decide) fl_M_32 rfl (by decide +kernel) rfl rfl (Nat.le_of_ble_eq_true rfl) rfl d_M_varint_22 (fun H locs hP hD hS => ?_)
        refine lv_goto (tgt := 5) C.x C.b d_M_varint_25 (by decide) ?_
        refine lv_aload_n C.x C.b d_M_varint_5 rfl (lv_at hl 0 rfl) ?_
        refine gf C hP 0 3 9 rfl rfl (by decide) fl_M_32 rfl d_M_varint_6 ?_
        refine jz_ne (tgt := 111) C d_M_varint_9 (by decide) (by omega) (fun hz => ?_) (fun hz => ?_)
        · refine lv_lconst (v := lN 0) C.x C.b d_M_varint_111 (by decide) ?_
          exact retl C hP hD hS d_M_varint_112 (by omega) (by omega) (hp _ _ (by rw [vr_cut hk2]; exact ⟨rfl, fun q => absurd q (Nat.succ_ne_zero _)⟩))
        · exact absurd hz (by decide)
set_option maxHeartbeats 4000000 in
set_option maxRecDepth 100000 in
/-- varint -/
theorem c_M_varint (l : Launch) (D : va_G) (cI cB : ClassId) (x ro sp vn w tn im om tp ip op : Nat) (k E : Nat) (I : List Nat) (t : Nat → Nat) (hI : Hd t I) (hI8 : ∀ x ∈ I, x < 256) (hE : E ≤ I.length) (hIc : I.length ≤ 8192) (hk : k ≤ E) : Kl l D cI cB y_M_varint b_M_varint 6 0 0 0 0 [.ref x, .int (nI E)] [oM x 0 ro sp vn w tn im om k 0 tp ip op, aN cI ip 8192 t] (fun v w1 => w1 = [oM x 0 ro sp vn w tn im om ((vr (gt I) E 10 0 k 0).2.1) ((vr (gt I) E 10 0 k 0).1) tp ip op, aN cI ip 8192 t] ∧ ((vr (gt I) E 10 0 k 0).1 = 0 → v = lN (vr (gt I) E 10 0 k 0).2.2)) := by
  refine ent (fun A => va_Ql _ (BW D A) A) (by decide) (Nat.le_of_ble_eq_true rfl) ?_
  intro p e s m below meth c A ls C hA hP hD hS hl
  have hl : lv_has ls 6 [(0, .ref x), (1, .int (nI E))] := hl
  refine lv_lconst (v := lN 0) C.x C.b d_M_varint_0 (by decide) ?_
  refine lv_lstore_n (lv' := [(2, .long (lN 0)), (0, .ref x), (1, .int (nI E))]) C.x C.b d_M_varint_1 rfl hl (by decide) rfl (fun ls hl => ?_)
  refine lv_iconst (v := nI 0) C.x C.b d_M_varint_2 (by decide) ?_
  refine lv_istore (lv' := [(4, .int (nI 0)), (2, .long (lN 0)), (0, .ref x), (1, .int (nI E))]) C.x C.b d_M_varint_3 hl (by decide) rfl (fun ls hl => ?_)
  exact lp_M_varint C hA x ro sp vn w tn im om tp ip op E I t hI hI8 hE hIc _ 10 0 k 0 rfl (by decide) (by decide) hk (fun v w1 q => q) _ _ ls hP hD hS (lv_sub hl [2, 3, 1, 0] rfl)
set_option maxHeartbeats 4000000 in
set_option maxRecDepth 100000 in
/-- bitsAt: the loop -/
theorem lp_M_bitsAt {p : Program} {l : Launch} {e : Env} {R : Room} {s : State} {m : MethodId} {args : Array Value} {below : List Frame} {meth : Method} {c : Code} {D : va_G} {cI cB : ClassId} {Q : State → Prop} {cells slots : Nat} {H : Heap} {locs : List Loc} (C : Cx p s m args meth c D cI cB b_M_bitsAt 6 R_M (some .int) "bitsAt") (x ro sp vn w tn im om tp ip op : Nat) (a0 f0 pl bt0 : Nat) (I : List Nat) (t : Nat → Nat) (hI : Hd t I) (hI8 : ∀ x ∈ I, x < 256) (hIc : I.length ≤ 8192) (hw : w ≤ 32) (hb : 8 * pl + bt0 + w ≤ 8 * I.length) (hP : va_P D classes [oM x 0 ro sp vn w tn im om a0 f0 tp ip op, aN cI ip 8192 t] H) (kk : ∀ (ls : Array Slot), lv_has ls 6 [(0, .ref x), (1, .int (nI pl)), (2, .int (nI bt0)), (3, .int (nI w)), (4, .int (nI (bs (ib (gt I)) (8 * pl + bt0) w))), (5, .int (nI w))] → W p l e R s m args below meth c H locs cells slots Q (F0 m 50 ls [])) : ∀ (d i : Nat), i + d = w → ∀ (ls : Array Slot), lv_has ls 6 [(0, .ref x), (1, .int (nI pl)), (2, .int (nI bt0)), (3, .int (nI w)), (4, .int (nI (bs (ib (gt I)) (8 * pl + bt0) i))), (5, .int (nI i))] → W p l e R s m args below meth c H locs cells slots Q (F0 m 6 ls []) := by
  intro d
  induction d with
  | zero =>
    intro i hi ls hl
    refine lv_iload C.x C.b d_M_bitsAt_6 (lv_at hl 5 rfl) ?_
    refine lv_iload_n C.x C.b d_M_bitsAt_8 rfl (lv_at hl 3 rfl) ?_
    refine jc_ge (tgt := 50) C d_M_bitsAt_9 (by decide) (by omega) (by omega) (fun h => ?_) (fun h => ?_)
    · obtain rfl : i = w := by omega
      exact kk ls hl
    · exfalso; omega
  | succ d ih =>
    intro i hi ls hl
    refine lv_iload C.x C.b d_M_bitsAt_6 (lv_at hl 5 rfl) ?_
    refine lv_iload_n C.x C.b d_M_bitsAt_8 rfl (lv_at hl 3 rfl) ?_
    refine jc_ge (tgt := 50) C d_M_bitsAt_9 (by decide) (by omega) (by omega) (fun h => ?_) (fun h => ?_)
    · exfalso; omega
    · have hb1 : (ib (gt I) (8 * pl + bt0 + i)).toNat = gt I (pl + (bt0 + i) / 8) / 2 ^ ((bt0 + i) % 8) % 2 := by
        unfold ib
        rw [Nat.toNat_testBit, show (8 * pl + bt0 + i) / 8 = pl + (bt0 + i) / 8 by omega, show (8 * pl + bt0 + i) % 8 = (bt0 + i) % 8 by omega]
      have hl1 := bs_lt (ib (gt I)) (8 * pl + bt0) i
      have hl2 := bs_lt (ib (gt I)) (8 * pl + bt0) (i + 1)
      have hp8 : (2 : Nat) ^ (i + 1) ≤ 2 ^ 32 := Nat.pow_le_pow_right (by decide) (by omega)
      have hg8 := gt_lt (by decide) hI8 (pl + (bt0 + i) / 8)
      refine lv_iload C.x C.b d_M_bitsAt_12 (lv_at hl 4 rfl) ?_
      refine lv_aload_n C.x C.b d_M_bitsAt_14 rfl (lv_at hl 0 rfl) ?_
      refine gf C hP 0 3 11 rfl rfl (by decide) fl_M_19 rfl d_M_bitsAt_15 ?_
      refine lv_iload_n C.x C.b d_M_bitsAt_18 rfl (lv_at hl 1 rfl) ?_
      refine lv_iload_n C.x C.b d_M_bitsAt_19 rfl (lv_at hl 2 rfl) ?_
      refine lv_iload C.x C.b d_M_bitsAt_20 (lv_at hl 5 rfl) ?_
      refine lv_iadd C.x C.b d_M_bitsAt_22 ?_
      refine ra_i (nI_add _ _) ?_
      refine lv_bipush (v := nI 8) C.x C.b d_M_bitsAt_23 (by decide) ?_
      refine lv_idiv C.x C.b d_M_bitsAt_25 (nI_ne0 (by omega) (by omega)) ?_
      refine ra_i (pk_div (by omega) (by omega) (by omega)) ?_
      refine lv_iadd C.x C.b d_M_bitsAt_26 ?_
      refine ra_i (nI_add _ _) ?_
      refine ild C hP 1 rfl (by omega) (by omega) d_M_bitsAt_27 ?_
      refine ra_i (y := nI (gt I (pl + (bt0 + i) / 8))) (by rw [hI _ (by omega)]) ?_
      refine lv_iload_n C.x C.b d_M_bitsAt_28 rfl (lv_at hl 2 rfl) ?_
      refine lv_iload C.x C.b d_M_bitsAt_29 (lv_at hl 5 rfl) ?_
      refine lv_iadd C.x C.b d_M_bitsAt_31 ?_
      refine ra_i (nI_add _ _) ?_
      refine lv_bipush (v := nI 8) C.x C.b d_M_bitsAt_32 (by decide) ?_
      refine lv_irem C.x C.b d_M_bitsAt_34 (nI_ne0 (by omega) (by omega)) ?_
      refine ra_i (pk_rem (by omega) (by omega) (by omega)) ?_
      refine lv_ishr C.x C.b d_M_bitsAt_35 ?_
      refine ra_i (ni_shr (by omega) (by omega)) ?_
      refine lv_iconst (v := nI 1) C.x C.b d_M_bitsAt_36 (by decide) ?_
      refine lv_iand C.x C.b d_M_bitsAt_37 ?_
      refine ra_i (ni_1 _) ?_
      refine ra_i (y := nI ((ib (gt I) (8 * pl + bt0 + i)).toNat)) (by rw [hb1]) ?_
      refine lv_iload C.x C.b d_M_bitsAt_38 (lv_at hl 5 rfl) ?_
      refine lv_ishl C.x C.b d_M_bitsAt_40 ?_
      refine ra_i (ni_shl _ (by omega)) ?_
      refine lv_ior C.x C.b d_M_bitsAt_41 ?_
      refine ra_i (y := nI (bs (ib (gt I)) (8 * pl + bt0) (i + 1))) (ni_orS hl1 (show bs (ib (gt I)) (8 * pl + bt0) (i + 1) < 2 ^ 32 by omega)) ?_
      refine lv_istore (lv' := [(4, .int (nI (bs (ib (gt I)) (8 * pl + bt0) (i + 1)))), (0, .ref x), (1, .int (nI pl)), (2, .int (nI bt0)), (3, .int (nI w)), (5, .int (nI i))]) C.x C.b d_M_bitsAt_42 hl (by decide) rfl (fun ls hl => ?_)
      refine lv_iinc (v := (nI (i + 1))) (lv' := [(5, .int (nI (i + 1))), (4, .int (nI (bs (ib (gt I)) (8 * pl + bt0) (i + 1)))), (0, .ref x), (1, .int (nI pl)), (2, .int (nI bt0)), (3, .int (nI w))]) C.x C.b d_M_bitsAt_44 hl (k := 5) rfl (nI_inc _ 1) (by decide) rfl (fun ls hl => ?_)
      refine lv_goto (tgt := 6) C.x C.b d_M_bitsAt_47 (by decide) ?_
      exact ih (i + 1) (by omega) ls (lv_sub hl [2, 3, 4, 5, 1, 0] rfl)
set_option maxHeartbeats 4000000 in
set_option maxRecDepth 100000 in
/-- bitsAt -/
theorem c_M_bitsAt (l : Launch) (D : va_G) (cI cB : ClassId) (x ro sp vn w tn im om tp ip op : Nat) (a0 f0 pl bt0 : Nat) (I : List Nat) (t : Nat → Nat) (hI : Hd t I) (hI8 : ∀ x ∈ I, x < 256) (hIc : I.length ≤ 8192) (hw : w ≤ 32) (hb : 8 * pl + bt0 + w ≤ 8 * I.length) : Ki l D cI cB y_M_bitsAt b_M_bitsAt 6 0 0 0 0 .int [.ref x, .int (nI pl), .int (nI bt0), .int (nI w)] [oM x 0 ro sp vn w tn im om a0 f0 tp ip op, aN cI ip 8192 t] (fun r w1 => r = nI (bs (ib (gt I)) (8 * pl + bt0) w) ∧ w1 = [oM x 0 ro sp vn w tn im om a0 f0 tp ip op, aN cI ip 8192 t]) := by
  refine ent (fun A => va_Qi _ (BW D A) A) (by decide) (Nat.le_of_ble_eq_true rfl) ?_
  intro p e s m below meth c A ls C hA hP hD hS hl
  have hl : lv_has ls 6 [(0, .ref x), (1, .int (nI pl)), (2, .int (nI bt0)), (3, .int (nI w))] := hl
  refine lv_iconst (v := nI 0) C.x C.b d_M_bitsAt_0 (by decide) ?_
  refine lv_istore (lv' := [(4, .int (nI 0)), (0, .ref x), (1, .int (nI pl)), (2, .int (nI bt0)), (3, .int (nI w))]) C.x C.b d_M_bitsAt_1 hl (by decide) rfl (fun ls hl => ?_)
  refine lv_iconst (v := nI 0) C.x C.b d_M_bitsAt_3 (by decide) ?_
  refine lv_istore (lv' := [(5, .int (nI 0)), (4, .int (nI 0)), (0, .ref x), (1, .int (nI pl)), (2, .int (nI bt0)), (3, .int (nI w))]) C.x C.b d_M_bitsAt_4 hl (by decide) rfl (fun ls hl => ?_)
  refine lp_M_bitsAt C x ro sp vn w tn im om tp ip op a0 f0 pl bt0 I t hI hI8 hIc hw hb hP (fun ls hl => ?_) w 0 (by omega) ls (lv_sub hl [2, 3, 4, 5, 1, 0] rfl)
  refine lv_iload C.x C.b d_M_bitsAt_50 (lv_at hl 4 rfl) ?_
  exact reti C hP hD hS d_M_bitsAt_52 (rfl) (by omega) (by omega) (⟨rfl, rfl⟩)
set_option maxHeartbeats 4000000 in
set_option maxRecDepth 100000 in
/-- readOne: the bits behind the number -/
theorem lp_M_one1 {p : Program} {l : Launch} {e : Env} {R : Room} {s : State} {m : MethodId} {args : Array Value} {below : List Frame} {meth : Method} {c : Code} {D : va_G} {cI cB : ClassId} {A : Nat → Prop} {Q : State → Prop} {cells slots : Nat} (C : Cx p s m args meth c D cI cB b_M_readOne 11 R_M (some .int) "readOne") (hA : ∀ q : Nat, s.heap.size ≤ q → A q) (x ro sp vn w tn im om tp ip op : Nat) (k E a n mm : Nat) (I : List Nat) (t : Nat → Nat) (hI : Hd t I) (hI8 : ∀ x ∈ I, x < 256) (hE : E ≤ I.length) (hIc : I.length ≤ 8192) (hn : n ≤ 4096) (hw : w ≤ 32) (hk : k < n) (ha : a ≤ E) (hnb : a + (w + 7) / 8 ≤ E) (vs : Nat → Nat) (kk : ∀ (H : Heap) (locs : List Loc) (ls : Array Slot), va_P D classes [oM x 0 ro sp vn w tn im om a (if bs (ib (gt I)) (8 * a + w) (8 * ((w + 7) / 8) - w) ≠ 0 then 5 else 0) tp ip op, aN cI sp 4104 vs, aN cI ip 8192 t] H → va_D A [oM x 0 ro sp vn w tn im om a (if bs (ib (gt I)) (8 * a + w) (8 * ((w + 7) / 8) - w) ≠ 0 then 5 else 0) tp ip op, aN cI sp 4104 vs, aN cI ip 8192 t] → va_S A s.heap H locs → lv_has ls 11 [(0, .ref x), (1, .ref sp), (2, .int (nI k)), (3, .int (nI n)), (4, .int (nI w)), (5, .int (nI E)), (6, .long (lN mm)), (8, .int (nI ((w + 7) / 8))), (9, .int (nI (bs (ib (gt I)) (8 * a + 0) w))), (10, .int (nI (w + (8 * ((w + 7) / 8) - w))))] → W p l e R s m args below meth c H locs cells slots Q (F0 m 119 ls [])) : ∀ (d i fl : Nat), w + i + d = 8 * ((w + 7) / 8) → fl = (if bs (ib (gt I)) (8 * a + w) i ≠ 0 then 5 else 0) → ∀ (H : Heap) (locs : List Loc) (ls : Array Slot), va_P D classes [oM x 0 ro sp vn w tn im om a fl tp ip op, aN cI sp 4104 vs, aN cI ip 8192 t] H → va_D A [oM x 0 ro sp vn w tn im om a fl tp ip op, aN cI sp 4104 vs, aN cI ip 8192 t] → va_S A s.heap H locs → lv_has ls 11 [(0, .ref x), (1, .ref sp), (2, .int (nI k)), (3, .int (nI n)), (4, .int (nI w)), (5, .int (nI E)), (6, .long (lN mm)), (8, .int (nI ((w + 7) / 8))), (9, .int (nI (bs (ib (gt I)) (8 * a + 0) w))), (10, .int (nI (w + i)))] → W p l e R s m args below meth c H locs cells slots (Q) (F0 m 71 ls []) := by
  intro d
  induction d with
  | zero =>
    intro i fl hi hfl H locs ls hP hD hS hl
    refine lv_iload C.x C.b d_M_readOne_71 (lv_at hl 9 rfl) ?_
    refine lv_bipush (v := nI 8) C.x C.b d_M_readOne_73 (by decide) ?_
    refine lv_iload C.x C.b d_M_readOne_75 (lv_at hl 7 rfl) ?_
    refine lv_imul C.x C.b d_M_readOne_77 ?_
    refine ra_i (pk_mul _ _) ?_
    refine jc_ge (tgt := 119) C d_M_readOne_78 (by decide) (by omega) (by omega) (fun h => ?_) (fun h => ?_)
    · obtain rfl : i = 8 * ((w + 7) / 8) - w := by omega
      subst hfl
      exact kk H locs ls hP hD hS hl
    · exfalso; omega
  | succ d ih =>
    intro i fl hi hfl H locs ls hP hD hS hl
    refine lv_iload C.x C.b d_M_readOne_71 (lv_at hl 9 rfl) ?_
    refine lv_bipush (v := nI 8) C.x C.b d_M_readOne_73 (by decide) ?_
    refine lv_iload C.x C.b d_M_readOne_75 (lv_at hl 7 rfl) ?_
    refine lv_imul C.x C.b d_M_readOne_77 ?_
    refine ra_i (pk_mul _ _) ?_
    refine jc_ge (tgt := 119) C d_M_readOne_78 (by decide) (by omega) (by omega) (fun h => ?_) (fun h => ?_)
    · exfalso; omega
    · have hg8 := gt_lt (by decide) hI8 (a + (w + i) / 8)
      have hb1 : (ib (gt I) (8 * a + w + i)).toNat = gt I (a + (w + i) / 8) / 2 ^ ((w + i) % 8) % 2 := by
        unfold ib
        rw [Nat.toNat_testBit, show (8 * a + w + i) / 8 = a + (w + i) / 8 by omega, show (8 * a + w + i) % 8 = (w + i) % 8 by omega]
      have es : bs (ib (gt I)) (8 * a + w) (i + 1) = bs (ib (gt I)) (8 * a + w) i + (ib (gt I) (8 * a + w + i)).toNat * 2 ^ i := rfl
      have hpi := Nat.two_pow_pos i
      refine lv_aload_n C.x C.b d_M_readOne_81 rfl (lv_at hl 0 rfl) ?_
      refine gf C hP 0 3 11 rfl rfl (by decide) fl_M_19 rfl d_M_readOne_82 ?_
      refine lv_aload_n C.x C.b d_M_readOne_85 rfl (lv_at hl 0 rfl) ?_
      refine gf C hP 0 3 8 rfl rfl (by decide) fl_M_35 rfl d_M_readOne_86 ?_
      refine lv_iload C.x C.b d_M_readOne_89 (lv_at hl 9 rfl) ?_
      refine lv_bipush (v := nI 8) C.x C.b d_M_readOne_91 (by decide) ?_
      refine lv_idiv C.x C.b d_M_readOne_93 (nI_ne0 (by omega) (by omega)) ?_
      refine ra_i (pk_div (by omega) (by omega) (by omega)) ?_
      refine lv_iadd C.x C.b d_M_readOne_94 ?_
      refine ra_i (nI_add _ _) ?_
      refine ild C hP 2 rfl (by omega) (by omega) d_M_readOne_95 ?_
      refine ra_i (y := nI (gt I (a + (w + i) / 8))) (by rw [hI _ (by omega)]) ?_
      refine lv_iload C.x C.b d_M_readOne_96 (lv_at hl 9 rfl) ?_
      refine lv_bipush (v := nI 8) C.x C.b d_M_readOne_98 (by decide) ?_
      refine lv_irem C.x C.b d_M_readOne_100 (nI_ne0 (by omega) (by omega)) ?_
      refine ra_i (pk_rem (by omega) (by omega) (by omega)) ?_
      refine lv_ishr C.x C.b d_M_readOne_101 ?_
      refine ra_i (ni_shr (by omega) (by omega)) ?_
      refine lv_iconst (v := nI 1) C.x C.b d_M_readOne_102 (by decide) ?_
      refine lv_iand C.x C.b d_M_readOne_103 ?_
      refine ra_i (ni_1 _) ?_
      have hb2 : gt I (a + (w + i) / 8) / 2 ^ ((w + i) % 8) % 2 < 2 := Nat.mod_lt _ (by decide)
      refine lv_iconst (v := nI 1) C.x C.b d_M_readOne_104 (by decide) ?_
      refine jc_ne (tgt := 113) C d_M_readOne_105 (by decide) (by omega) (by omega) (fun h2 => ?_) (fun h2 => ?_)
      · refine lv_iinc (v := (nI (w + i + 1))) (lv' := [(10, .int (nI (w + i + 1))), (0, .ref x), (1, .ref sp), (2, .int (nI k)), (3, .int (nI n)), (4, .int (nI w)), (5, .int (nI E)), (6, .long (lN mm)), (8, .int (nI ((w + 7) / 8))), (9, .int (nI (bs (ib (gt I)) (8 * a + 0) w)))]) C.x C.b d_M_readOne_113 hl (k := 9) rfl (nI_inc _ 1) (by decide) rfl (fun ls hl => ?_)
        refine lv_goto (tgt := 71) C.x C.b d_M_readOne_116 (by decide) ?_
        exact ih (i + 1) fl (by omega) (by rw [hfl, es, hb1, show gt I (a + (w + i) / 8) / 2 ^ ((w + i) % 8) % 2 = 0 by omega, Nat.zero_mul, Nat.add_zero]) H locs ls hP hD hS (lv_sub hl [1, 2, 3, 4, 5, 6, 7, 8, 9, 0] rfl)
      · refine lv_aload_n C.x C.b d_M_readOne_108 rfl (lv_at hl 0 rfl) ?_
        refine lv_iconst (v := nI 5) C.x C.b d_M_readOne_109 (by decide) ?_
        refine pf (w2 := [oM x 0 ro sp vn w tn im om a 5 tp ip op, aN cI sp 4104 vs, aN cI ip 8192 t]) C hP hD hS 0 3 9 (.int) rfl rfl (by decide) fl_M_32 rfl (by decide +kernel) rfl rfl (Nat.le_of_ble_eq_true rfl) rfl d_M_readOne_110 (fun H locs hP hD hS => ?_)
        refine lv_iinc (v := (nI (w + i + 1))) (lv' := [(10, .int (nI (w + i + 1))), (0, .ref x), (1, .ref sp), (2, .int (nI k)), (3, .int (nI n)), (4, .int (nI w)), (5, .int (nI E)), (6, .long (lN mm)), (8, .int (nI ((w + 7) / 8))), (9, .int (nI (bs (ib (gt I)) (8 * a + 0) w)))]) C.x C.b d_M_readOne_113 hl (k := 9) rfl (nI_inc _ 1) (by decide) rfl (fun ls hl => ?_)
        refine lv_goto (tgt := 71) C.x C.b d_M_readOne_116 (by decide) ?_
        exact ih (i + 1) 5 (by omega) (by rw [if_pos]; rw [es, hb1, h2]; omega) H locs ls hP hD hS (lv_sub hl [1, 2, 3, 4, 5, 6, 7, 8, 9, 0] rfl)
set_option maxHeartbeats 4000000 in
set_option maxRecDepth 100000 in
/-- readOne: the row is filled -/
theorem lp_M_one2 {p : Program} {l : Launch} {e : Env} {R : Room} {s : State} {m : MethodId} {args : Array Value} {below : List Frame} {meth : Method} {c : Code} {D : va_G} {cI cB : ClassId} {A : Nat → Prop} {Q : State → Prop} {cells slots : Nat} (C : Cx p s m args meth c D cI cB b_M_readOne 11 R_M (some .int) "readOne") (hA : ∀ q : Nat, s.heap.size ≤ q → A q) (x ro sp vn w tn im om tp ip op : Nat) (k E n mm y fl xv : Nat) (t v0 : Nat → Nat) (hk : k + mm ≤ 4096) (kk : ∀ (vs : Nat → Nat), (∀ j, j < k + mm → vs j = if k ≤ j then xv else v0 j) → ∀ (H : Heap) (locs : List Loc) (ls : Array Slot), va_P D classes [oM x 0 ro sp vn w tn im om y fl tp ip op, aN cI sp 4104 vs, aN cI ip 8192 t] H → va_D A [oM x 0 ro sp vn w tn im om y fl tp ip op, aN cI sp 4104 vs, aN cI ip 8192 t] → va_S A s.heap H locs → lv_has ls 11 [(0, .ref x), (1, .ref sp), (2, .int (nI k)), (3, .int (nI n)), (4, .int (nI w)), (5, .int (nI E)), (6, .long (lN mm)), (8, .int (nI ((w + 7) / 8))), (9, .int (nI xv)), (10, .int (nI mm))] → W p l e R s m args below meth c H locs cells slots Q (F0 m 156 ls [])) : ∀ (d i : Nat) (vs : Nat → Nat), i + d = mm → (∀ j, j < k + i → vs j = if k ≤ j then xv else v0 j) → ∀ (H : Heap) (locs : List Loc) (ls : Array Slot), va_P D classes [oM x 0 ro sp vn w tn im om y fl tp ip op, aN cI sp 4104 vs, aN cI ip 8192 t] H → va_D A [oM x 0 ro sp vn w tn im om y fl tp ip op, aN cI sp 4104 vs, aN cI ip 8192 t] → va_S A s.heap H locs → lv_has ls 11 [(0, .ref x), (1, .ref sp), (2, .int (nI k)), (3, .int (nI n)), (4, .int (nI w)), (5, .int (nI E)), (6, .long (lN mm)), (8, .int (nI ((w + 7) / 8))), (9, .int (nI xv)), (10, .int (nI i))] → W p l e R s m args below meth c H locs cells slots (Q) (F0 m 133 ls []) := by
  intro d
  induction d with
  | zero =>
    intro i vs hi hvs H locs ls hP hD hS hl
    refine lv_iload C.x C.b d_M_readOne_133 (lv_at hl 9 rfl) ?_
    refine lv_i2l C.x C.b d_M_readOne_135 (nI_l (by omega)) ?_
    refine lv_lload C.x C.b d_M_readOne_136 (lv_at hl 6 rfl) ?_
    refine jl_ge (tgt := 156) C d_M_readOne_138 d_M_readOne_139 (by decide) (by omega) (by omega) (fun h => ?_) (fun h => ?_)
    · obtain rfl : i = mm := by omega
      exact kk vs hvs H locs ls hP hD hS hl
    · exfalso; omega
  | succ d ih =>
    intro i vs hi hvs H locs ls hP hD hS hl
    refine lv_iload C.x C.b d_M_readOne_133 (lv_at hl 9 rfl) ?_
    refine lv_i2l C.x C.b d_M_readOne_135 (nI_l (by omega)) ?_
    refine lv_lload C.x C.b d_M_readOne_136 (lv_at hl 6 rfl) ?_
    refine jl_ge (tgt := 156) C d_M_readOne_138 d_M_readOne_139 (by decide) (by omega) (by omega) (fun h => ?_) (fun h => ?_)
    · exfalso; omega
    · refine lv_aload_n C.x C.b d_M_readOne_142 rfl (lv_at hl 1 rfl) ?_
      refine lv_iload_n C.x C.b d_M_readOne_143 rfl (lv_at hl 2 rfl) ?_
      refine lv_iload C.x C.b d_M_readOne_144 (lv_at hl 9 rfl) ?_
      refine lv_iadd C.x C.b d_M_readOne_146 ?_
      refine ra_i (nI_add _ _) ?_
      refine lv_iload C.x C.b d_M_readOne_147 (lv_at hl 8 rfl) ?_
      refine ist (w2 := [oM x 0 ro sp vn w tn im om y fl tp ip op, aN cI sp 4104 (va_up vs (k + i) xv), aN cI ip 8192 t]) C hP hD hS 1 rfl (by omega) (by omega) rfl d_M_readOne_149 (fun H locs hP hD hS => ?_)
      refine lv_iinc (v := (nI (i + 1))) (lv' := [(10, .int (nI (i + 1))), (0, .ref x), (1, .ref sp), (2, .int (nI k)), (3, .int (nI n)), (4, .int (nI w)), (5, .int (nI E)), (6, .long (lN mm)), (8, .int (nI ((w + 7) / 8))), (9, .int (nI xv))]) C.x C.b d_M_readOne_150 hl (k := 9) rfl (nI_inc _ 1) (by decide) rfl (fun ls hl => ?_)
      refine lv_goto (tgt := 133) C.x C.b d_M_readOne_153 (by decide) ?_
      exact ih (i + 1) _ (by omega) (fun j hj => by
        by_cases q : j = k + i
        · rw [q, up_same, if_pos (by omega)]
        · rw [up_other q]; exact hvs j (by omega)) H locs ls hP hD hS (lv_sub hl [1, 2, 3, 4, 5, 6, 7, 8, 9, 0] rfl)
set_option maxHeartbeats 4000000 in
set_option maxRecDepth 100000 in
/-- readOne -/
theorem c_M_readOne (l : Launch) (D : va_G) (cI cB : ClassId) (x ro sp vn w tn im om tp ip op : Nat) (k E a n mm : Nat) (I : List Nat) (t : Nat → Nat) (hI : Hd t I) (hI8 : ∀ x ∈ I, x < 256) (hE : E ≤ I.length) (hIc : I.length ≤ 8192) (hn : n ≤ 4096) (hw : w ≤ 32) (hk : k < n) (ha : a ≤ E) (hm : mm < 2 ^ 63) (hm1 : 1 ≤ mm) (vs : Nat → Nat) : Ki l D cI cB y_M_readOne b_M_readOne 11 1 25 0 0 .int [.ref x, .ref sp, .int (nI k), .int (nI n), .int (nI w), .int (nI E), .long (lN mm)] [oM x 0 ro sp vn w tn im om a 0 tp ip op, aN cI sp 4104 vs, aN cI ip 8192 t] (fun v w1 => ∃ (k2 f2 a2 : Nat) (vs2 : Nat → Nat), v = nI k2 ∧ w1 = [oM x 0 ro sp vn w tn im om a2 f2 tp ip op, aN cI sp 4104 vs2, aN cI ip 8192 t] ∧ OneQ (gt I) E n w a k mm f2 a2 k2 vs vs2) := by
  refine ent (fun A => va_Qi _ (BW D A) A) (by decide) (Nat.le_of_ble_eq_true rfl) ?_
  intro p e s m below meth c A ls C hA hP hD hS hl
  have hl : lv_has ls 11 [(0, .ref x), (1, .ref sp), (2, .int (nI k)), (3, .int (nI n)), (4, .int (nI w)), (5, .int (nI E)), (6, .long (lN mm))] := hl
  refine lv_iload C.x C.b d_M_readOne_0 (lv_at hl 4 rfl) ?_
  refine lv_bipush (v := nI 7) C.x C.b d_M_readOne_2 (by decide) ?_
  refine lv_iadd C.x C.b d_M_readOne_4 ?_
  refine ra_i (nI_add _ _) ?_
  refine lv_bipush (v := nI 8) C.x C.b d_M_readOne_5 (by decide) ?_
  refine lv_idiv C.x C.b d_M_readOne_7 (nI_ne0 (by omega) (by omega)) ?_
  refine ra_i (pk_div (by omega) (by omega) (by omega)) ?_
  refine lv_istore (lv' := [(8, .int (nI ((w + 7) / 8))), (0, .ref x), (1, .ref sp), (2, .int (nI k)), (3, .int (nI n)), (4, .int (nI w)), (5, .int (nI E)), (6, .long (lN mm))]) C.x C.b d_M_readOne_8 hl (by decide) rfl (fun ls hl => ?_)
  refine lv_lload C.x C.b d_M_readOne_10 (lv_at hl 7 rfl) ?_
  refine lv_iload_n C.x C.b d_M_readOne_12 rfl (lv_at hl 4 rfl) ?_
  refine lv_iload_n C.x C.b d_M_readOne_13 rfl (lv_at hl 3 rfl) ?_
  refine lv_isub C.x C.b d_M_readOne_14 ?_
  refine ra_i (nI_subS (by omega)) ?_
  refine lv_i2l C.x C.b d_M_readOne_15 (nI_l (by omega)) ?_
  refine jl_le (tgt := 28) C d_M_readOne_16 d_M_readOne_17 (by decide) (by omega) (by omega) (fun h1 => ?_) (fun h1 => ?_)
  · refine lv_iload C.x C.b d_M_readOne_28 (lv_at hl 6 rfl) ?_
    refine lv_aload_n C.x C.b d_M_readOne_30 rfl (lv_at hl 1 rfl) ?_
    refine gf C hP 0 3 8 rfl rfl (by decide) fl_M_35 rfl d_M_readOne_31 ?_
    refine lv_isub C.x C.b d_M_readOne_34 ?_
    refine ra_i (nI_subS (by omega)) ?_
    refine lv_iload C.x C.b d_M_readOne_35 (lv_at hl 0 rfl) ?_
    refine jc_ge (tgt := 45) C d_M_readOne_37 (by decide) (by omega) (by omega) (fun h2 => ?_) (fun h2 => ?_)
    · refine lv_aload_n C.x C.b d_M_readOne_45 rfl (lv_at hl 1 rfl) ?_
      refine gf C hP 0 3 9 rfl rfl (by decide) fl_M_32 rfl d_M_readOne_46 ?_
      refine jz_eq (tgt := 54) C d_M_readOne_49 (by decide) (by omega) (fun hz => ?_) (fun hz => ?_)
      · refine lv_aload_n C.x C.b d_M_readOne_54 rfl (lv_at hl 1 rfl) ?_
        refine lv_aload_n C.x C.b d_M_readOne_55 rfl (lv_at hl 1 rfl) ?_
        refine gf C hP 0 3 8 rfl rfl (by decide) fl_M_35 rfl d_M_readOne_56 ?_
        refine lv_iconst (v := nI 0) C.x C.b d_M_readOne_59 (by decide) ?_
        refine lv_iload C.x C.b d_M_readOne_60 (lv_at hl 5 rfl) ?_
        refine ciV (wr := [aN cI sp 4104 vs]) C hA hP hD hS hl.1 (c_M_bitsAt l D cI cB x ro sp vn w tn im om tp ip op a 0 a (0) I t hI hI8 hIc hw (by omega)) ok_M_77 [] [0, 2] [1] 3 0 rfl rfl rfl rfl (by decide) rfl (by decide) (by decide) rfl rfl (Nat.le_of_ble_eq_true rfl) (⟨by (try dsimp only [rmO]); omega, by (try dsimp only [rmO]); omega⟩) (⟨by (try dsimp only [rmO]); omega, by (try dsimp only [rmO]); omega⟩) d_M_readOne_62 ?_
        intro rb w1 H locs hw hP hD hS
        obtain ⟨rfl, rfl⟩ := hw
        have hP : va_P D classes [aN cI sp 4104 vs, oM x 0 ro sp vn w tn im om a 0 tp ip op, aN cI ip 8192 t] H := hP
        have hD : va_D A [aN cI sp 4104 vs, oM x 0 ro sp vn w tn im om a 0 tp ip op, aN cI ip 8192 t] := hD
        have hP : va_P D classes [oM x 0 ro sp vn w tn im om a 0 tp ip op, aN cI sp 4104 vs, aN cI ip 8192 t] H := hP.sub [1, 0, 2] rfl
        have hD : va_D A [oM x 0 ro sp vn w tn im om a 0 tp ip op, aN cI sp 4104 vs, aN cI ip 8192 t] := hD.sub [1, 0, 2] (by decide) rfl
        refine lv_istore (lv' := [(9, .int (nI (bs (ib (gt I)) (8 * a + 0) w))), (8, .int (nI ((w + 7) / 8))), (0, .ref x), (1, .ref sp), (2, .int (nI k)), (3, .int (nI n)), (4, .int (nI w)), (5, .int (nI E)), (6, .long (lN mm))]) C.x C.b d_M_readOne_65 hl (by decide) rfl (fun ls hl => ?_)
        refine lv_iload C.x C.b d_M_readOne_67 (lv_at hl 6 rfl) ?_
        refine lv_istore (lv' := [(10, .int (nI w)), (9, .int (nI (bs (ib (gt I)) (8 * a + 0) w))), (8, .int (nI ((w + 7) / 8))), (0, .ref x), (1, .ref sp), (2, .int (nI k)), (3, .int (nI n)), (4, .int (nI w)), (5, .int (nI E)), (6, .long (lN mm))]) C.x C.b d_M_readOne_69 hl (by decide) rfl (fun ls hl => ?_)
        refine lp_M_one1 C hA x ro sp vn w tn im om tp ip op k E a n mm I t hI hI8 hE hIc hn hw hk ha (by omega) vs (fun H locs ls hP hD hS hl => ?_) (8 * ((w + 7) / 8) - w) 0 0 (by omega) (by rw [if_neg (fun q => q rfl)]) H locs ls hP hD hS (lv_sub hl [3, 4, 5, 6, 7, 8, 9, 2, 1, 0] rfl)
        obtain ⟨fl, hfl⟩ : ∃ z, z = (if bs (ib (gt I)) (8 * a + w) (8 * ((w + 7) / 8) - w) ≠ 0 then 5 else 0) := ⟨_, rfl⟩
        rw [← hfl] at hP hD
        refine lv_aload_n C.x C.b d_M_readOne_119 rfl (lv_at hl 0 rfl) ?_
        refine lv_dup C.x C.b d_M_readOne_120 rfl ?_
        refine gf C hP 0 3 8 rfl rfl (by decide) fl_M_35 rfl d_M_readOne_121 ?_
        refine lv_iload C.x C.b d_M_readOne_124 (lv_at hl 7 rfl) ?_
        refine lv_iadd C.x C.b d_M_readOne_126 ?_
        refine ra_i (nI_add _ _) ?_
        refine pf (w2 := [oM x 0 ro sp vn w tn im om (a + (w + 7) / 8) fl tp ip op, aN cI sp 4104 vs, aN cI ip 8192 t]) C hP hD hS 0 3 8 (.int) rfl rfl (by decide) fl_M_35 rfl (by decide +kernel) rfl rfl (Nat.le_of_ble_eq_true rfl) rfl d_M_readOne_127 (fun H locs hP hD hS => ?_)
        refine lv_iconst (v := nI 0) C.x C.b d_M_readOne_130 (by decide) ?_
        refine lv_istore (lv' := [(10, .int (nI 0)), (0, .ref x), (1, .ref sp), (2, .int (nI k)), (3, .int (nI n)), (4, .int (nI w)), (5, .int (nI E)), (6, .long (lN mm)), (8, .int (nI ((w + 7) / 8))), (9, .int (nI (bs (ib (gt I)) (8 * a + 0) w)))]) C.x C.b d_M_readOne_131 hl (by decide) rfl (fun ls hl => ?_)
        refine lp_M_one2 C hA x ro sp vn w tn im om tp ip op k E n mm (a + (w + 7) / 8) fl (bs (ib (gt I)) (8 * a + 0) w) t vs (by omega) (fun vs2 hvs2 H locs ls hP hD hS hl => ?_) mm 0 vs (by omega) (fun j hj => by rw [if_neg (by omega)]) H locs ls hP hD hS (lv_sub hl [1, 2, 3, 4, 5, 6, 7, 8, 9, 0] rfl)
        refine lv_iload_n C.x C.b d_M_readOne_156 rfl (lv_at hl 2 rfl) ?_
        refine lv_lload C.x C.b d_M_readOne_157 (lv_at hl 6 rfl) ?_
        refine lv_l2i C.x C.b d_M_readOne_159 (lN_i _) ?_
        refine lv_iadd C.x C.b d_M_readOne_160 ?_
        refine ra_i (nI_add _ _) ?_
        have hxd : bs (ib (gt I)) (8 * a) (8 * ((w + 7) / 8)) / 2 ^ w = bs (ib (gt I)) (8 * a + w) (8 * ((w + 7) / 8) - w) := bs_div _ _ (by omega)
        have hxm : bs (ib (gt I)) (8 * a) (8 * ((w + 7) / 8)) % 2 ^ w = bs (ib (gt I)) (8 * a) w := bs_mod _ _ (by omega)
        exact reti C hP hD hS d_M_readOne_161 (rfl) (by omega) (by omega) (by
            refine ⟨_, _, _, vs2, rfl, rfl, by omega, by omega, ?_⟩
            by_cases q : bs (ib (gt I)) (8 * a + w) (8 * ((w + 7) / 8) - w) = 0
            · rw [if_neg (fun z => z q)] at hfl
              have hx0 : bs (ib (gt I)) (8 * a) (8 * ((w + 7) / 8)) / 2 ^ w = 0 := by rw [hxd]; exact q
              have hxe : bs (ib (gt I)) (8 * a) w = bs (ib (gt I)) (8 * a) (8 * ((w + 7) / 8)) := by
                rw [← hxm]
                have h7 := (Nat.div_eq_zero_iff).mp hx0
                have h8 := Nat.two_pow_pos w
                exact Nat.mod_eq_of_lt (by omega)
              refine Or.inr (Or.inr (Or.inr ⟨hfl, h1, by omega, hx0, rfl, rfl, fun j hj => ?_⟩))
              rw [hvs2 j hj, Nat.add_zero, hxe]
            · rw [if_pos q] at hfl
              exact Or.inr (Or.inr (Or.inl ⟨hfl, h1, by omega, by rw [hxd]; exact q⟩)))
      · exact absurd rfl hz
    · refine lv_aload_n C.x C.b d_M_readOne_40 rfl (lv_at hl 1 rfl) ?_
      refine lv_iconst (v := nI 1) C.x C.b d_M_readOne_41 (by decide) ?_
      refine pf (w2 := [oM x 0 ro sp vn w tn im om a 1 tp ip op, aN cI sp 4104 vs, aN cI ip 8192 t]) C hP hD hS 0 3 9 (.int) rfl rfl (by decide) fl_M_32 rfl (by decide +kernel) rfl rfl (Nat.le_of_ble_eq_true rfl) rfl d_M_readOne_42 (fun H locs hP hD hS => ?_)
      refine lv_aload_n C.x C.b d_M_readOne_45 rfl (lv_at hl 1 rfl) ?_
      refine gf C hP 0 3 9 rfl rfl (by decide) fl_M_32 rfl d_M_readOne_46 ?_
      refine jz_eq (tgt := 54) C d_M_readOne_49 (by decide) (by omega) (fun hz => ?_) (fun hz => ?_)
      · exact absurd hz (by decide)
      · refine lv_iload_n C.x C.b d_M_readOne_52 rfl (lv_at hl 3 rfl) ?_
        exact reti C hP hD hS d_M_readOne_53 (rfl) (by omega) (by omega) (⟨_, _, _, vs, rfl, rfl, by omega, by omega, Or.inr (Or.inl ⟨rfl, h1, by omega⟩)⟩)
  · refine lv_aload_n C.x C.b d_M_readOne_20 rfl (lv_at hl 1 rfl) ?_
    refine lv_iconst (v := nI 4) C.x C.b d_M_readOne_21 (by decide) ?_
    refine pf (w2 := [oM x 0 ro sp vn w tn im om a 4 tp ip op, aN cI sp 4104 vs, aN cI ip 8192 t]) C hP hD hS 0 3 9 (.int) rfl rfl (by decide) fl_M_32 rfl (by decide +kernel) rfl rfl (Nat.le_of_ble_eq_true rfl) rfl d_M_readOne_22 (fun H locs hP hD hS => ?_)
    refine lv_goto (tgt := 45) C.x C.b d_M_readOne_25 (by decide) ?_
    refine lv_aload_n C.x C.b d_M_readOne_45 rfl (lv_at hl 1 rfl) ?_
    refine gf C hP 0 3 9 rfl rfl (by decide) fl_M_32 rfl d_M_readOne_46 ?_
    refine jz_eq (tgt := 54) C d_M_readOne_49 (by decide) (by omega) (fun hz => ?_) (fun hz => ?_)
    · exact absurd hz (by decide)
    · refine lv_iload_n C.x C.b d_M_readOne_52 rfl (lv_at hl 3 rfl) ?_
      exact reti C hP hD hS d_M_readOne_53 (rfl) (by omega) (by omega) (⟨_, _, _, vs, rfl, rfl, by omega, by omega, Or.inl ⟨rfl, h1⟩⟩)
set_option maxHeartbeats 4000000 in
set_option maxRecDepth 100000 in
/-- readGroups: the loop -/
theorem lp_M_grp {p : Program} {l : Launch} {e : Env} {R : Room} {s : State} {m : MethodId} {args : Array Value} {below : List Frame} {meth : Method} {c : Code} {D : va_G} {cI cB : ClassId} {A : Nat → Prop} {Q : State → Prop} {cells slots : Nat} (C : Cx p s m args meth c D cI cB b_M_readGroups 10 R_M (some .int) "readGroups") (hA : ∀ q : Nat, s.heap.size ≤ q → A q) (x ro sp vn w tn im om tp ip op : Nat) (k E a n mm : Nat) (I : List Nat) (t : Nat → Nat) (hI : Hd t I) (hI8 : ∀ x ∈ I, x < 256) (hE : E ≤ I.length) (hIc : I.length ≤ 8192) (hn : n ≤ 4096) (hw : w ≤ 32) (hk : k < n) (ha : a ≤ E) (hm : mm ≤ (n - k + 7) / 8) (hmE : a + mm * w ≤ E) (v0 : Nat → Nat) (hR1 : 1 ≤ R.frames) (hR2 : 25 ≤ R.locals) (hRc : cells ≤ R.cells) (hRs : slots ≤ R.slots) (kk : ∀ (vs : Nat → Nat), (∀ j, j < min (k + 8 * mm) n → vs j = if k ≤ j then bs (ib (gt I)) (8 * a + w * (j - k)) w else v0 j) → ∀ (H : Heap) (locs : List Loc) (ls : Array Slot), va_P D classes [oM x 0 ro sp vn w tn im om a (if bad (gt I) (8 * a) w k n (8 * mm) = true then 5 else 0) tp ip op, aN cI sp 4104 vs, aN cI ip 8192 t] H → va_D A [oM x 0 ro sp vn w tn im om a (if bad (gt I) (8 * a) w k n (8 * mm) = true then 5 else 0) tp ip op, aN cI sp 4104 vs, aN cI ip 8192 t] → va_S A s.heap H locs → lv_has ls 10 [(0, .ref x), (1, .ref sp), (2, .int (nI k)), (3, .int (nI n)), (4, .int (nI w)), (5, .int (nI E)), (6, .long (lN mm)), (8, .int (nI (8 * mm)))] → W p l e R s m args below meth c H locs cells slots Q (F0 m 124 ls [])) : ∀ (d i fl : Nat) (vs : Nat → Nat), i + d = 8 * mm → fl = (if bad (gt I) (8 * a) w k n i = true then 5 else 0) → (∀ j, j < min (k + i) n → vs j = if k ≤ j then bs (ib (gt I)) (8 * a + w * (j - k)) w else v0 j) → ∀ (H : Heap) (locs : List Loc) (ls : Array Slot), va_P D classes [oM x 0 ro sp vn w tn im om a fl tp ip op, aN cI sp 4104 vs, aN cI ip 8192 t] H → va_D A [oM x 0 ro sp vn w tn im om a fl tp ip op, aN cI sp 4104 vs, aN cI ip 8192 t] → va_S A s.heap H locs → lv_has ls 10 [(0, .ref x), (1, .ref sp), (2, .int (nI k)), (3, .int (nI n)), (4, .int (nI w)), (5, .int (nI E)), (6, .long (lN mm)), (8, .int (nI i))] → W p l e R s m args below meth c H locs cells slots (Q) (F0 m 59 ls []) := by
  intro d
  induction d with
  | zero =>
    intro i fl vs hi hfl hvs H locs ls hP hD hS hl
    refine lv_iload C.x C.b d_M_readGroups_59 (lv_at hl 7 rfl) ?_
    refine lv_i2l C.x C.b d_M_readGroups_61 (nI_l (by omega)) ?_
    refine lv_ldc2 C.x C.b C.ow (C.ts _ ct_M_81) d_M_readGroups_62 ?_
    refine ra_l (y := lN 8) (by decide) ?_
    refine lv_lload C.x C.b d_M_readGroups_65 (lv_at hl 6 rfl) ?_
    refine lv_lmul C.x C.b d_M_readGroups_67 ?_
    refine ra_l (lN_mul _ _) ?_
    refine jl_ge (tgt := 124) C d_M_readGroups_68 d_M_readGroups_69 (by decide) (by omega) (by omega) (fun h => ?_) (fun h => ?_)
    · obtain rfl : i = 8 * mm := by omega
      subst hfl
      exact kk vs hvs H locs ls hP hD hS hl
    · exfalso; omega
  | succ d ih =>
    intro i fl vs hi hfl hvs H locs ls hP hD hS hl
    have hfl5 : fl ≤ 5 := by rw [hfl]; split <;> omega
    have hwi : w * i + w ≤ 8 * (mm * w) := by
      have q := Nat.mul_le_mul_left w (show i + 1 ≤ 8 * mm by omega)
      rw [Nat.mul_add, Nat.mul_one, Nat.mul_left_comm w 8 mm, Nat.mul_comm w mm] at q
      exact q
    refine lv_iload C.x C.b d_M_readGroups_59 (lv_at hl 7 rfl) ?_
    refine lv_i2l C.x C.b d_M_readGroups_61 (nI_l (by omega)) ?_
    refine lv_ldc2 C.x C.b C.ow (C.ts _ ct_M_81) d_M_readGroups_62 ?_
    refine ra_l (y := lN 8) (by decide) ?_
    refine lv_lload C.x C.b d_M_readGroups_65 (lv_at hl 6 rfl) ?_
    refine lv_lmul C.x C.b d_M_readGroups_67 ?_
    refine ra_l (lN_mul _ _) ?_
    refine jl_ge (tgt := 124) C d_M_readGroups_68 d_M_readGroups_69 (by decide) (by omega) (by omega) (fun h => ?_) (fun h => ?_)
    · exfalso; omega
    · refine lv_aload_n C.x C.b d_M_readGroups_72 rfl (lv_at hl 0 rfl) ?_
      refine lv_aload_n C.x C.b d_M_readGroups_73 rfl (lv_at hl 0 rfl) ?_
      refine gf C hP 0 3 8 rfl rfl (by decide) fl_M_35 rfl d_M_readGroups_74 ?_
      refine lv_iload C.x C.b d_M_readGroups_77 (lv_at hl 4 rfl) ?_
      refine lv_iload C.x C.b d_M_readGroups_79 (lv_at hl 7 rfl) ?_
      refine lv_imul C.x C.b d_M_readGroups_81 ?_
      refine ra_i (pk_mul _ _) ?_
      refine lv_iload C.x C.b d_M_readGroups_82 (lv_at hl 4 rfl) ?_
      refine ciV (wr := [aN cI sp 4104 vs]) C hA hP hD hS hl.1 (c_M_bitsAt l D cI cB x ro sp vn w tn im om tp ip op a fl a (w * i) I t hI hI8 hIc hw (by omega)) ok_M_77 [] [0, 2] [1] 3 0 rfl rfl rfl rfl (by decide) rfl (by decide) (by decide) rfl rfl (Nat.le_of_ble_eq_true rfl) (⟨by (try dsimp only [rmO]); omega, by (try dsimp only [rmO]); omega⟩) (⟨by (try dsimp only [rmO]); omega, by (try dsimp only [rmO]); omega⟩) d_M_readGroups_84 ?_
      intro rb w1 H locs hw hP hD hS
      obtain ⟨rfl, rfl⟩ := hw
      have hP : va_P D classes [aN cI sp 4104 vs, oM x 0 ro sp vn w tn im om a fl tp ip op, aN cI ip 8192 t] H := hP
      have hD : va_D A [aN cI sp 4104 vs, oM x 0 ro sp vn w tn im om a fl tp ip op, aN cI ip 8192 t] := hD
      have hP : va_P D classes [oM x 0 ro sp vn w tn im om a fl tp ip op, aN cI sp 4104 vs, aN cI ip 8192 t] H := hP.sub [1, 0, 2] rfl
      have hD : va_D A [oM x 0 ro sp vn w tn im om a fl tp ip op, aN cI sp 4104 vs, aN cI ip 8192 t] := hD.sub [1, 0, 2] (by decide) rfl
      refine W.widen (k := cells) (n := slots) (by omega) (by omega) ?_
      have hxl := bs_lt (ib (gt I)) (8 * a + w * i) w
      have hpw : (2 : Nat) ^ w ≤ 2 ^ 32 := Nat.pow_le_pow_right (by decide) hw
      refine lv_istore (lv' := [(9, .int (nI (bs (ib (gt I)) (8 * a + w * i) w))), (0, .ref x), (1, .ref sp), (2, .int (nI k)), (3, .int (nI n)), (4, .int (nI w)), (5, .int (nI E)), (6, .long (lN mm)), (8, .int (nI i))]) C.x C.b d_M_readGroups_87 hl (by decide) rfl (fun ls hl => ?_)
      refine lv_iload_n C.x C.b d_M_readGroups_89 rfl (lv_at hl 3 rfl) ?_
      refine lv_iload C.x C.b d_M_readGroups_90 (lv_at hl 8 rfl) ?_
      refine lv_iadd C.x C.b d_M_readGroups_92 ?_
      refine ra_i (nI_add _ _) ?_
      refine lv_iload_n C.x C.b d_M_readGroups_93 rfl (lv_at hl 4 rfl) ?_
      refine jc_ge (tgt := 108) C d_M_readGroups_94 (by decide) (by omega) (by omega) (fun hn9 => ?_) (fun hn9 => ?_)
      · refine lv_iload C.x C.b d_M_readGroups_108 (lv_at hl 0 rfl) ?_
        refine jzw_eq (tgt := 118) C d_M_readGroups_110 (by decide) (by omega) (fun hx0 => ?_) (fun hx0 => ?_)
        · refine lv_iinc (v := (nI (i + 1))) (lv' := [(8, .int (nI (i + 1))), (9, .int (nI (bs (ib (gt I)) (8 * a + w * i) w))), (0, .ref x), (1, .ref sp), (2, .int (nI k)), (3, .int (nI n)), (4, .int (nI w)), (5, .int (nI E)), (6, .long (lN mm))]) C.x C.b d_M_readGroups_118 hl (k := 8) rfl (nI_inc _ 1) (by decide) rfl (fun ls hl => ?_)
          refine lv_goto (tgt := 59) C.x C.b d_M_readGroups_121 (by decide) ?_
          exact ih (i + 1) fl _ (by omega) (by rw [hfl, bad]; simp [hx0]) (fun j hj => hvs j (by omega)) H locs ls hP hD hS (lv_sub hl [2, 3, 4, 5, 6, 7, 8, 0] rfl)
        · refine lv_aload_n C.x C.b d_M_readGroups_113 rfl (lv_at hl 1 rfl) ?_
          refine lv_iconst (v := nI 5) C.x C.b d_M_readGroups_114 (by decide) ?_
          refine pf (w2 := [oM x 0 ro sp vn w tn im om a 5 tp ip op, aN cI sp 4104 vs, aN cI ip 8192 t]) C hP hD hS 0 3 9 (.int) rfl rfl (by decide) fl_M_32 rfl (by decide +kernel) rfl rfl (Nat.le_of_ble_eq_true rfl) rfl d_M_readGroups_115 (fun H locs hP hD hS => ?_)
          refine lv_iinc (v := (nI (i + 1))) (lv' := [(8, .int (nI (i + 1))), (9, .int (nI (bs (ib (gt I)) (8 * a + w * i) w))), (0, .ref x), (1, .ref sp), (2, .int (nI k)), (3, .int (nI n)), (4, .int (nI w)), (5, .int (nI E)), (6, .long (lN mm))]) C.x C.b d_M_readGroups_118 hl (k := 8) rfl (nI_inc _ 1) (by decide) rfl (fun ls hl => ?_)
          refine lv_goto (tgt := 59) C.x C.b d_M_readGroups_121 (by decide) ?_
          exact ih (i + 1) 5 _ (by omega) (by rw [bad]; simp [hx0, hn9]) (fun j hj => hvs j (by omega)) H locs ls hP hD hS (lv_sub hl [2, 3, 4, 5, 6, 7, 8, 0] rfl)
      · refine lv_aload_n C.x C.b d_M_readGroups_97 rfl (lv_at hl 2 rfl) ?_
        refine lv_iload_n C.x C.b d_M_readGroups_98 rfl (lv_at hl 3 rfl) ?_
        refine lv_iload C.x C.b d_M_readGroups_99 (lv_at hl 8 rfl) ?_
        refine lv_iadd C.x C.b d_M_readGroups_101 ?_
        refine ra_i (nI_add _ _) ?_
        refine lv_iload C.x C.b d_M_readGroups_102 (lv_at hl 0 rfl) ?_
        refine ist (w2 := [oM x 0 ro sp vn w tn im om a fl tp ip op, aN cI sp 4104 (va_up vs (k + i) (bs (ib (gt I)) (8 * a + w * i) w)), aN cI ip 8192 t]) C hP hD hS 1 rfl (by omega) (by omega) rfl d_M_readGroups_104 (fun H locs hP hD hS => ?_)
        refine lv_goto (tgt := 118) C.x C.b d_M_readGroups_105 (by decide) ?_
        refine lv_iinc (v := (nI (i + 1))) (lv' := [(8, .int (nI (i + 1))), (9, .int (nI (bs (ib (gt I)) (8 * a + w * i) w))), (0, .ref x), (1, .ref sp), (2, .int (nI k)), (3, .int (nI n)), (4, .int (nI w)), (5, .int (nI E)), (6, .long (lN mm))]) C.x C.b d_M_readGroups_118 hl (k := 8) rfl (nI_inc _ 1) (by decide) rfl (fun ls hl => ?_)
        refine lv_goto (tgt := 59) C.x C.b d_M_readGroups_121 (by decide) ?_
        exact ih (i + 1) fl _ (by omega) (by rw [hfl, bad]; simp [show ¬ n ≤ k + i by omega]) (fun j hj => by
          by_cases q : j = k + i
          · rw [q, up_same, if_pos (by omega), Nat.add_sub_cancel_left]
          · rw [up_other q]; exact hvs j (by omega)) H locs ls hP hD hS (lv_sub hl [2, 3, 4, 5, 6, 7, 8, 0] rfl)
set_option maxHeartbeats 4000000 in
set_option maxRecDepth 100000 in
/-- readGroups -/
theorem c_M_readGroups (l : Launch) (D : va_G) (cI cB : ClassId) (x ro sp vn w tn im om tp ip op : Nat) (k E a n mm : Nat) (I : List Nat) (t : Nat → Nat) (hI : Hd t I) (hI8 : ∀ x ∈ I, x < 256) (hE : E ≤ I.length) (hIc : I.length ≤ 8192) (hn : n ≤ 4096) (hw : w ≤ 32) (hk : k < n) (ha : a ≤ E) (hm : mm < 2 ^ 63) (hm1 : 1 ≤ mm) (vs : Nat → Nat) : Ki l D cI cB y_M_readGroups b_M_readGroups 10 1 25 0 0 .int [.ref x, .ref sp, .int (nI k), .int (nI n), .int (nI w), .int (nI E), .long (lN mm)] [oM x 0 ro sp vn w tn im om a 0 tp ip op, aN cI sp 4104 vs, aN cI ip 8192 t] (fun v w1 => ∃ (k2 f2 a2 : Nat) (vs2 : Nat → Nat), v = nI k2 ∧ w1 = [oM x 0 ro sp vn w tn im om a2 f2 tp ip op, aN cI sp 4104 vs2, aN cI ip 8192 t] ∧ GrpQ (gt I) E n w a k mm f2 a2 k2 vs vs2) := by
  refine ent (fun A => va_Qi _ (BW D A) A) (by decide) (Nat.le_of_ble_eq_true rfl) ?_
  intro p e s m below meth c A ls C hA hP hD hS hl
  have hl : lv_has ls 10 [(0, .ref x), (1, .ref sp), (2, .int (nI k)), (3, .int (nI n)), (4, .int (nI w)), (5, .int (nI E)), (6, .long (lN mm))] := hl
  refine lv_lload C.x C.b d_M_readGroups_0 (lv_at hl 6 rfl) ?_
  refine lv_iload_n C.x C.b d_M_readGroups_2 rfl (lv_at hl 3 rfl) ?_
  refine lv_iload_n C.x C.b d_M_readGroups_3 rfl (lv_at hl 2 rfl) ?_
  refine lv_isub C.x C.b d_M_readGroups_4 ?_
  refine ra_i (nI_subS (by omega)) ?_
  refine lv_bipush (v := nI 7) C.x C.b d_M_readGroups_5 (by decide) ?_
  refine lv_iadd C.x C.b d_M_readGroups_7 ?_
  refine ra_i (nI_add _ _) ?_
  refine lv_bipush (v := nI 8) C.x C.b d_M_readGroups_8 (by decide) ?_
  refine lv_idiv C.x C.b d_M_readGroups_10 (nI_ne0 (by omega) (by omega)) ?_
  refine ra_i (pk_div (by omega) (by omega) (by omega)) ?_
  refine lv_i2l C.x C.b d_M_readGroups_11 (nI_l (by omega)) ?_
  refine jl_le (tgt := 24) C d_M_readGroups_12 d_M_readGroups_13 (by decide) (by omega) (by omega) (fun h1 => ?_) (fun h1 => ?_)
  · have hwm : mm * w ≤ 512 * 32 := Nat.mul_le_mul (by omega) hw
    refine lv_iload C.x C.b d_M_readGroups_24 (lv_at hl 5 rfl) ?_
    refine lv_aload_n C.x C.b d_M_readGroups_26 rfl (lv_at hl 0 rfl) ?_
    refine gf C hP 0 3 8 rfl rfl (by decide) fl_M_35 rfl d_M_readGroups_27 ?_
    refine lv_isub C.x C.b d_M_readGroups_30 ?_
    refine ra_i (nI_subS (by omega)) ?_
    refine lv_i2l C.x C.b d_M_readGroups_31 (nI_l (by omega)) ?_
    refine lv_lload C.x C.b d_M_readGroups_32 (lv_at hl 6 rfl) ?_
    refine lv_iload C.x C.b d_M_readGroups_34 (lv_at hl 4 rfl) ?_
    refine lv_i2l C.x C.b d_M_readGroups_36 (nI_l (by omega)) ?_
    refine lv_lmul C.x C.b d_M_readGroups_37 ?_
    refine ra_l (lN_mul _ _) ?_
    refine jl_ge (tgt := 47) C d_M_readGroups_38 d_M_readGroups_39 (by decide) (by omega) (by omega) (fun h2 => ?_) (fun h2 => ?_)
    · refine lv_aload_n C.x C.b d_M_readGroups_47 rfl (lv_at hl 0 rfl) ?_
      refine gf C hP 0 3 9 rfl rfl (by decide) fl_M_32 rfl d_M_readGroups_48 ?_
      refine jz_eq (tgt := 56) C d_M_readGroups_51 (by decide) (by omega) (fun hz => ?_) (fun hz => ?_)
      · refine lv_iconst (v := nI 0) C.x C.b d_M_readGroups_56 (by decide) ?_
        refine lv_istore (lv' := [(8, .int (nI 0)), (0, .ref x), (1, .ref sp), (2, .int (nI k)), (3, .int (nI n)), (4, .int (nI w)), (5, .int (nI E)), (6, .long (lN mm))]) C.x C.b d_M_readGroups_57 hl (by decide) rfl (fun ls hl => ?_)
        refine lp_M_grp C hA x ro sp vn w tn im om tp ip op k E a n mm I t hI hI8 hE hIc hn hw hk ha h1 (by omega) vs (Nat.le_refl 1) (Nat.le_refl 25) (Nat.le_refl 0) (Nat.le_refl 0) (fun vs2 hvs2 H locs ls hP hD hS hl => ?_) (8 * mm) 0 0 vs (by omega) rfl (fun j hj => by rw [if_neg (by omega)]) _ _ ls hP hD hS (lv_sub hl [1, 2, 3, 4, 5, 6, 7, 0] rfl)
        obtain ⟨fl, hfl⟩ : ∃ z, z = (if bad (gt I) (8 * a) w k n (8 * mm) = true then 5 else 0) := ⟨_, rfl⟩
        rw [← hfl] at hP hD
        refine lv_aload_n C.x C.b d_M_readGroups_124 rfl (lv_at hl 0 rfl) ?_
        refine lv_dup C.x C.b d_M_readGroups_125 rfl ?_
        refine gf C hP 0 3 8 rfl rfl (by decide) fl_M_35 rfl d_M_readGroups_126 ?_
        refine lv_lload C.x C.b d_M_readGroups_129 (lv_at hl 6 rfl) ?_
        refine lv_l2i C.x C.b d_M_readGroups_131 (lN_i _) ?_
        refine lv_iload C.x C.b d_M_readGroups_132 (lv_at hl 4 rfl) ?_
        refine lv_imul C.x C.b d_M_readGroups_134 ?_
        refine ra_i (pk_mul _ _) ?_
        refine lv_iadd C.x C.b d_M_readGroups_135 ?_
        refine ra_i (nI_add _ _) ?_
        refine pf (w2 := [oM x 0 ro sp vn w tn im om (a + mm * w) fl tp ip op, aN cI sp 4104 vs2, aN cI ip 8192 t]) C hP hD hS 0 3 8 (.int) rfl rfl (by decide) fl_M_35 rfl (by decide +kernel) rfl rfl (Nat.le_of_ble_eq_true rfl) rfl d_M_readGroups_136 (fun H locs hP hD hS => ?_)
        refine lv_iload_n C.x C.b d_M_readGroups_139 rfl (lv_at hl 2 rfl) ?_
        refine lv_bipush (v := nI 8) C.x C.b d_M_readGroups_140 (by decide) ?_
        refine lv_lload C.x C.b d_M_readGroups_142 (lv_at hl 6 rfl) ?_
        refine lv_l2i C.x C.b d_M_readGroups_144 (lN_i _) ?_
        refine lv_imul C.x C.b d_M_readGroups_145 ?_
        refine ra_i (pk_mul _ _) ?_
        refine lv_iadd C.x C.b d_M_readGroups_146 ?_
        refine ra_i (nI_add _ _) ?_
        exact reti C hP hD hS d_M_readGroups_147 (rfl) (by omega) (by omega) (by
            refine ⟨_, _, _, vs2, rfl, rfl, by omega, by omega, ?_⟩
            by_cases q : bad (gt I) (8 * a) w k n (8 * mm) = true
            · rw [if_pos q] at hfl; exact Or.inr (Or.inr (Or.inl ⟨hfl, h1, by omega, q⟩))
            · rw [if_neg q] at hfl; exact Or.inr (Or.inr (Or.inr ⟨hfl, h1, by omega, by simpa using q, rfl, rfl, hvs2⟩)))
      · exact absurd rfl hz
    · refine lv_aload_n C.x C.b d_M_readGroups_42 rfl (lv_at hl 0 rfl) ?_
      refine lv_iconst (v := nI 1) C.x C.b d_M_readGroups_43 (by decide) ?_
      refine pf (w2 := [oM x 0 ro sp vn w tn im om a 1 tp ip op, aN cI sp 4104 vs, aN cI ip 8192 t]) C hP hD hS 0 3 9 (.int) rfl rfl (by decide) fl_M_32 rfl (by decide +kernel) rfl rfl (Nat.le_of_ble_eq_true rfl) rfl d_M_readGroups_44 (fun H locs hP hD hS => ?_)
      refine lv_aload_n C.x C.b d_M_readGroups_47 rfl (lv_at hl 0 rfl) ?_
      refine gf C hP 0 3 9 rfl rfl (by decide) fl_M_32 rfl d_M_readGroups_48 ?_
      refine jz_eq (tgt := 56) C d_M_readGroups_51 (by decide) (by omega) (fun hz => ?_) (fun hz => ?_)
      · exact absurd hz (by decide)
      · refine lv_iload_n C.x C.b d_M_readGroups_54 rfl (lv_at hl 2 rfl) ?_
        exact reti C hP hD hS d_M_readGroups_55 (rfl) (by omega) (by omega) (⟨_, _, _, vs, rfl, rfl, by omega, by omega, Or.inr (Or.inl ⟨rfl, h1, by omega⟩)⟩)
  · refine lv_aload_n C.x C.b d_M_readGroups_16 rfl (lv_at hl 0 rfl) ?_
    refine lv_iconst (v := nI 4) C.x C.b d_M_readGroups_17 (by decide) ?_
    refine pf (w2 := [oM x 0 ro sp vn w tn im om a 4 tp ip op, aN cI sp 4104 vs, aN cI ip 8192 t]) C hP hD hS 0 3 9 (.int) rfl rfl (by decide) fl_M_32 rfl (by decide +kernel) rfl rfl (Nat.le_of_ble_eq_true rfl) rfl d_M_readGroups_18 (fun H locs hP hD hS => ?_)
    refine lv_goto (tgt := 47) C.x C.b d_M_readGroups_21 (by decide) ?_
    refine lv_aload_n C.x C.b d_M_readGroups_47 rfl (lv_at hl 0 rfl) ?_
    refine gf C hP 0 3 9 rfl rfl (by decide) fl_M_32 rfl d_M_readGroups_48 ?_
    refine jz_eq (tgt := 56) C d_M_readGroups_51 (by decide) (by omega) (fun hz => ?_) (fun hz => ?_)
    · exact absurd hz (by decide)
    · refine lv_iload_n C.x C.b d_M_readGroups_54 rfl (lv_at hl 2 rfl) ?_
      exact reti C hP hD hS d_M_readGroups_55 (rfl) (by omega) (by omega) (⟨_, _, _, vs, rfl, rfl, by omega, by omega, Or.inl ⟨rfl, h1⟩⟩)
end
section
/-! contracts of RunRowsModel: readRuns, decode (printed by gen/m5.py) -/
set_option maxHeartbeats 4000000 in
set_option maxRecDepth 100000 in
/-- readRuns: the loop -/
theorem lp_M_readRuns {p : Program} {l : Launch} {e : Env} {R : Room} {s : State} {m : MethodId} {args : Array Value} {below : List Frame} {meth : Method} {c : Code} {D : va_G} {cI cB : ClassId} {A : Nat → Prop} (C : Cx p s m args meth c D cI cB b_M_readRuns 10 R_M none "readRuns") (hA : ∀ q : Nat, s.heap.size ≤ q → A q) (x ro sp vn w tn im om tp ip op : Nat) (E n : Nat) (I : List Nat) (t : Nat → Nat) (hI : Hd t I) (hI8 : ∀ x ∈ I, x < 256) (hE : E ≤ I.length) (hIc : I.length ≤ 8192) (hn : n ≤ 4096) (hw : w ≤ 32) (post : va_W → Prop) (hR1 : 2 ≤ R.frames) (hR2 : 55 ≤ R.locals) : ∀ (d k a : Nat) (vs r0 : Nat → Nat), n ≤ min k n + d → k ≤ n + 7 → a ≤ E → (∀ j, j < min k n → vs j = r0 j) → (∀ w1 : va_W, (∃ (f2 a2 : Nat) (vs2 : Nat → Nat), w1 = [oM x 0 ro sp vn w tn im om a2 f2 tp ip op, aN cI sp 4104 vs2, aN cI ip 8192 t] ∧ a2 ≤ 65536 ∧ f2 = (dcF (gt I) E n w d a (min k n) r0).1 ∧ (f2 = 0 → a2 = (dcF (gt I) E n w d a (min k n) r0).2.1 ∧ ∀ j, j < n → vs2 j = (dcF (gt I) E n w d a (min k n) r0).2.2 j)) → post w1) → ∀ (H : Heap) (locs : List Loc) (ls : Array Slot), va_P D classes [oM x 0 ro sp vn w tn im om a 0 tp ip op, aN cI sp 4104 vs, aN cI ip 8192 t] H → va_D A [oM x 0 ro sp vn w tn im om a 0 tp ip op, aN cI sp 4104 vs, aN cI ip 8192 t] → va_S A s.heap H locs → lv_has ls 10 [(0, .ref x), (1, .ref sp), (2, .int (nI n)), (3, .int (nI w)), (4, .int (nI E)), (5, .int (nI k))] → W p l e R s m args below meth c H locs 0 0 (MQ below (va_Qv post (BW D A) A) args s 0 0 A) (F0 m 3 ls []) := by
  intro d
  induction d with
  | zero =>
    intro k a vs r0 hd hk ha hvs hp H locs ls hP hD hS hl
    refine lv_iload C.x C.b d_M_readRuns_3 (lv_at hl 5 rfl) ?_
    refine lv_iload_n C.x C.b d_M_readRuns_5 rfl (lv_at hl 2 rfl) ?_
    refine jc_ge (tgt := 98) C d_M_readRuns_6 (by decide) (by omega) (by omega) (fun h => ?_) (fun h => ?_)
    · exact retv C hP hD hS d_M_readRuns_98 (by omega) (by omega) (hp _ ⟨_, _, _, rfl, by omega, by rw [dcF_done (by omega)], fun _ => by rw [dcF_done (by omega)]; exact ⟨rfl, fun j hj => hvs j (by omega)⟩⟩)
    · exfalso; omega
  | succ d ih =>
    intro k a vs r0 hd hk ha hvs hp H locs ls hP hD hS hl
    refine lv_iload C.x C.b d_M_readRuns_3 (lv_at hl 5 rfl) ?_
    refine lv_iload_n C.x C.b d_M_readRuns_5 rfl (lv_at hl 2 rfl) ?_
    refine jc_ge (tgt := 98) C d_M_readRuns_6 (by decide) (by omega) (by omega) (fun h => ?_) (fun h => ?_)
    · exact retv C hP hD hS d_M_readRuns_98 (by omega) (by omega) (hp _ ⟨_, _, _, rfl, by omega, by rw [dcF_done (by omega)], fun _ => by rw [dcF_done (by omega)]; exact ⟨rfl, fun j hj => hvs j (by omega)⟩⟩)
    · have emn : min k n = k := by omega
      rw [emn] at hp hvs
      refine lv_aload_n C.x C.b d_M_readRuns_9 rfl (lv_at hl 0 rfl) ?_
      refine gf C hP 0 3 9 rfl rfl (by decide) fl_M_32 rfl d_M_readRuns_10 ?_
      refine jz_ne (tgt := 98) C d_M_readRuns_13 (by decide) (by omega) (fun h2 => ?_) (fun h2 => ?_)
      · exact absurd rfl h2
      · refine lv_aload_n C.x C.b d_M_readRuns_16 rfl (lv_at hl 0 rfl) ?_
        refine lv_iload C.x C.b d_M_readRuns_17 (lv_at hl 4 rfl) ?_
        refine clV (wr := [aN cI sp 4104 vs]) C hA hP hD hS hl.1 (c_M_varint l D cI cB x ro sp vn w tn im om tp ip op a E I t hI hI8 hE hIc ha) ok_M_66 [] [0, 2] [1] 3 0 rfl rfl rfl rfl (by decide) rfl (by decide) (by decide) rfl rfl (Nat.le_of_ble_eq_true rfl) (⟨by omega, by omega⟩) (⟨Nat.zero_le _, Nat.zero_le _⟩) d_M_readRuns_19 ?_
        intro rv w1 H locs hw9 hP hD hS
        obtain ⟨rfl, hrv⟩ := hw9
        have hv64 := vr_lt (t := gt I) (E := E) 10 0 a 0 rfl (by decide) (by decide)
        have hvat := vr_at (t := gt I) 10 0 a 0 ha
        have hvf := vr_f (t := gt I) (E := E) 10 0 a 0
        have e1 := dcF_vr (t := gt I) (E := E) (w := w) (d := d) (a := a) (r := r0) h
        have e2 := dcF_empty (t := gt I) (E := E) (w := w) (d := d) (a := a) (r := r0) h
        have e3 := fun f2 a2 k2 vs2 => dcF_one (t := gt I) (E := E) (w := w) (d := d) (a := a) (r := r0) (vs := vs) (f2 := f2) (a2 := a2) (k2 := k2) (vs2 := vs2) h
        have e4 := fun f2 a2 k2 vs2 => dcF_grp (t := gt I) (E := E) (w := w) (d := d) (a := a) (r := r0) (vs := vs) (f2 := f2) (a2 := a2) (k2 := k2) (vs2 := vs2) h
        generalize vr (gt I) E 10 0 a 0 = vq at *
        obtain ⟨vf, va, vv⟩ := vq
        dsimp only at hrv hP hD hv64 hvat hvf e1 e2 e3 e4
        have hP : va_P D classes [aN cI sp 4104 vs, oM x 0 ro sp vn w tn im om va vf tp ip op, aN cI ip 8192 t] H := hP
        have hD : va_D A [aN cI sp 4104 vs, oM x 0 ro sp vn w tn im om va vf tp ip op, aN cI ip 8192 t] := hD
        have hP : va_P D classes [oM x 0 ro sp vn w tn im om va vf tp ip op, aN cI sp 4104 vs, aN cI ip 8192 t] H := hP.sub [1, 0, 2] rfl
        have hD : va_D A [oM x 0 ro sp vn w tn im om va vf tp ip op, aN cI sp 4104 vs, aN cI ip 8192 t] := hD.sub [1, 0, 2] (by decide) rfl
        refine lv_lstore (lv' := [(6, .long rv), (0, .ref x), (1, .ref sp), (2, .int (nI n)), (3, .int (nI w)), (4, .int (nI E)), (5, .int (nI k))]) C.x C.b d_M_readRuns_22 hl (by decide) rfl (fun ls hl => ?_)
        refine lv_aload_n C.x C.b d_M_readRuns_24 rfl (lv_at hl 1 rfl) ?_
        refine gf C hP 0 3 9 rfl rfl (by decide) fl_M_32 rfl d_M_readRuns_25 ?_
        refine jz_eq (tgt := 32) C d_M_readRuns_28 (by decide) (by omega) (fun h3 => ?_) (fun h3 => ?_)
        · obtain rfl : rv = lN vv := hrv h3
          subst h3
          have hP : va_P D classes [oM x 0 ro sp vn w tn im om va 0 tp ip op, aN cI sp 4104 vs, aN cI ip 8192 t] H := hP
          have hD : va_D A [oM x 0 ro sp vn w tn im om va 0 tp ip op, aN cI sp 4104 vs, aN cI ip 8192 t] := hD
          refine lv_lload C.x C.b d_M_readRuns_32 (lv_at hl 0 rfl) ?_
          refine lv_iconst (v := nI 1) C.x C.b d_M_readRuns_34 (by decide) ?_
          refine lv_lushr C.x C.b d_M_readRuns_35 (wb_shr (by omega) (by omega)) ?_
          refine ra_l (y := lN (vv / 2)) (rfl) ?_
          refine lv_lstore (lv' := [(8, .long (lN (vv / 2))), (6, .long (lN vv)), (0, .ref x), (1, .ref sp), (2, .int (nI n)), (3, .int (nI w)), (4, .int (nI E)), (5, .int (nI k))]) C.x C.b d_M_readRuns_36 hl (by decide) rfl (fun ls hl => ?_)
          refine lv_lload C.x C.b d_M_readRuns_38 (lv_at hl 0 rfl) ?_
          refine lv_lconst (v := lN 0) C.x C.b d_M_readRuns_40 (by decide) ?_
          refine jl_ne (tgt := 53) C d_M_readRuns_41 d_M_readRuns_42 (by decide) (by omega) (by omega) (fun h4 => ?_) (fun h4 => ?_)
          · refine lv_lload C.x C.b d_M_readRuns_53 (lv_at hl 1 rfl) ?_
            refine lv_lconst (v := lN 1) C.x C.b d_M_readRuns_55 (by decide) ?_
            refine lv_land C.x C.b d_M_readRuns_56 ?_
            refine ra_l (y := lN (vv % 2)) (wb_a1 hv64) ?_
            refine lv_lconst (v := lN 0) C.x C.b d_M_readRuns_57 (by decide) ?_
            refine jl_ne (tgt := 80) C d_M_readRuns_58 d_M_readRuns_59 (by decide) (by omega) (by omega) (fun h5 => ?_) (fun h5 => ?_)
            · refine lv_aload_n C.x C.b d_M_readRuns_80 rfl (lv_at hl 2 rfl) ?_
              refine lv_aload_n C.x C.b d_M_readRuns_81 rfl (lv_at hl 3 rfl) ?_
              refine lv_iload C.x C.b d_M_readRuns_82 (lv_at hl 7 rfl) ?_
              refine lv_iload_n C.x C.b d_M_readRuns_84 rfl (lv_at hl 4 rfl) ?_
              refine lv_iload_n C.x C.b d_M_readRuns_85 rfl (lv_at hl 5 rfl) ?_
              refine lv_iload C.x C.b d_M_readRuns_86 (lv_at hl 6 rfl) ?_
              refine lv_lload C.x C.b d_M_readRuns_88 (lv_at hl 0 rfl) ?_
              refine ciV (wr := []) C hA hP hD hS hl.1 (c_M_readGroups l D cI cB x ro sp vn w tn im om tp ip op k E va n (vv / 2) I t hI hI8 hE hIc hn hw h hvat (by omega) (by omega) vs) ok_M_74 [] [0, 1, 2] [] 3 0 rfl rfl rfl rfl (by decide) rfl (by decide) (by decide) rfl rfl (Nat.le_of_ble_eq_true rfl) (⟨by omega, by omega⟩) (⟨Nat.zero_le _, Nat.zero_le _⟩) d_M_readRuns_90 ?_
              intro rk w1 H locs hw9 hP hD hS
              obtain ⟨k2, f2, a2, vs2, rfl, rfl, hq9⟩ := hw9
              have hP : va_P D classes [oM x 0 ro sp vn w tn im om a2 f2 tp ip op, aN cI sp 4104 vs2, aN cI ip 8192 t] H := hP
              have hD : va_D A [oM x 0 ro sp vn w tn im om a2 f2 tp ip op, aN cI sp 4104 vs2, aN cI ip 8192 t] := hD
              have hk29 := hq9.1
              have ha29 := hq9.2.1
              have hst := e4 f2 a2 k2 vs2 rfl h4 h5 hvs hq9
              have hf29 : f2 ≤ 5 := by obtain ⟨-, -, q | q | q | q⟩ := hq9 <;> omega
              refine lv_istore (lv' := [(5, .int (nI k2)), (8, .long (lN (vv / 2))), (6, .long (lN vv)), (0, .ref x), (1, .ref sp), (2, .int (nI n)), (3, .int (nI w)), (4, .int (nI E))]) C.x C.b d_M_readRuns_93 hl (by decide) rfl (fun ls hl => ?_)
              refine lv_goto (tgt := 3) C.x C.b d_M_readRuns_95 (by decide) ?_
              rcases hst with ⟨hf2, hs1⟩ | ⟨rfl, hs1, hs2, r2, hs3, hs4⟩
              · refine lv_iload C.x C.b d_M_readRuns_3 (lv_at hl 0 rfl) ?_
                refine lv_iload_n C.x C.b d_M_readRuns_5 rfl (lv_at hl 5 rfl) ?_
                refine jc_ge (tgt := 98) C d_M_readRuns_6 (by decide) (by omega) (by omega) (fun hz => ?_) (fun hz => ?_)
                · exact retv C hP hD hS d_M_readRuns_98 (by omega) (by omega) (hp _ ⟨_, _, _, rfl, by omega, hs1.symm, fun z => absurd z hf2⟩)
                · refine lv_aload_n C.x C.b d_M_readRuns_9 rfl (lv_at hl 3 rfl) ?_
                  refine gf C hP 0 3 9 rfl rfl (by decide) fl_M_32 rfl d_M_readRuns_10 ?_
                  refine jz_ne (tgt := 98) C d_M_readRuns_13 (by decide) (by omega) (fun hz2 => ?_) (fun hz2 => ?_)
                  · exact retv C hP hD hS d_M_readRuns_98 (by omega) (by omega) (hp _ ⟨_, _, _, rfl, by omega, hs1.symm, fun z => absurd z hf2⟩)
                  · exact absurd hz2 (hf2)
              · exact ih k2 a2 vs2 r2 (by omega) (by omega) hs2 hs4 (fun w1 q => hp w1 (by rw [hs3]; exact q)) H locs ls hP hD hS (lv_sub hl [3, 4, 5, 6, 7, 0] rfl)
            · refine lv_aload_n C.x C.b d_M_readRuns_62 rfl (lv_at hl 2 rfl) ?_
              refine lv_aload_n C.x C.b d_M_readRuns_63 rfl (lv_at hl 3 rfl) ?_
              refine lv_iload C.x C.b d_M_readRuns_64 (lv_at hl 7 rfl) ?_
              refine lv_iload_n C.x C.b d_M_readRuns_66 rfl (lv_at hl 4 rfl) ?_
              refine lv_iload_n C.x C.b d_M_readRuns_67 rfl (lv_at hl 5 rfl) ?_
              refine lv_iload C.x C.b d_M_readRuns_68 (lv_at hl 6 rfl) ?_
              refine lv_lload C.x C.b d_M_readRuns_70 (lv_at hl 0 rfl) ?_
              refine ciV (wr := []) C hA hP hD hS hl.1 (c_M_readOne l D cI cB x ro sp vn w tn im om tp ip op k E va n (vv / 2) I t hI hI8 hE hIc hn hw h hvat (by omega) (by omega) vs) ok_M_70 [] [0, 1, 2] [] 3 0 rfl rfl rfl rfl (by decide) rfl (by decide) (by decide) rfl rfl (Nat.le_of_ble_eq_true rfl) (⟨by omega, by omega⟩) (⟨Nat.zero_le _, Nat.zero_le _⟩) d_M_readRuns_72 ?_
              intro rk w1 H locs hw9 hP hD hS
              obtain ⟨k2, f2, a2, vs2, rfl, rfl, hq9⟩ := hw9
              have hP : va_P D classes [oM x 0 ro sp vn w tn im om a2 f2 tp ip op, aN cI sp 4104 vs2, aN cI ip 8192 t] H := hP
              have hD : va_D A [oM x 0 ro sp vn w tn im om a2 f2 tp ip op, aN cI sp 4104 vs2, aN cI ip 8192 t] := hD
              have hk29 := hq9.1
              have ha29 := hq9.2.1
              have hst := e3 f2 a2 k2 vs2 rfl h4 h5 hvs hq9
              have hf29 : f2 ≤ 5 := by obtain ⟨-, -, q | q | q | q⟩ := hq9 <;> omega
              refine lv_istore (lv' := [(5, .int (nI k2)), (8, .long (lN (vv / 2))), (6, .long (lN vv)), (0, .ref x), (1, .ref sp), (2, .int (nI n)), (3, .int (nI w)), (4, .int (nI E))]) C.x C.b d_M_readRuns_75 hl (by decide) rfl (fun ls hl => ?_)
              refine lv_goto (tgt := 95) C.x C.b d_M_readRuns_77 (by decide) ?_
              refine lv_goto (tgt := 3) C.x C.b d_M_readRuns_95 (by decide) ?_
              rcases hst with ⟨hf2, hs1⟩ | ⟨rfl, hs1, hs2, r2, hs3, hs4⟩
              · refine lv_iload C.x C.b d_M_readRuns_3 (lv_at hl 0 rfl) ?_
                refine lv_iload_n C.x C.b d_M_readRuns_5 rfl (lv_at hl 5 rfl) ?_
                refine jc_ge (tgt := 98) C d_M_readRuns_6 (by decide) (by omega) (by omega) (fun hz => ?_) (fun hz => ?_)
                · exact retv C hP hD hS d_M_readRuns_98 (by omega) (by omega) (hp _ ⟨_, _, _, rfl, by omega, hs1.symm, fun z => absurd z hf2⟩)
                · refine lv_aload_n C.x C.b d_M_readRuns_9 rfl (lv_at hl 3 rfl) ?_
                  refine gf C hP 0 3 9 rfl rfl (by decide) fl_M_32 rfl d_M_readRuns_10 ?_
                  refine jz_ne (tgt := 98) C d_M_readRuns_13 (by decide) (by omega) (fun hz2 => ?_) (fun hz2 => ?_)
                  · exact retv C hP hD hS d_M_readRuns_98 (by omega) (by omega) (hp _ ⟨_, _, _, rfl, by omega, hs1.symm, fun z => absurd z hf2⟩)
                  · exact absurd hz2 (hf2)
              · exact ih k2 a2 vs2 r2 (by omega) (by omega) hs2 hs4 (fun w1 q => hp w1 (by rw [hs3]; exact q)) H locs ls hP hD hS (lv_sub hl [3, 4, 5, 6, 7, 0] rfl)
          · refine lv_aload_n C.x C.b d_M_readRuns_45 rfl (lv_at hl 2 rfl) ?_
            refine lv_iconst (v := nI 3) C.x C.b d_M_readRuns_46 (by decide) ?_
            refine pf (w2 := [oM x 0 ro sp vn w tn im om va 3 tp ip op, aN cI sp 4104 vs, aN cI ip 8192 t]) C hP hD hS 0 3 9 (.int) rfl rfl (by decide) fl_M_32 rfl (by decide +kernel) rfl rfl (Nat.le_of_ble_eq_true rfl) rfl d_M_readRuns_47 (fun H locs hP hD hS => ?_)
            refine lv_goto (tgt := 95) C.x C.b d_M_readRuns_50 (by decide) ?_
            refine lv_goto (tgt := 3) C.x C.b d_M_readRuns_95 (by decide) ?_
            refine lv_iload C.x C.b d_M_readRuns_3 (lv_at hl 7 rfl) ?_
            refine lv_iload_n C.x C.b d_M_readRuns_5 rfl (lv_at hl 4 rfl) ?_
            refine jc_ge (tgt := 98) C d_M_readRuns_6 (by decide) (by omega) (by omega) (fun hz => ?_) (fun hz => ?_)
            · exact retv C hP hD hS d_M_readRuns_98 (by omega) (by omega) (hp _ ⟨_, _, _, rfl, by omega, by rw [e2 rfl h4], fun z => absurd z (by decide)⟩)
            · refine lv_aload_n C.x C.b d_M_readRuns_9 rfl (lv_at hl 2 rfl) ?_
              refine gf C hP 0 3 9 rfl rfl (by decide) fl_M_32 rfl d_M_readRuns_10 ?_
              refine jz_ne (tgt := 98) C d_M_readRuns_13 (by decide) (by omega) (fun hz2 => ?_) (fun hz2 => ?_)
              · exact retv C hP hD hS d_M_readRuns_98 (by omega) (by omega) (hp _ ⟨_, _, _, rfl, by omega, by rw [e2 rfl h4], fun z => absurd z (by decide)⟩)
              · exact absurd hz2 (by decide)
        · exact retv C hP hD hS d_M_readRuns_31 (by omega) (by omega) (hp _ ⟨_, _, _, rfl, by omega, by rw [e1 h3], fun z => absurd z h3⟩)
set_option maxHeartbeats 4000000 in
set_option maxRecDepth 100000 in
/-- readRuns -/
theorem c_M_readRuns (l : Launch) (D : va_G) (cI cB : ClassId) (x ro sp vn w tn im om tp ip op : Nat) (E n : Nat) (I : List Nat) (t : Nat → Nat) (hI : Hd t I) (hI8 : ∀ x ∈ I, x < 256) (hE : E ≤ I.length) (hIc : I.length ≤ 8192) (hn : n ≤ 4096) (hw : w ≤ 32) (vs : Nat → Nat) : Kv l D cI cB y_M_readRuns b_M_readRuns 10 2 55 0 0 [.ref x, .ref sp, .int (nI n), .int (nI w), .int (nI E)] [oM x 0 ro sp vn w tn im om 0 0 tp ip op, aN cI sp 4104 vs, aN cI ip 8192 t] (fun w1 => (∃ (f2 a2 : Nat) (vs2 : Nat → Nat), w1 = [oM x 0 ro sp vn w tn im om a2 f2 tp ip op, aN cI sp 4104 vs2, aN cI ip 8192 t] ∧ a2 ≤ 65536 ∧ f2 = (dcF (gt I) E n w n 0 0 (fun _ => 0)).1 ∧ (f2 = 0 → a2 = (dcF (gt I) E n w n 0 0 (fun _ => 0)).2.1 ∧ ∀ j, j < n → vs2 j = (dcF (gt I) E n w n 0 0 (fun _ => 0)).2.2 j))) := by
  refine ent (fun A => va_Qv _ (BW D A) A) (by decide) (Nat.le_of_ble_eq_true rfl) ?_
  intro p e s m below meth c A ls C hA hP hD hS hl
  have hl : lv_has ls 10 [(0, .ref x), (1, .ref sp), (2, .int (nI n)), (3, .int (nI w)), (4, .int (nI E))] := hl
  refine lv_iconst (v := nI 0) C.x C.b d_M_readRuns_0 (by decide) ?_
  refine lv_istore (lv' := [(5, .int (nI 0)), (0, .ref x), (1, .ref sp), (2, .int (nI n)), (3, .int (nI w)), (4, .int (nI E))]) C.x C.b d_M_readRuns_1 hl (by decide) rfl (fun ls hl => ?_)
  exact lp_M_readRuns C hA x ro sp vn w tn im om tp ip op E n I t hI hI8 hE hIc hn hw _ (Nat.le_refl 2) (Nat.le_refl 55) n 0 0 vs (fun _ => 0) (by omega) (by omega) (by omega) (fun j hj => by omega) (fun w1 q => by rw [Nat.zero_min] at q; exact q) _ _ ls hP hD hS (lv_sub hl [1, 2, 3, 4, 5, 0] rfl)
set_option maxHeartbeats 4000000 in
set_option maxRecDepth 100000 in
/-- decode: the copy -/
theorem lp_M_decode {p : Program} {l : Launch} {e : Env} {R : Room} {s : State} {m : MethodId} {args : Array Value} {below : List Frame} {meth : Method} {c : Code} {D : va_G} {cI cB : ClassId} {A : Nat → Prop} {Q : State → Prop} {cells slots : Nat} (C : Cx p s m args meth c D cI cB b_M_decode 3 R_M (some .int) "decode") (hA : ∀ q : Nat, s.heap.size ≤ q → A q) (x ro sp tp ip op a2 : Nat) (tt ti to_ vs : Nat → Nat) (T I O V : List Nat) (w x1 : Nat) (hx1 : x1 ≤ 4096) (kk : ∀ (v : Nat → Nat), (∀ j, j < x1 → v j = vs j) → ∀ (H : Heap) (locs : List Loc) (ls : Array Slot), va_P D classes [oM x 0 ro sp V.length w T.length I.length O.length a2 0 tp ip op, aN cI ro 4096 v, aN cI sp 4104 vs, aN cI tp 8192 tt, aN cI ip 8192 ti, aN cI op 24000 to_] H → va_D A [oM x 0 ro sp V.length w T.length I.length O.length a2 0 tp ip op, aN cI ro 4096 v, aN cI sp 4104 vs, aN cI tp 8192 tt, aN cI ip 8192 ti, aN cI op 24000 to_] → va_S A s.heap H locs → lv_has ls 3 [(0, .ref x), (1, .int (nI x1)), (2, .int (nI x1))] → W p l e R s m args below meth c H locs cells slots Q (F0 m 101 ls [])) : ∀ (d i : Nat) (v : Nat → Nat), i + d = x1 → (∀ j, j < i → v j = vs j) → ∀ (H : Heap) (locs : List Loc) (ls : Array Slot), va_P D classes [oM x 0 ro sp V.length w T.length I.length O.length a2 0 tp ip op, aN cI ro 4096 v, aN cI sp 4104 vs, aN cI tp 8192 tt, aN cI ip 8192 ti, aN cI op 24000 to_] H → va_D A [oM x 0 ro sp V.length w T.length I.length O.length a2 0 tp ip op, aN cI ro 4096 v, aN cI sp 4104 vs, aN cI tp 8192 tt, aN cI ip 8192 ti, aN cI op 24000 to_] → va_S A s.heap H locs → lv_has ls 3 [(0, .ref x), (1, .int (nI x1)), (2, .int (nI i))] → W p l e R s m args below meth c H locs cells slots (Q) (F0 m 71 ls []) := by
  intro d
  induction d with
  | zero =>
    intro i v hi hvs H locs ls hP hD hS hl
    refine lv_iload_n C.x C.b d_M_decode_71 rfl (lv_at hl 2 rfl) ?_
    refine lv_iload_n C.x C.b d_M_decode_72 rfl (lv_at hl 1 rfl) ?_
    refine jc_ge (tgt := 101) C d_M_decode_73 (by decide) (by omega) (by omega) (fun h => ?_) (fun h => ?_)
    · obtain rfl : i = x1 := by omega
      exact kk v hvs H locs ls hP hD hS hl
    · exfalso; omega
  | succ d ih =>
    intro i v hi hvs H locs ls hP hD hS hl
    refine lv_iload_n C.x C.b d_M_decode_71 rfl (lv_at hl 2 rfl) ?_
    refine lv_iload_n C.x C.b d_M_decode_72 rfl (lv_at hl 1 rfl) ?_
    refine jc_ge (tgt := 101) C d_M_decode_73 (by decide) (by omega) (by omega) (fun h => ?_) (fun h => ?_)
    · exfalso; omega
    · refine lv_aload_n C.x C.b d_M_decode_76 rfl (lv_at hl 0 rfl) ?_
      refine gf C hP 0 3 9 rfl rfl (by decide) fl_M_32 rfl d_M_decode_77 ?_
      refine jz_ne (tgt := 101) C d_M_decode_80 (by decide) (by omega) (fun h2 => ?_) (fun h2 => ?_)
      · exact absurd rfl h2
      · refine lv_aload_n C.x C.b d_M_decode_83 rfl (lv_at hl 0 rfl) ?_
        refine gf C hP 0 3 1 rfl rfl (by decide) fl_M_7 rfl d_M_decode_84 ?_
        refine lv_iload_n C.x C.b d_M_decode_87 rfl (lv_at hl 2 rfl) ?_
        refine lv_aload_n C.x C.b d_M_decode_88 rfl (lv_at hl 0 rfl) ?_
        refine gf C hP 0 3 2 rfl rfl (by decide) fl_M_13 rfl d_M_decode_89 ?_
        refine lv_iload_n C.x C.b d_M_decode_92 rfl (lv_at hl 2 rfl) ?_
        refine ild C hP 2 rfl (by omega) (by omega) d_M_decode_93 ?_
        refine ist (w2 := [oM x 0 ro sp V.length w T.length I.length O.length a2 0 tp ip op, aN cI ro 4096 (va_up v i (vs i)), aN cI sp 4104 vs, aN cI tp 8192 tt, aN cI ip 8192 ti, aN cI op 24000 to_]) C hP hD hS 1 rfl (by omega) (by omega) rfl d_M_decode_94 (fun H locs hP hD hS => ?_)
        refine lv_iinc (v := (nI (i + 1))) (lv' := [(2, .int (nI (i + 1))), (0, .ref x), (1, .int (nI x1))]) C.x C.b d_M_decode_95 hl (k := 2) rfl (nI_inc _ 1) (by decide) rfl (fun ls hl => ?_)
        refine lv_goto (tgt := 71) C.x C.b d_M_decode_98 (by decide) ?_
        exact ih (i + 1) _ (by omega) (fun j hj => by
          by_cases q : j = i
          · rw [q]; exact up_same
          · rw [up_other q]; exact hvs j (by omega)) H locs ls hP hD hS (lv_sub hl [1, 2, 0] rfl)
set_option maxHeartbeats 4000000 in
set_option maxRecDepth 100000 in
/-- decode -/
theorem c_M_decode (l : Launch) (D : va_G) (cI cB : ClassId) (x : Nat) (T I O V : List Nat) (w : Nat) (hv : Vd T I O V w) (ws : va_W) (hR : RM cI x T I O V w ws) (x1 : Nat) (hx1 : x1 < 2 ^ 32) : Ki l D cI cB y_M_decode b_M_decode 3 3 84 0 0 .int [.ref x, .int (nI x1)] ws (fun r w1 => r = dcR I w x1 ∧ RM cI x T I O (dcV I V w x1) w w1) := by
  obtain ⟨ro, sp, tp, ip, op, a0, f0, tt, ti, to_, v, vs, rfl, hT, hI, hO, hV⟩ := hR
  obtain ⟨v1, v2, v3, v4, v5, v6, v7, v8, v9⟩ := hv
  refine ent (fun A => va_Qi _ (BW D A) A) (by decide) (Nat.le_of_ble_eq_true rfl) ?_
  intro p e s m below meth c A ls C hA hP hD hS hl
  have hl : lv_has ls 3 [(0, .ref x), (1, .int (nI x1))] := hl
  refine lv_aload_n C.x C.b d_M_decode_0 rfl (lv_at hl 0 rfl) ?_
  refine lv_iconst (v := nI 0) C.x C.b d_M_decode_1 (by decide) ?_
  refine pf (w2 := [oM x 0 ro sp V.length w T.length I.length O.length a0 f0 tp ip op, aN cI ro 4096 v, aN cI sp 4104 vs, aN cI tp 8192 tt, aN cI ip 8192 ti, aN cI op 24000 to_]) C hP hD hS 0 3 0 (.int) rfl rfl (by decide) fl_M_25 rfl (by decide +kernel) rfl rfl (Nat.le_of_ble_eq_true rfl) rfl d_M_decode_2 (fun H locs hP hD hS => ?_)
  refine lv_iload_n C.x C.b d_M_decode_5 rfl (lv_at hl 1 rfl) ?_
  refine jz_lt (tgt := 16) C d_M_decode_6 (by decide) (by omega) (fun h1 => ?_) (fun h1 => ?_)
  · refine lv_iconst (v := (-1)) C.x C.b d_M_decode_16 (by decide) ?_
    exact reti C hP hD hS d_M_decode_17 (rfl) (by omega) (by omega) (⟨(if_neg (by omega)).symm, by unfold dcV; rw [if_neg (by omega)]; exact ⟨_, _, _, _, _, _, _, _, _, _, _, _, rfl, hT, hI, hO, hV⟩⟩)
  · refine lv_iload_n C.x C.b d_M_decode_9 rfl (lv_at hl 1 rfl) ?_
    refine lv_sipush (v := nI 4096) C.x C.b d_M_decode_10 (by decide) ?_
    refine jc_le (tgt := 18) C d_M_decode_13 (by decide) (by omega) (by omega) (fun h2 => ?_) (fun h2 => ?_)
    · refine lv_aload_n C.x C.b d_M_decode_18 rfl (lv_at hl 0 rfl) ?_
      refine lv_iconst (v := nI 0) C.x C.b d_M_decode_19 (by decide) ?_
      refine pf (w2 := [oM x 0 ro sp V.length w T.length I.length O.length 0 f0 tp ip op, aN cI ro 4096 v, aN cI sp 4104 vs, aN cI tp 8192 tt, aN cI ip 8192 ti, aN cI op 24000 to_]) C hP hD hS 0 3 8 (.int) rfl rfl (by decide) fl_M_35 rfl (by decide +kernel) rfl rfl (Nat.le_of_ble_eq_true rfl) rfl d_M_decode_20 (fun H locs hP hD hS => ?_)
      refine lv_aload_n C.x C.b d_M_decode_23 rfl (lv_at hl 0 rfl) ?_
      refine lv_iconst (v := nI 0) C.x C.b d_M_decode_24 (by decide) ?_
      refine pf (w2 := [oM x 0 ro sp V.length w T.length I.length O.length 0 0 tp ip op, aN cI ro 4096 v, aN cI sp 4104 vs, aN cI tp 8192 tt, aN cI ip 8192 ti, aN cI op 24000 to_]) C hP hD hS 0 3 9 (.int) rfl rfl (by decide) fl_M_32 rfl (by decide +kernel) rfl rfl (Nat.le_of_ble_eq_true rfl) rfl d_M_decode_25 (fun H locs hP hD hS => ?_)
      refine lv_aload_n C.x C.b d_M_decode_28 rfl (lv_at hl 0 rfl) ?_
      refine lv_aload_n C.x C.b d_M_decode_29 rfl (lv_at hl 0 rfl) ?_
      refine gf C hP 0 3 2 rfl rfl (by decide) fl_M_13 rfl d_M_decode_30 ?_
      refine lv_iload_n C.x C.b d_M_decode_33 rfl (lv_at hl 1 rfl) ?_
      refine lv_aload_n C.x C.b d_M_decode_34 rfl (lv_at hl 0 rfl) ?_
      refine gf C hP 0 3 4 rfl rfl (by decide) fl_M_50 rfl d_M_decode_35 ?_
      refine lv_aload_n C.x C.b d_M_decode_38 rfl (lv_at hl 0 rfl) ?_
      refine gf C hP 0 3 6 rfl rfl (by decide) fl_M_47 rfl d_M_decode_39 ?_
      refine cvV (wr := [aN cI ro 4096 v, aN cI tp 8192 tt, aN cI op 24000 to_]) C hA hP hD hS hl.1 (c_M_readRuns l D cI cB x ro sp V.length w T.length I.length O.length tp ip op I.length x1 I ti hI v7 (Nat.le_refl _) v2 h2 v5 vs) ok_M_87 [] [0, 2, 4] [1, 3, 5] 3 0 rfl rfl rfl rfl (by decide) rfl (by decide) (by decide) rfl rfl (Nat.le_of_ble_eq_true rfl) (⟨by (try dsimp only [rmO]); omega, by (try dsimp only [rmO]); omega⟩) (⟨by (try dsimp only [rmO]); omega, by (try dsimp only [rmO]); omega⟩) d_M_decode_42 ?_
      intro w1 H locs hw hP hD hS
      obtain ⟨f2, a2, vs2, rfl, ha2, hf2, hr2⟩ := hw
      have hP : va_P D classes [aN cI ro 4096 v, aN cI tp 8192 tt, aN cI op 24000 to_, oM x 0 ro sp V.length w T.length I.length O.length a2 f2 tp ip op, aN cI sp 4104 vs2, aN cI ip 8192 ti] H := hP
      have hD : va_D A [aN cI ro 4096 v, aN cI tp 8192 tt, aN cI op 24000 to_, oM x 0 ro sp V.length w T.length I.length O.length a2 f2 tp ip op, aN cI sp 4104 vs2, aN cI ip 8192 ti] := hD
      have hP : va_P D classes [oM x 0 ro sp V.length w T.length I.length O.length a2 f2 tp ip op, aN cI ro 4096 v, aN cI sp 4104 vs2, aN cI tp 8192 tt, aN cI ip 8192 ti, aN cI op 24000 to_] H := hP.sub [3, 0, 4, 1, 5, 2] rfl
      have hD : va_D A [oM x 0 ro sp V.length w T.length I.length O.length a2 f2 tp ip op, aN cI ro 4096 v, aN cI sp 4104 vs2, aN cI tp 8192 tt, aN cI ip 8192 ti, aN cI op 24000 to_] := hD.sub [3, 0, 4, 1, 5, 2] (by decide) rfl
      have hf6 : f2 ≤ 5 := by rw [hf2]; exact dcF_f _ _ _ _ _ _ _ _
      refine lv_aload_n C.x C.b d_M_decode_45 rfl (lv_at hl 0 rfl) ?_
      refine gf C hP 0 3 9 rfl rfl (by decide) fl_M_32 rfl d_M_decode_46 ?_
      refine jz_ne (tgt := 69) C d_M_decode_49 (by decide) (by omega) (fun h3 => ?_) (fun h3 => ?_)
      · have hfa : f2 = (dcA (gt I) I.length x1 w).1 := by unfold dcA; dsimp only; rw [if_neg (fun q => h3 (hf2.trans q.1))]; exact hf2
        refine lv_iconst (v := nI 0) C.x C.b d_M_decode_69 (by decide) ?_
        refine lv_istore_n (lv' := [(2, .int (nI 0)), (0, .ref x), (1, .int (nI x1))]) C.x C.b d_M_decode_70 rfl hl (by decide) rfl (fun ls hl => ?_)
        refine lv_iload_n C.x C.b d_M_decode_71 rfl (lv_at hl 0 rfl) ?_
        refine lv_iload_n C.x C.b d_M_decode_72 rfl (lv_at hl 2 rfl) ?_
        refine jc_ge (tgt := 101) C d_M_decode_73 (by decide) (by omega) (by omega) (fun hw0 => ?_) (fun hw0 => ?_)
        · refine lv_aload_n C.x C.b d_M_decode_101 rfl (lv_at hl 1 rfl) ?_
          refine gf C hP 0 3 9 rfl rfl (by decide) fl_M_32 rfl d_M_decode_102 ?_
          refine jz_ne (tgt := 113) C d_M_decode_105 (by decide) (by omega) (fun hy => ?_) (fun hy => ?_)
          · refine lv_aload_n C.x C.b d_M_decode_113 rfl (lv_at hl 1 rfl) ?_
            refine gf C hP 0 3 9 rfl rfl (by decide) fl_M_32 rfl d_M_decode_114 ?_
            exact reti C hP hD hS d_M_decode_117 (rfl) (by omega) (by omega) (⟨by unfold dcR; rw [if_pos h2, ← hfa], by unfold dcV; rw [if_neg (fun q => h3 (hfa.trans q.2))]; exact ⟨_, _, _, _, _, _, _, _, _, _, _, _, rfl, hT, hI, hO, hV⟩⟩)
          · exact absurd hy h3
        · refine lv_aload_n C.x C.b d_M_decode_76 rfl (lv_at hl 1 rfl) ?_
          refine gf C hP 0 3 9 rfl rfl (by decide) fl_M_32 rfl d_M_decode_77 ?_
          refine jz_ne (tgt := 101) C d_M_decode_80 (by decide) (by omega) (fun hx => ?_) (fun hx => ?_)
          · refine lv_aload_n C.x C.b d_M_decode_101 rfl (lv_at hl 1 rfl) ?_
            refine gf C hP 0 3 9 rfl rfl (by decide) fl_M_32 rfl d_M_decode_102 ?_
            refine jz_ne (tgt := 113) C d_M_decode_105 (by decide) (by omega) (fun hy => ?_) (fun hy => ?_)
            · refine lv_aload_n C.x C.b d_M_decode_113 rfl (lv_at hl 1 rfl) ?_
              refine gf C hP 0 3 9 rfl rfl (by decide) fl_M_32 rfl d_M_decode_114 ?_
              exact reti C hP hD hS d_M_decode_117 (rfl) (by omega) (by omega) (⟨by unfold dcR; rw [if_pos h2, ← hfa], by unfold dcV; rw [if_neg (fun q => h3 (hfa.trans q.2))]; exact ⟨_, _, _, _, _, _, _, _, _, _, _, _, rfl, hT, hI, hO, hV⟩⟩)
            · exact absurd hy h3
          · exact absurd hx h3
      · have hra := hr2 h3
        subst h3
        have hP : va_P D classes [oM x 0 ro sp V.length w T.length I.length O.length a2 0 tp ip op, aN cI ro 4096 v, aN cI sp 4104 vs2, aN cI tp 8192 tt, aN cI ip 8192 ti, aN cI op 24000 to_] H := hP
        have hD : va_D A [oM x 0 ro sp V.length w T.length I.length O.length a2 0 tp ip op, aN cI ro 4096 v, aN cI sp 4104 vs2, aN cI tp 8192 tt, aN cI ip 8192 ti, aN cI op 24000 to_] := hD
        refine lv_aload_n C.x C.b d_M_decode_52 rfl (lv_at hl 0 rfl) ?_
        refine gf C hP 0 3 8 rfl rfl (by decide) fl_M_35 rfl d_M_decode_53 ?_
        refine lv_aload_n C.x C.b d_M_decode_56 rfl (lv_at hl 0 rfl) ?_
        refine gf C hP 0 3 6 rfl rfl (by decide) fl_M_47 rfl d_M_decode_57 ?_
        refine jc_ge (tgt := 69) C d_M_decode_60 (by decide) (by omega) (by omega) (fun h4 => ?_) (fun h4 => ?_)
        · have hfa : (dcA (gt I) I.length x1 w).1 = 0 := by unfold dcA; dsimp only; rw [if_neg (by rw [← hra.1]; omega)]; exact hf2.symm
          refine lv_iconst (v := nI 0) C.x C.b d_M_decode_69 (by decide) ?_
          refine lv_istore_n (lv' := [(2, .int (nI 0)), (0, .ref x), (1, .int (nI x1))]) C.x C.b d_M_decode_70 rfl hl (by decide) rfl (fun ls hl => ?_)
          refine lp_M_decode C hA x ro sp tp ip op a2 tt ti to_ vs2 T I O V w x1 h2 (fun v hvs H locs ls hP hD hS hl => ?_) x1 0 v (by omega) (fun j hj => by omega) H locs ls hP hD hS (lv_sub hl [1, 2, 0] rfl)
          refine lv_aload_n C.x C.b d_M_decode_101 rfl (lv_at hl 0 rfl) ?_
          refine gf C hP 0 3 9 rfl rfl (by decide) fl_M_32 rfl d_M_decode_102 ?_
          refine jz_ne (tgt := 113) C d_M_decode_105 (by decide) (by omega) (fun hy => ?_) (fun hy => ?_)
          · exact absurd rfl hy
          · refine lv_aload_n C.x C.b d_M_decode_108 rfl (lv_at hl 0 rfl) ?_
            refine lv_iload_n C.x C.b d_M_decode_109 rfl (lv_at hl 1 rfl) ?_
            refine pf (w2 := [oM x 0 ro sp x1 w T.length I.length O.length a2 0 tp ip op, aN cI ro 4096 v, aN cI sp 4104 vs2, aN cI tp 8192 tt, aN cI ip 8192 ti, aN cI op 24000 to_]) C hP hD hS 0 3 3 (.int) rfl rfl (by decide) fl_M_53 rfl (by decide +kernel) rfl rfl (Nat.le_of_ble_eq_true rfl) rfl d_M_decode_110 (fun H locs hP hD hS => ?_)
            refine lv_aload_n C.x C.b d_M_decode_113 rfl (lv_at hl 0 rfl) ?_
            refine gf C hP 0 3 9 rfl rfl (by decide) fl_M_32 rfl d_M_decode_114 ?_
            have eV : dcV I V w x1 = (List.range x1).map (dcA (gt I) I.length x1 w).2 := if_pos ⟨h2, hfa⟩
            have eL : x1 = (dcV I V w x1).length := by rw [eV]; simp
            have eX : oM x 0 ro sp x1 w T.length I.length O.length a2 0 tp ip op = oM x 0 ro sp ((dcV I V w x1).length) w T.length I.length O.length a2 0 tp ip op := by rw [← eL]
            rw [eX] at hP hD
            have hP : va_P D classes [oM x 0 ro sp ((dcV I V w x1).length) w T.length I.length O.length a2 0 tp ip op, aN cI ro 4096 v, aN cI sp 4104 vs2, aN cI tp 8192 tt, aN cI ip 8192 ti, aN cI op 24000 to_] H := hP
            have hD : va_D A [oM x 0 ro sp ((dcV I V w x1).length) w T.length I.length O.length a2 0 tp ip op, aN cI ro 4096 v, aN cI sp 4104 vs2, aN cI tp 8192 tt, aN cI ip 8192 ti, aN cI op 24000 to_] := hD
            exact reti C hP hD hS d_M_decode_117 (rfl) (by omega) (by omega) (⟨by unfold dcR; rw [if_pos h2, hfa], ⟨_, _, _, _, _, _, _, _, _, _, _, _, rfl, hT, hI, hO, (fun j hj => by rw [← eL] at hj; rw [eV, gt_map hj, hvs j hj]; exact hra.2 j hj)⟩⟩)
        · refine lv_aload_n C.x C.b d_M_decode_63 rfl (lv_at hl 0 rfl) ?_
          refine lv_bipush (v := nI 6) C.x C.b d_M_decode_64 (by decide) ?_
          refine pf (w2 := [oM x 0 ro sp V.length w T.length I.length O.length a2 6 tp ip op, aN cI ro 4096 v, aN cI sp 4104 vs2, aN cI tp 8192 tt, aN cI ip 8192 ti, aN cI op 24000 to_]) C hP hD hS 0 3 9 (.int) rfl rfl (by decide) fl_M_32 rfl (by decide +kernel) rfl rfl (Nat.le_of_ble_eq_true rfl) rfl d_M_decode_66 (fun H locs hP hD hS => ?_)
          have hfa : 6 = (dcA (gt I) I.length x1 w).1 := by unfold dcA; dsimp only; rw [if_pos ⟨hf2.symm, by rw [← hra.1]; exact h4⟩]
          refine lv_iconst (v := nI 0) C.x C.b d_M_decode_69 (by decide) ?_
          refine lv_istore_n (lv' := [(2, .int (nI 0)), (0, .ref x), (1, .int (nI x1))]) C.x C.b d_M_decode_70 rfl hl (by decide) rfl (fun ls hl => ?_)
          refine lv_iload_n C.x C.b d_M_decode_71 rfl (lv_at hl 0 rfl) ?_
          refine lv_iload_n C.x C.b d_M_decode_72 rfl (lv_at hl 2 rfl) ?_
          refine jc_ge (tgt := 101) C d_M_decode_73 (by decide) (by omega) (by omega) (fun hw0 => ?_) (fun hw0 => ?_)
          · refine lv_aload_n C.x C.b d_M_decode_101 rfl (lv_at hl 1 rfl) ?_
            refine gf C hP 0 3 9 rfl rfl (by decide) fl_M_32 rfl d_M_decode_102 ?_
            refine jz_ne (tgt := 113) C d_M_decode_105 (by decide) (by omega) (fun hy => ?_) (fun hy => ?_)
            · refine lv_aload_n C.x C.b d_M_decode_113 rfl (lv_at hl 1 rfl) ?_
              refine gf C hP 0 3 9 rfl rfl (by decide) fl_M_32 rfl d_M_decode_114 ?_
              exact reti C hP hD hS d_M_decode_117 (rfl) (by omega) (by omega) (⟨by unfold dcR; rw [if_pos h2, ← hfa], by unfold dcV; rw [if_neg (fun q => (by decide : (6 : Nat) ≠ 0) (hfa.trans q.2))]; exact ⟨_, _, _, _, _, _, _, _, _, _, _, _, rfl, hT, hI, hO, hV⟩⟩)
            · exact absurd hy (by decide : (6 : Nat) ≠ 0)
          · refine lv_aload_n C.x C.b d_M_decode_76 rfl (lv_at hl 1 rfl) ?_
            refine gf C hP 0 3 9 rfl rfl (by decide) fl_M_32 rfl d_M_decode_77 ?_
            refine jz_ne (tgt := 101) C d_M_decode_80 (by decide) (by omega) (fun hx => ?_) (fun hx => ?_)
            · refine lv_aload_n C.x C.b d_M_decode_101 rfl (lv_at hl 1 rfl) ?_
              refine gf C hP 0 3 9 rfl rfl (by decide) fl_M_32 rfl d_M_decode_102 ?_
              refine jz_ne (tgt := 113) C d_M_decode_105 (by decide) (by omega) (fun hy => ?_) (fun hy => ?_)
              · refine lv_aload_n C.x C.b d_M_decode_113 rfl (lv_at hl 1 rfl) ?_
                refine gf C hP 0 3 9 rfl rfl (by decide) fl_M_32 rfl d_M_decode_114 ?_
                exact reti C hP hD hS d_M_decode_117 (rfl) (by omega) (by omega) (⟨by unfold dcR; rw [if_pos h2, ← hfa], by unfold dcV; rw [if_neg (fun q => (by decide : (6 : Nat) ≠ 0) (hfa.trans q.2))]; exact ⟨_, _, _, _, _, _, _, _, _, _, _, _, rfl, hT, hI, hO, hV⟩⟩)
              · exact absurd hy (by decide : (6 : Nat) ≠ 0)
            · exact absurd hx (by decide : (6 : Nat) ≠ 0)
    · refine lv_iconst (v := (-1)) C.x C.b d_M_decode_16 (by decide) ?_
      exact reti C hP hD hS d_M_decode_17 (rfl) (by omega) (by omega) (⟨(if_neg (by omega)).symm, by unfold dcV; rw [if_neg (by omega)]; exact ⟨_, _, _, _, _, _, _, _, _, _, _, _, rfl, hT, hI, hO, hV⟩⟩)
end
section
/-! THE CLAIM OUT OF ONE WALK OF THE LAW'S BODY. Your part is whole_start (and what it stands on); all else here is the same for every law, but numbers. -/
def R_law : String := "RunRowsLaw"
def lw_P (b : Addr) (xs : List Int32) (args : Array Value) (s : State) : Prop := args = #[.ref b] ∧ s.IntsAt b xs ∧ xs.length ≤ 384 ∧ (Jvm.Cond.and given_1 narrow_1).before args s = true
def lw_Q (_ : Array Value) (s : State) (o : Outcome) (t : State) : Prop := o = .returned (some (.int 1)) ∧ Framed s o t [] 600000 7302250
def lw_Z (below : List Frame) (a : Array Value) (s : State) : State → Prop := fun t => ∃ o, t.status = .running ∧ Ended t below o ∧ lw_Q a s o t
/-- the law's own end, with 1 on the stack, nothing written that was there before, its room as the claim has it -/
theorem lw_ret {p : Program} {l : Launch} {e : Env} {s : State} {m : MethodId} {below : List Frame} {meth : Method} {c : Code} {b : Nat} (hx : p.tables.exec = Jvm.exec) (hb : c.code = code) (hr : meth.sig.returnType = ret) (hlocks : meth.locks = false) {pc : Nat} {H : Heap} {ls : Array Slot} (hdg : decode code pc = .ok (.ireturn, 1)) : W p l e room_1 s m #[Value.ref b] below meth c H [] 600000 7302250 (lw_Z below #[Value.ref b] s) (F0 m pc ls [.int 1]) := by
  intro T hT X
  obtain ⟨fs, hret, hrun, hended, hW, hframe⟩ := X.leave (v := some (.int 1)) (hlocks := hlocks) (fun h => by rw [hr] at h; cases h)
  have hmeth' : T.vm.method? m = some meth := X.method'
  refine ⟨T.setFrames fs, ?_, .returned (some (.int 1)), hrun, hended, rfl, ⟨_, rfl⟩, hW, hframe⟩
  jvm_step X.here [X.here.top, hx, hb, hdg, hmeth', hr, ret, narrow_b1]
  (try refine ⟨rfl, ?_⟩); (try refine ⟨rfl, ?_⟩)
  first | (intro acts; rw [hret _ acts rfl rfl rfl]) | rw [hret _ _ rfl rfl rfl]
  exact Steps.refl _
/-- what holds at the law's entry: the machine, the code, the tables' words (any of lw_tbl by 'hts w (by decide +kernel)'), the script of L ints xs at the cell b, what the Statement gives of the start (any of its parts by flat_of_before) -/
def lw_At (p : Program) (s : State) (m : MethodId) (meth : Method) (c : Code) (b L : Nat) (xs : Nat → Int32) : Prop :=
  p.tables.exec = Jvm.exec ∧ c.code = code ∧ meth.sig.returnType = ret ∧ c.maxLocals = 4 ∧ s.vm.findClass R_law = some m.cls ∧ (∀ w ∈ lw_tbl, w.before #[Value.ref b] s = true) ∧ va_X b L xs s s.heap ∧ b < s.heap.size ∧ meth.locks = false ∧ (Jvm.Cond.and given_1 narrow_1).before #[Value.ref b] s = true
end
section
/-! the law, case by case (printed by gen/law.py) -/
set_option maxHeartbeats 4000000 in
set_option maxRecDepth 100000 in
/-- the law: case 0, feed -/
theorem law_0 {p : Program} {l : Launch} {e : Env} {s : State} {m : MethodId} {below : List Frame} {meth : Method} {c : Code} {D : va_G} {cI cB : ClassId} {b L : Nat} {xs : Nat → Int32} {ys : Nat → Nat} {nm : String} (C : Cx p s m #[Value.ref b] meth c D cI cB code 4 R_L ret nm) (hX : va_X b L xs s s.heap) (hbl : b < s.heap.size) (hys : ∀ j, xs j = nI (ys j)) (h32 : ∀ j, ys j < 2 ^ 32) (hL : L ≤ 384) (x y : Nat) (j : Nat) (hj : 6 * j + 6 ≤ L) (kk : ∀ (T I O V : List Nat) (w : Nat) (wX wM : va_W) (H : Heap) (locs : List Loc) (ls : Array Slot), Vd T I O V w → RX cI cB x T I O V w wX → RM cI y T I O V w wM → va_P D classes (wX ++ wM) H → va_D (fun q : Nat => s.heap.size ≤ q) (wX ++ wM) → va_S (fun q : Nat => s.heap.size ≤ q) s.heap H locs → lv_has ls 4 [(0, .ref b), (1, .ref x), (2, .ref y), (3, .int (nI (6 * j)))] → W p l e room_1 s m #[Value.ref b] below meth c H locs (17 + 3 * (j + 1)) (85482 + 49152 * (j + 1)) (lw_Z below #[Value.ref b] s) (F0 m 353 ls [])) (T I O V : List Nat) (w : Nat) (wX wM : va_W) (H : Heap) (locs : List Loc) (ls : Array Slot) (hv : Vd T I O V w) (hRX : RX cI cB x T I O V w wX) (hRM : RM cI y T I O V w wM) (hP : va_P D classes (wX ++ wM) H) (hD : va_D (fun q : Nat => s.heap.size ≤ q) (wX ++ wM)) (hS : va_S (fun q : Nat => s.heap.size ≤ q) s.heap H locs) (hl : lv_has ls 4 [(0, .ref b), (1, .ref x), (2, .ref y), (3, .int (nI (6 * j)))]) : W p l e room_1 s m #[Value.ref b] below meth c H locs (17 + 3 * j) (85482 + 49152 * j) (lw_Z below #[Value.ref b] s) (F0 m 92 ls []) := by
  have hA : ∀ q : Nat, s.heap.size ≤ q → (fun q : Nat => s.heap.size ≤ q) q := fun _ h => h
  have hbA : ¬ (fun q : Nat => s.heap.size ≤ q) b := Nat.not_le.mpr hbl
  obtain ⟨xtp, xip, xop, xru, xro, xsp, xrt, xri, xrO, xsm, xta, xtf, xia, xfi, xoa, xfo, xu, xtt, xti, xto_, xv, xvs, xS, rfl, xhT, xhI, xhO, xhV, xhu, xhul⟩ := hRX
  obtain ⟨mro, msp, mtp, mip, mop, ma0, mf0, mtt, mti, mto_, mv, mvs, rfl, mhT, mhI, mhO, mhV⟩ := hRM
  have hP : va_P D classes [oX x xtp xip xop xru xro xsp V.length w, oB xtp xrt T.length xta xtf, aB cB xrt 8192 xtt, oB xip xri I.length xia xfi, aB cB xri 8192 xti, oB xop xrO O.length xoa xfo, aB cB xrO (8192 * xu) xto_, oU xru xsm, aN cI xsm 4096 xS, aN cI xro 4096 xv, aN cI xsp 4096 xvs, oM y 0 mro msp V.length w T.length I.length O.length ma0 mf0 mtp mip mop, aN cI mro 4096 mv, aN cI msp 4104 mvs, aN cI mtp 8192 mtt, aN cI mip 8192 mti, aN cI mop 24000 mto_] H := hP
  have hD : va_D (fun q : Nat => s.heap.size ≤ q) [oX x xtp xip xop xru xro xsp V.length w, oB xtp xrt T.length xta xtf, aB cB xrt 8192 xtt, oB xip xri I.length xia xfi, aB cB xri 8192 xti, oB xop xrO O.length xoa xfo, aB cB xrO (8192 * xu) xto_, oU xru xsm, aN cI xsm 4096 xS, aN cI xro 4096 xv, aN cI xsp 4096 xvs, oM y 0 mro msp V.length w T.length I.length O.length ma0 mf0 mtp mip mop, aN cI mro 4096 mv, aN cI msp 4104 mvs, aN cI mtp 8192 mtt, aN cI mip 8192 mti, aN cI mop 24000 mto_] := hD
  refine lv_aload_n C.x C.b d_law_92 rfl (lv_at hl 1 rfl) ?_
  refine lv_aload_n C.x C.b d_law_93 rfl (lv_at hl 0 rfl) ?_
  refine lv_iload_n C.x C.b d_law_94 rfl (lv_at hl 3 rfl) ?_
  refine lv_iconst (v := nI 1) C.x C.b d_law_95 (by decide) ?_
  refine lv_iadd C.x C.b d_law_96 ?_
  refine ra_i (nI_add _ _) ?_
  refine va_sld C.x C.b hX hbl hbA hS (vp_in_nI (by omega) (by omega)) d_law_97 ?_
  refine ra_i (y := nI (ys (6 * j + 1))) (by rw [nI_clamp (by omega)]; exact hys _) ?_
  refine lv_aload_n C.x C.b d_law_98 rfl (lv_at hl 0 rfl) ?_
  refine lv_iload_n C.x C.b d_law_99 rfl (lv_at hl 3 rfl) ?_
  refine lv_iconst (v := nI 2) C.x C.b d_law_100 (by decide) ?_
  refine lv_iadd C.x C.b d_law_101 ?_
  refine ra_i (nI_add _ _) ?_
  refine va_sld C.x C.b hX hbl hbA hS (vp_in_nI (by omega) (by omega)) d_law_102 ?_
  refine ra_i (y := nI (ys (6 * j + 2))) (by rw [nI_clamp (by omega)]; exact hys _) ?_
  refine lv_aload_n C.x C.b d_law_103 rfl (lv_at hl 0 rfl) ?_
  refine lv_iload_n C.x C.b d_law_104 rfl (lv_at hl 3 rfl) ?_
  refine lv_iconst (v := nI 3) C.x C.b d_law_105 (by decide) ?_
  refine lv_iadd C.x C.b d_law_106 ?_
  refine ra_i (nI_add _ _) ?_
  refine va_sld C.x C.b hX hbl hbA hS (vp_in_nI (by omega) (by omega)) d_law_107 ?_
  refine ra_i (y := nI (ys (6 * j + 3))) (by rw [nI_clamp (by omega)]; exact hys _) ?_
  refine lv_aload_n C.x C.b d_law_108 rfl (lv_at hl 0 rfl) ?_
  refine lv_iload_n C.x C.b d_law_109 rfl (lv_at hl 3 rfl) ?_
  refine lv_iconst (v := nI 4) C.x C.b d_law_110 (by decide) ?_
  refine lv_iadd C.x C.b d_law_111 ?_
  refine ra_i (nI_add _ _) ?_
  refine va_sld C.x C.b hX hbl hbA hS (vp_in_nI (by omega) (by omega)) d_law_112 ?_
  refine ra_i (y := nI (ys (6 * j + 4))) (by rw [nI_clamp (by omega)]; exact hys _) ?_
  refine lv_aload_n C.x C.b d_law_113 rfl (lv_at hl 0 rfl) ?_
  refine lv_iload_n C.x C.b d_law_114 rfl (lv_at hl 3 rfl) ?_
  refine lv_iconst (v := nI 5) C.x C.b d_law_115 (by decide) ?_
  refine lv_iadd C.x C.b d_law_116 ?_
  refine ra_i (nI_add _ _) ?_
  refine va_sld C.x C.b hX hbl hbA hS (vp_in_nI (by omega) (by omega)) d_law_117 ?_
  refine ra_i (y := nI (ys (6 * j + 5))) (by rw [nI_clamp (by omega)]; exact hys _) ?_
  refine ciV (wr := [oM y 0 mro msp V.length w T.length I.length O.length ma0 mf0 mtp mip mop, aN cI mro 4096 mv, aN cI msp 4104 mvs, aN cI mtp 8192 mtt, aN cI mip 8192 mti, aN cI mop 24000 mto_]) C hA hP hD hS hl.1 (c_X_feed l D cI cB x T I O V w hv [oX x xtp xip xop xru xro xsp V.length w, oB xtp xrt T.length xta xtf, aB cB xrt 8192 xtt, oB xip xri I.length xia xfi, aB cB xri 8192 xti, oB xop xrO O.length xoa xfo, aB cB xrO (8192 * xu) xto_, oU xru xsm, aN cI xsm 4096 xS, aN cI xro 4096 xv, aN cI xsp 4096 xvs] ⟨xtp, xip, xop, xru, xro, xsp, xrt, xri, xrO, xsm, xta, xtf, xia, xfi, xoa, xfo, xu, xtt, xti, xto_, xv, xvs, xS, rfl, xhT, xhI, xhO, xhV, xhu, xhul⟩ (ys (6 * j + 1)) (h32 _) (ys (6 * j + 2)) (h32 _) (ys (6 * j + 3)) (h32 _) (ys (6 * j + 4)) (h32 _) (ys (6 * j + 5)) (h32 _)) ok_L_13 [] [0, 1, 2, 3, 4, 5, 6, 7, 8, 9, 10] [11, 12, 13, 14, 15, 16] 2 0 rfl rfl rfl rfl (by decide) rfl (by decide) (by decide) rfl rfl (Nat.le_of_ble_eq_true rfl) (⟨by decide, by decide⟩) (⟨by show _ ≤ 600000; omega, by show _ ≤ 7302250; omega⟩) d_law_118 ?_
  intro r1 w1 H locs hw hP hD hS
  obtain ⟨hr1, hRX2⟩ := hw
  obtain ⟨ztp, zip, zop, zru, zro, zsp, zrt, zri, zrO, zsm, zta, ztf, zia, zfi, zoa, zfo, zu, ztt, zti, zto_, zv, zvs, zS, rfl, zhT, zhI, zhO, zhV, zhu, zhul⟩ := hRX2
  have hP : va_P D classes [oM y 0 mro msp V.length w T.length I.length O.length ma0 mf0 mtp mip mop, aN cI mro 4096 mv, aN cI msp 4104 mvs, aN cI mtp 8192 mtt, aN cI mip 8192 mti, aN cI mop 24000 mto_, oX x ztp zip zop zru zro zsp V.length w, oB ztp zrt ((fdT T (ys (6 * j + 1)) (ys (6 * j + 2)) (ys (6 * j + 3)) (ys (6 * j + 4)) (ys (6 * j + 5))).length) zta ztf, aB cB zrt 8192 ztt, oB zip zri I.length zia zfi, aB cB zri 8192 zti, oB zop zrO O.length zoa zfo, aB cB zrO (8192 * zu) zto_, oU zru zsm, aN cI zsm 4096 zS, aN cI zro 4096 zv, aN cI zsp 4096 zvs] H := hP
  have hD : va_D (fun q : Nat => s.heap.size ≤ q) [oM y 0 mro msp V.length w T.length I.length O.length ma0 mf0 mtp mip mop, aN cI mro 4096 mv, aN cI msp 4104 mvs, aN cI mtp 8192 mtt, aN cI mip 8192 mti, aN cI mop 24000 mto_, oX x ztp zip zop zru zro zsp V.length w, oB ztp zrt ((fdT T (ys (6 * j + 1)) (ys (6 * j + 2)) (ys (6 * j + 3)) (ys (6 * j + 4)) (ys (6 * j + 5))).length) zta ztf, aB cB zrt 8192 ztt, oB zip zri I.length zia zfi, aB cB zri 8192 zti, oB zop zrO O.length zoa zfo, aB cB zrO (8192 * zu) zto_, oU zru zsm, aN cI zsm 4096 zS, aN cI zro 4096 zv, aN cI zsp 4096 zvs] := hD
  refine lv_aload_n C.x C.b d_law_121 rfl (lv_at hl 2 rfl) ?_
  refine lv_aload_n C.x C.b d_law_122 rfl (lv_at hl 0 rfl) ?_
  refine lv_iload_n C.x C.b d_law_123 rfl (lv_at hl 3 rfl) ?_
  refine lv_iconst (v := nI 1) C.x C.b d_law_124 (by decide) ?_
  refine lv_iadd C.x C.b d_law_125 ?_
  refine ra_i (nI_add _ _) ?_
  refine va_sld C.x C.b hX hbl hbA hS (vp_in_nI (by omega) (by omega)) d_law_126 ?_
  refine ra_i (y := nI (ys (6 * j + 1))) (by rw [nI_clamp (by omega)]; exact hys _) ?_
  refine lv_aload_n C.x C.b d_law_127 rfl (lv_at hl 0 rfl) ?_
  refine lv_iload_n C.x C.b d_law_128 rfl (lv_at hl 3 rfl) ?_
  refine lv_iconst (v := nI 2) C.x C.b d_law_129 (by decide) ?_
  refine lv_iadd C.x C.b d_law_130 ?_
  refine ra_i (nI_add _ _) ?_
  refine va_sld C.x C.b hX hbl hbA hS (vp_in_nI (by omega) (by omega)) d_law_131 ?_
  refine ra_i (y := nI (ys (6 * j + 2))) (by rw [nI_clamp (by omega)]; exact hys _) ?_
  refine lv_aload_n C.x C.b d_law_132 rfl (lv_at hl 0 rfl) ?_
  refine lv_iload_n C.x C.b d_law_133 rfl (lv_at hl 3 rfl) ?_
  refine lv_iconst (v := nI 3) C.x C.b d_law_134 (by decide) ?_
  refine lv_iadd C.x C.b d_law_135 ?_
  refine ra_i (nI_add _ _) ?_
  refine va_sld C.x C.b hX hbl hbA hS (vp_in_nI (by omega) (by omega)) d_law_136 ?_
  refine ra_i (y := nI (ys (6 * j + 3))) (by rw [nI_clamp (by omega)]; exact hys _) ?_
  refine lv_aload_n C.x C.b d_law_137 rfl (lv_at hl 0 rfl) ?_
  refine lv_iload_n C.x C.b d_law_138 rfl (lv_at hl 3 rfl) ?_
  refine lv_iconst (v := nI 4) C.x C.b d_law_139 (by decide) ?_
  refine lv_iadd C.x C.b d_law_140 ?_
  refine ra_i (nI_add _ _) ?_
  refine va_sld C.x C.b hX hbl hbA hS (vp_in_nI (by omega) (by omega)) d_law_141 ?_
  refine ra_i (y := nI (ys (6 * j + 4))) (by rw [nI_clamp (by omega)]; exact hys _) ?_
  refine lv_aload_n C.x C.b d_law_142 rfl (lv_at hl 0 rfl) ?_
  refine lv_iload_n C.x C.b d_law_143 rfl (lv_at hl 3 rfl) ?_
  refine lv_iconst (v := nI 5) C.x C.b d_law_144 (by decide) ?_
  refine lv_iadd C.x C.b d_law_145 ?_
  refine ra_i (nI_add _ _) ?_
  refine va_sld C.x C.b hX hbl hbA hS (vp_in_nI (by omega) (by omega)) d_law_146 ?_
  refine ra_i (y := nI (ys (6 * j + 5))) (by rw [nI_clamp (by omega)]; exact hys _) ?_
  refine ciV (wr := [oX x ztp zip zop zru zro zsp V.length w, oB ztp zrt ((fdT T (ys (6 * j + 1)) (ys (6 * j + 2)) (ys (6 * j + 3)) (ys (6 * j + 4)) (ys (6 * j + 5))).length) zta ztf, aB cB zrt 8192 ztt, oB zip zri I.length zia zfi, aB cB zri 8192 zti, oB zop zrO O.length zoa zfo, aB cB zrO (8192 * zu) zto_, oU zru zsm, aN cI zsm 4096 zS, aN cI zro 4096 zv, aN cI zsp 4096 zvs]) C hA hP hD hS hl.1 (c_M_feed l D cI cB y T I O V w hv [oM y 0 mro msp V.length w T.length I.length O.length ma0 mf0 mtp mip mop, aN cI mro 4096 mv, aN cI msp 4104 mvs, aN cI mtp 8192 mtt, aN cI mip 8192 mti, aN cI mop 24000 mto_] ⟨mro, msp, mtp, mip, mop, ma0, mf0, mtt, mti, mto_, mv, mvs, rfl, mhT, mhI, mhO, mhV⟩ (ys (6 * j + 1)) (h32 _) (ys (6 * j + 2)) (h32 _) (ys (6 * j + 3)) (h32 _) (ys (6 * j + 4)) (h32 _) (ys (6 * j + 5)) (h32 _)) ok_L_17 [.int r1] [0, 1, 2, 3, 4, 5] [6, 7, 8, 9, 10, 11, 12, 13, 14, 15, 16] 3 0 rfl rfl rfl rfl (by decide) rfl (by decide) (by decide) rfl rfl (Nat.le_of_ble_eq_true rfl) (⟨by decide, by decide⟩) (⟨by show _ ≤ 600000; omega, by show _ ≤ 7302250; omega⟩) d_law_147 ?_
  intro r2 w1 H locs hw hP hD hS
  obtain ⟨hr2, hRM2⟩ := hw
  refine W.widen (k := 17 + 3 * (j + 1)) (n := 85482 + 49152 * (j + 1)) (by omega) (by omega) ?_
  refine lv_icmp_eq (tgt := 353) C.x C.b d_law_150 (by decide) (fun _ => ?_) (fun q => absurd (hr1.trans hr2.symm) q)
  exact kk (fdT T (ys (6 * j + 1)) (ys (6 * j + 2)) (ys (6 * j + 3)) (ys (6 * j + 4)) (ys (6 * j + 5))) I O V w [oX x ztp zip zop zru zro zsp V.length w, oB ztp zrt ((fdT T (ys (6 * j + 1)) (ys (6 * j + 2)) (ys (6 * j + 3)) (ys (6 * j + 4)) (ys (6 * j + 5))).length) zta ztf, aB cB zrt 8192 ztt, oB zip zri I.length zia zfi, aB cB zri 8192 zti, oB zop zrO O.length zoa zfo, aB cB zrO (8192 * zu) zto_, oU zru zsm, aN cI zsm 4096 zS, aN cI zro 4096 zv, aN cI zsp 4096 zvs] w1 H locs ls (Vd_feed hv) ⟨ztp, zip, zop, zru, zro, zsp, zrt, zri, zrO, zsm, zta, ztf, zia, zfi, zoa, zfo, zu, ztt, zti, zto_, zv, zvs, zS, rfl, zhT, zhI, zhO, zhV, zhu, zhul⟩ hRM2 hP hD hS hl
set_option maxHeartbeats 4000000 in
set_option maxRecDepth 100000 in
/-- the law: case 1, end -/
theorem law_1 {p : Program} {l : Launch} {e : Env} {s : State} {m : MethodId} {below : List Frame} {meth : Method} {c : Code} {D : va_G} {cI cB : ClassId} {b L : Nat} {xs : Nat → Int32} {ys : Nat → Nat} {nm : String} (C : Cx p s m #[Value.ref b] meth c D cI cB code 4 R_L ret nm) (hX : va_X b L xs s s.heap) (hbl : b < s.heap.size) (hys : ∀ j, xs j = nI (ys j)) (h32 : ∀ j, ys j < 2 ^ 32) (hL : L ≤ 384) (x y : Nat) (j : Nat) (hj : 6 * j + 6 ≤ L) (kk : ∀ (T I O V : List Nat) (w : Nat) (wX wM : va_W) (H : Heap) (locs : List Loc) (ls : Array Slot), Vd T I O V w → RX cI cB x T I O V w wX → RM cI y T I O V w wM → va_P D classes (wX ++ wM) H → va_D (fun q : Nat => s.heap.size ≤ q) (wX ++ wM) → va_S (fun q : Nat => s.heap.size ≤ q) s.heap H locs → lv_has ls 4 [(0, .ref b), (1, .ref x), (2, .ref y), (3, .int (nI (6 * j)))] → W p l e room_1 s m #[Value.ref b] below meth c H locs (17 + 3 * (j + 1)) (85482 + 49152 * (j + 1)) (lw_Z below #[Value.ref b] s) (F0 m 353 ls [])) (T I O V : List Nat) (w : Nat) (wX wM : va_W) (H : Heap) (locs : List Loc) (ls : Array Slot) (hv : Vd T I O V w) (hRX : RX cI cB x T I O V w wX) (hRM : RM cI y T I O V w wM) (hP : va_P D classes (wX ++ wM) H) (hD : va_D (fun q : Nat => s.heap.size ≤ q) (wX ++ wM)) (hS : va_S (fun q : Nat => s.heap.size ≤ q) s.heap H locs) (hl : lv_has ls 4 [(0, .ref b), (1, .ref x), (2, .ref y), (3, .int (nI (6 * j)))]) : W p l e room_1 s m #[Value.ref b] below meth c H locs (17 + 3 * j) (85482 + 49152 * j) (lw_Z below #[Value.ref b] s) (F0 m 155 ls []) := by
  have hA : ∀ q : Nat, s.heap.size ≤ q → (fun q : Nat => s.heap.size ≤ q) q := fun _ h => h
  have hbA : ¬ (fun q : Nat => s.heap.size ≤ q) b := Nat.not_le.mpr hbl
  obtain ⟨xtp, xip, xop, xru, xro, xsp, xrt, xri, xrO, xsm, xta, xtf, xia, xfi, xoa, xfo, xu, xtt, xti, xto_, xv, xvs, xS, rfl, xhT, xhI, xhO, xhV, xhu, xhul⟩ := hRX
  obtain ⟨mro, msp, mtp, mip, mop, ma0, mf0, mtt, mti, mto_, mv, mvs, rfl, mhT, mhI, mhO, mhV⟩ := hRM
  have hP : va_P D classes [oX x xtp xip xop xru xro xsp V.length w, oB xtp xrt T.length xta xtf, aB cB xrt 8192 xtt, oB xip xri I.length xia xfi, aB cB xri 8192 xti, oB xop xrO O.length xoa xfo, aB cB xrO (8192 * xu) xto_, oU xru xsm, aN cI xsm 4096 xS, aN cI xro 4096 xv, aN cI xsp 4096 xvs, oM y 0 mro msp V.length w T.length I.length O.length ma0 mf0 mtp mip mop, aN cI mro 4096 mv, aN cI msp 4104 mvs, aN cI mtp 8192 mtt, aN cI mip 8192 mti, aN cI mop 24000 mto_] H := hP
  have hD : va_D (fun q : Nat => s.heap.size ≤ q) [oX x xtp xip xop xru xro xsp V.length w, oB xtp xrt T.length xta xtf, aB cB xrt 8192 xtt, oB xip xri I.length xia xfi, aB cB xri 8192 xti, oB xop xrO O.length xoa xfo, aB cB xrO (8192 * xu) xto_, oU xru xsm, aN cI xsm 4096 xS, aN cI xro 4096 xv, aN cI xsp 4096 xvs, oM y 0 mro msp V.length w T.length I.length O.length ma0 mf0 mtp mip mop, aN cI mro 4096 mv, aN cI msp 4104 mvs, aN cI mtp 8192 mtt, aN cI mip 8192 mti, aN cI mop 24000 mto_] := hD
  refine lv_aload_n C.x C.b d_law_155 rfl (lv_at hl 1 rfl) ?_
  refine lv_aload_n C.x C.b d_law_156 rfl (lv_at hl 0 rfl) ?_
  refine lv_iload_n C.x C.b d_law_157 rfl (lv_at hl 3 rfl) ?_
  refine lv_iconst (v := nI 1) C.x C.b d_law_158 (by decide) ?_
  refine lv_iadd C.x C.b d_law_159 ?_
  refine ra_i (nI_add _ _) ?_
  refine va_sld C.x C.b hX hbl hbA hS (vp_in_nI (by omega) (by omega)) d_law_160 ?_
  refine ra_i (y := nI (ys (6 * j + 1))) (by rw [nI_clamp (by omega)]; exact hys _) ?_
  refine ciV (wr := [oM y 0 mro msp V.length w T.length I.length O.length ma0 mf0 mtp mip mop, aN cI mro 4096 mv, aN cI msp 4104 mvs, aN cI mtp 8192 mtt, aN cI mip 8192 mti, aN cI mop 24000 mto_]) C hA hP hD hS hl.1 (c_X_end l D cI cB x T I O V w hv [oX x xtp xip xop xru xro xsp V.length w, oB xtp xrt T.length xta xtf, aB cB xrt 8192 xtt, oB xip xri I.length xia xfi, aB cB xri 8192 xti, oB xop xrO O.length xoa xfo, aB cB xrO (8192 * xu) xto_, oU xru xsm, aN cI xsm 4096 xS, aN cI xro 4096 xv, aN cI xsp 4096 xvs] ⟨xtp, xip, xop, xru, xro, xsp, xrt, xri, xrO, xsm, xta, xtf, xia, xfi, xoa, xfo, xu, xtt, xti, xto_, xv, xvs, xS, rfl, xhT, xhI, xhO, xhV, xhu, xhul⟩ (ys (6 * j + 1)) (h32 _)) ok_L_18 [] [0, 1, 2, 3, 4, 5, 6, 7, 8, 9, 10] [11, 12, 13, 14, 15, 16] 2 0 rfl rfl rfl rfl (by decide) rfl (by decide) (by decide) rfl rfl (Nat.le_of_ble_eq_true rfl) (⟨by decide, by decide⟩) (⟨by show _ ≤ 600000; omega, by show _ ≤ 7302250; omega⟩) d_law_161 ?_
  intro r1 w1 H locs hw hP hD hS
  obtain ⟨hr1, hRX2⟩ := hw
  obtain ⟨ztp, zip, zop, zru, zro, zsp, zrt, zri, zrO, zsm, zta, ztf, zia, zfi, zoa, zfo, zu, ztt, zti, zto_, zv, zvs, zS, rfl, zhT, zhI, zhO, zhV, zhu, zhul⟩ := hRX2
  have hP : va_P D classes [oM y 0 mro msp V.length w T.length I.length O.length ma0 mf0 mtp mip mop, aN cI mro 4096 mv, aN cI msp 4104 mvs, aN cI mtp 8192 mtt, aN cI mip 8192 mti, aN cI mop 24000 mto_, oX x ztp zip zop zru zro zsp V.length w, oB ztp zrt ((enT T (ys (6 * j + 1))).length) zta ztf, aB cB zrt 8192 ztt, oB zip zri ((enI T I (ys (6 * j + 1))).length) zia zfi, aB cB zri 8192 zti, oB zop zrO O.length zoa zfo, aB cB zrO (8192 * zu) zto_, oU zru zsm, aN cI zsm 4096 zS, aN cI zro 4096 zv, aN cI zsp 4096 zvs] H := hP
  have hD : va_D (fun q : Nat => s.heap.size ≤ q) [oM y 0 mro msp V.length w T.length I.length O.length ma0 mf0 mtp mip mop, aN cI mro 4096 mv, aN cI msp 4104 mvs, aN cI mtp 8192 mtt, aN cI mip 8192 mti, aN cI mop 24000 mto_, oX x ztp zip zop zru zro zsp V.length w, oB ztp zrt ((enT T (ys (6 * j + 1))).length) zta ztf, aB cB zrt 8192 ztt, oB zip zri ((enI T I (ys (6 * j + 1))).length) zia zfi, aB cB zri 8192 zti, oB zop zrO O.length zoa zfo, aB cB zrO (8192 * zu) zto_, oU zru zsm, aN cI zsm 4096 zS, aN cI zro 4096 zv, aN cI zsp 4096 zvs] := hD
  refine lv_aload_n C.x C.b d_law_164 rfl (lv_at hl 2 rfl) ?_
  refine lv_aload_n C.x C.b d_law_165 rfl (lv_at hl 0 rfl) ?_
  refine lv_iload_n C.x C.b d_law_166 rfl (lv_at hl 3 rfl) ?_
  refine lv_iconst (v := nI 1) C.x C.b d_law_167 (by decide) ?_
  refine lv_iadd C.x C.b d_law_168 ?_
  refine ra_i (nI_add _ _) ?_
  refine va_sld C.x C.b hX hbl hbA hS (vp_in_nI (by omega) (by omega)) d_law_169 ?_
  refine ra_i (y := nI (ys (6 * j + 1))) (by rw [nI_clamp (by omega)]; exact hys _) ?_
  refine ciV (wr := [oX x ztp zip zop zru zro zsp V.length w, oB ztp zrt ((enT T (ys (6 * j + 1))).length) zta ztf, aB cB zrt 8192 ztt, oB zip zri ((enI T I (ys (6 * j + 1))).length) zia zfi, aB cB zri 8192 zti, oB zop zrO O.length zoa zfo, aB cB zrO (8192 * zu) zto_, oU zru zsm, aN cI zsm 4096 zS, aN cI zro 4096 zv, aN cI zsp 4096 zvs]) C hA hP hD hS hl.1 (c_M_end l D cI cB y T I O V w hv [oM y 0 mro msp V.length w T.length I.length O.length ma0 mf0 mtp mip mop, aN cI mro 4096 mv, aN cI msp 4104 mvs, aN cI mtp 8192 mtt, aN cI mip 8192 mti, aN cI mop 24000 mto_] ⟨mro, msp, mtp, mip, mop, ma0, mf0, mtt, mti, mto_, mv, mvs, rfl, mhT, mhI, mhO, mhV⟩ (ys (6 * j + 1)) (h32 _)) ok_L_22 [.int r1] [0, 1, 2, 3, 4, 5] [6, 7, 8, 9, 10, 11, 12, 13, 14, 15, 16] 3 0 rfl rfl rfl rfl (by decide) rfl (by decide) (by decide) rfl rfl (Nat.le_of_ble_eq_true rfl) (⟨by decide, by decide⟩) (⟨by show _ ≤ 600000; omega, by show _ ≤ 7302250; omega⟩) d_law_170 ?_
  intro r2 w1 H locs hw hP hD hS
  obtain ⟨hr2, hRM2⟩ := hw
  refine W.widen (k := 17 + 3 * (j + 1)) (n := 85482 + 49152 * (j + 1)) (by omega) (by omega) ?_
  refine lv_icmp_eq (tgt := 353) C.x C.b d_law_173 (by decide) (fun _ => ?_) (fun q => absurd (hr1.trans hr2.symm) q)
  exact kk (enT T (ys (6 * j + 1))) (enI T I (ys (6 * j + 1))) O V w [oX x ztp zip zop zru zro zsp V.length w, oB ztp zrt ((enT T (ys (6 * j + 1))).length) zta ztf, aB cB zrt 8192 ztt, oB zip zri ((enI T I (ys (6 * j + 1))).length) zia zfi, aB cB zri 8192 zti, oB zop zrO O.length zoa zfo, aB cB zrO (8192 * zu) zto_, oU zru zsm, aN cI zsm 4096 zS, aN cI zro 4096 zv, aN cI zsp 4096 zvs] w1 H locs ls (Vd_end hv) ⟨ztp, zip, zop, zru, zro, zsp, zrt, zri, zrO, zsm, zta, ztf, zia, zfi, zoa, zfo, zu, ztt, zti, zto_, zv, zvs, zS, rfl, zhT, zhI, zhO, zhV, zhu, zhul⟩ hRM2 hP hD hS hl
set_option maxHeartbeats 4000000 in
set_option maxRecDepth 100000 in
/-- the law: case 2, width -/
theorem law_2 {p : Program} {l : Launch} {e : Env} {s : State} {m : MethodId} {below : List Frame} {meth : Method} {c : Code} {D : va_G} {cI cB : ClassId} {b L : Nat} {xs : Nat → Int32} {ys : Nat → Nat} {nm : String} (C : Cx p s m #[Value.ref b] meth c D cI cB code 4 R_L ret nm) (hX : va_X b L xs s s.heap) (hbl : b < s.heap.size) (hys : ∀ j, xs j = nI (ys j)) (h32 : ∀ j, ys j < 2 ^ 32) (hL : L ≤ 384) (x y : Nat) (j : Nat) (hj : 6 * j + 6 ≤ L) (kk : ∀ (T I O V : List Nat) (w : Nat) (wX wM : va_W) (H : Heap) (locs : List Loc) (ls : Array Slot), Vd T I O V w → RX cI cB x T I O V w wX → RM cI y T I O V w wM → va_P D classes (wX ++ wM) H → va_D (fun q : Nat => s.heap.size ≤ q) (wX ++ wM) → va_S (fun q : Nat => s.heap.size ≤ q) s.heap H locs → lv_has ls 4 [(0, .ref b), (1, .ref x), (2, .ref y), (3, .int (nI (6 * j)))] → W p l e room_1 s m #[Value.ref b] below meth c H locs (17 + 3 * (j + 1)) (85482 + 49152 * (j + 1)) (lw_Z below #[Value.ref b] s) (F0 m 353 ls [])) (T I O V : List Nat) (w : Nat) (wX wM : va_W) (H : Heap) (locs : List Loc) (ls : Array Slot) (hv : Vd T I O V w) (hRX : RX cI cB x T I O V w wX) (hRM : RM cI y T I O V w wM) (hP : va_P D classes (wX ++ wM) H) (hD : va_D (fun q : Nat => s.heap.size ≤ q) (wX ++ wM)) (hS : va_S (fun q : Nat => s.heap.size ≤ q) s.heap H locs) (hl : lv_has ls 4 [(0, .ref b), (1, .ref x), (2, .ref y), (3, .int (nI (6 * j)))]) : W p l e room_1 s m #[Value.ref b] below meth c H locs (17 + 3 * j) (85482 + 49152 * j) (lw_Z below #[Value.ref b] s) (F0 m 178 ls []) := by
  have hA : ∀ q : Nat, s.heap.size ≤ q → (fun q : Nat => s.heap.size ≤ q) q := fun _ h => h
  have hbA : ¬ (fun q : Nat => s.heap.size ≤ q) b := Nat.not_le.mpr hbl
  obtain ⟨xtp, xip, xop, xru, xro, xsp, xrt, xri, xrO, xsm, xta, xtf, xia, xfi, xoa, xfo, xu, xtt, xti, xto_, xv, xvs, xS, rfl, xhT, xhI, xhO, xhV, xhu, xhul⟩ := hRX
  obtain ⟨mro, msp, mtp, mip, mop, ma0, mf0, mtt, mti, mto_, mv, mvs, rfl, mhT, mhI, mhO, mhV⟩ := hRM
  have hP : va_P D classes [oX x xtp xip xop xru xro xsp V.length w, oB xtp xrt T.length xta xtf, aB cB xrt 8192 xtt, oB xip xri I.length xia xfi, aB cB xri 8192 xti, oB xop xrO O.length xoa xfo, aB cB xrO (8192 * xu) xto_, oU xru xsm, aN cI xsm 4096 xS, aN cI xro 4096 xv, aN cI xsp 4096 xvs, oM y 0 mro msp V.length w T.length I.length O.length ma0 mf0 mtp mip mop, aN cI mro 4096 mv, aN cI msp 4104 mvs, aN cI mtp 8192 mtt, aN cI mip 8192 mti, aN cI mop 24000 mto_] H := hP
  have hD : va_D (fun q : Nat => s.heap.size ≤ q) [oX x xtp xip xop xru xro xsp V.length w, oB xtp xrt T.length xta xtf, aB cB xrt 8192 xtt, oB xip xri I.length xia xfi, aB cB xri 8192 xti, oB xop xrO O.length xoa xfo, aB cB xrO (8192 * xu) xto_, oU xru xsm, aN cI xsm 4096 xS, aN cI xro 4096 xv, aN cI xsp 4096 xvs, oM y 0 mro msp V.length w T.length I.length O.length ma0 mf0 mtp mip mop, aN cI mro 4096 mv, aN cI msp 4104 mvs, aN cI mtp 8192 mtt, aN cI mip 8192 mti, aN cI mop 24000 mto_] := hD
  refine lv_aload_n C.x C.b d_law_178 rfl (lv_at hl 1 rfl) ?_
  refine lv_aload_n C.x C.b d_law_179 rfl (lv_at hl 0 rfl) ?_
  refine lv_iload_n C.x C.b d_law_180 rfl (lv_at hl 3 rfl) ?_
  refine lv_iconst (v := nI 1) C.x C.b d_law_181 (by decide) ?_
  refine lv_iadd C.x C.b d_law_182 ?_
  refine ra_i (nI_add _ _) ?_
  refine va_sld C.x C.b hX hbl hbA hS (vp_in_nI (by omega) (by omega)) d_law_183 ?_
  refine ra_i (y := nI (ys (6 * j + 1))) (by rw [nI_clamp (by omega)]; exact hys _) ?_
  refine ciV (wr := [oM y 0 mro msp V.length w T.length I.length O.length ma0 mf0 mtp mip mop, aN cI mro 4096 mv, aN cI msp 4104 mvs, aN cI mtp 8192 mtt, aN cI mip 8192 mti, aN cI mop 24000 mto_]) C hA hP hD hS hl.1 (c_X_width l D cI cB x T I O V w hv [oX x xtp xip xop xru xro xsp V.length w, oB xtp xrt T.length xta xtf, aB cB xrt 8192 xtt, oB xip xri I.length xia xfi, aB cB xri 8192 xti, oB xop xrO O.length xoa xfo, aB cB xrO (8192 * xu) xto_, oU xru xsm, aN cI xsm 4096 xS, aN cI xro 4096 xv, aN cI xsp 4096 xvs] ⟨xtp, xip, xop, xru, xro, xsp, xrt, xri, xrO, xsm, xta, xtf, xia, xfi, xoa, xfo, xu, xtt, xti, xto_, xv, xvs, xS, rfl, xhT, xhI, xhO, xhV, xhu, xhul⟩ (ys (6 * j + 1)) (h32 _)) ok_L_23 [] [0, 1, 2, 3, 4, 5, 6, 7, 8, 9, 10] [11, 12, 13, 14, 15, 16] 2 0 rfl rfl rfl rfl (by decide) rfl (by decide) (by decide) rfl rfl (Nat.le_of_ble_eq_true rfl) (⟨by decide, by decide⟩) (⟨by show _ ≤ 600000; omega, by show _ ≤ 7302250; omega⟩) d_law_184 ?_
  intro r1 w1 H locs hw hP hD hS
  obtain ⟨hr1, hRX2⟩ := hw
  obtain ⟨ztp, zip, zop, zru, zro, zsp, zrt, zri, zrO, zsm, zta, ztf, zia, zfi, zoa, zfo, zu, ztt, zti, zto_, zv, zvs, zS, rfl, zhT, zhI, zhO, zhV, zhu, zhul⟩ := hRX2
  have hP : va_P D classes [oM y 0 mro msp V.length w T.length I.length O.length ma0 mf0 mtp mip mop, aN cI mro 4096 mv, aN cI msp 4104 mvs, aN cI mtp 8192 mtt, aN cI mip 8192 mti, aN cI mop 24000 mto_, oX x ztp zip zop zru zro zsp V.length (wiW w (ys (6 * j + 1))), oB ztp zrt T.length zta ztf, aB cB zrt 8192 ztt, oB zip zri I.length zia zfi, aB cB zri 8192 zti, oB zop zrO O.length zoa zfo, aB cB zrO (8192 * zu) zto_, oU zru zsm, aN cI zsm 4096 zS, aN cI zro 4096 zv, aN cI zsp 4096 zvs] H := hP
  have hD : va_D (fun q : Nat => s.heap.size ≤ q) [oM y 0 mro msp V.length w T.length I.length O.length ma0 mf0 mtp mip mop, aN cI mro 4096 mv, aN cI msp 4104 mvs, aN cI mtp 8192 mtt, aN cI mip 8192 mti, aN cI mop 24000 mto_, oX x ztp zip zop zru zro zsp V.length (wiW w (ys (6 * j + 1))), oB ztp zrt T.length zta ztf, aB cB zrt 8192 ztt, oB zip zri I.length zia zfi, aB cB zri 8192 zti, oB zop zrO O.length zoa zfo, aB cB zrO (8192 * zu) zto_, oU zru zsm, aN cI zsm 4096 zS, aN cI zro 4096 zv, aN cI zsp 4096 zvs] := hD
  refine lv_aload_n C.x C.b d_law_187 rfl (lv_at hl 2 rfl) ?_
  refine lv_aload_n C.x C.b d_law_188 rfl (lv_at hl 0 rfl) ?_
  refine lv_iload_n C.x C.b d_law_189 rfl (lv_at hl 3 rfl) ?_
  refine lv_iconst (v := nI 1) C.x C.b d_law_190 (by decide) ?_
  refine lv_iadd C.x C.b d_law_191 ?_
  refine ra_i (nI_add _ _) ?_
  refine va_sld C.x C.b hX hbl hbA hS (vp_in_nI (by omega) (by omega)) d_law_192 ?_
  refine ra_i (y := nI (ys (6 * j + 1))) (by rw [nI_clamp (by omega)]; exact hys _) ?_
  refine ciV (wr := [oX x ztp zip zop zru zro zsp V.length (wiW w (ys (6 * j + 1))), oB ztp zrt T.length zta ztf, aB cB zrt 8192 ztt, oB zip zri I.length zia zfi, aB cB zri 8192 zti, oB zop zrO O.length zoa zfo, aB cB zrO (8192 * zu) zto_, oU zru zsm, aN cI zsm 4096 zS, aN cI zro 4096 zv, aN cI zsp 4096 zvs]) C hA hP hD hS hl.1 (c_M_width l D cI cB y T I O V w hv [oM y 0 mro msp V.length w T.length I.length O.length ma0 mf0 mtp mip mop, aN cI mro 4096 mv, aN cI msp 4104 mvs, aN cI mtp 8192 mtt, aN cI mip 8192 mti, aN cI mop 24000 mto_] ⟨mro, msp, mtp, mip, mop, ma0, mf0, mtt, mti, mto_, mv, mvs, rfl, mhT, mhI, mhO, mhV⟩ (ys (6 * j + 1)) (h32 _)) ok_L_26 [.int r1] [0, 1, 2, 3, 4, 5] [6, 7, 8, 9, 10, 11, 12, 13, 14, 15, 16] 3 0 rfl rfl rfl rfl (by decide) rfl (by decide) (by decide) rfl rfl (Nat.le_of_ble_eq_true rfl) (⟨by decide, by decide⟩) (⟨by show _ ≤ 600000; omega, by show _ ≤ 7302250; omega⟩) d_law_193 ?_
  intro r2 w1 H locs hw hP hD hS
  obtain ⟨hr2, hRM2⟩ := hw
  refine W.widen (k := 17 + 3 * (j + 1)) (n := 85482 + 49152 * (j + 1)) (by omega) (by omega) ?_
  refine lv_icmp_eq (tgt := 353) C.x C.b d_law_196 (by decide) (fun _ => ?_) (fun q => absurd (hr1.trans hr2.symm) q)
  exact kk T I O V (wiW w (ys (6 * j + 1))) [oX x ztp zip zop zru zro zsp V.length (wiW w (ys (6 * j + 1))), oB ztp zrt T.length zta ztf, aB cB zrt 8192 ztt, oB zip zri I.length zia zfi, aB cB zri 8192 zti, oB zop zrO O.length zoa zfo, aB cB zrO (8192 * zu) zto_, oU zru zsm, aN cI zsm 4096 zS, aN cI zro 4096 zv, aN cI zsp 4096 zvs] w1 H locs ls (Vd_width hv) ⟨ztp, zip, zop, zru, zro, zsp, zrt, zri, zrO, zsm, zta, ztf, zia, zfi, zoa, zfo, zu, ztt, zti, zto_, zv, zvs, zS, rfl, zhT, zhI, zhO, zhV, zhu, zhul⟩ hRM2 hP hD hS hl
set_option maxHeartbeats 4000000 in
set_option maxRecDepth 100000 in
/-- the law: case 3, add -/
theorem law_3 {p : Program} {l : Launch} {e : Env} {s : State} {m : MethodId} {below : List Frame} {meth : Method} {c : Code} {D : va_G} {cI cB : ClassId} {b L : Nat} {xs : Nat → Int32} {ys : Nat → Nat} {nm : String} (C : Cx p s m #[Value.ref b] meth c D cI cB code 4 R_L ret nm) (hX : va_X b L xs s s.heap) (hbl : b < s.heap.size) (hys : ∀ j, xs j = nI (ys j)) (h32 : ∀ j, ys j < 2 ^ 32) (hL : L ≤ 384) (x y : Nat) (j : Nat) (hj : 6 * j + 6 ≤ L) (kk : ∀ (T I O V : List Nat) (w : Nat) (wX wM : va_W) (H : Heap) (locs : List Loc) (ls : Array Slot), Vd T I O V w → RX cI cB x T I O V w wX → RM cI y T I O V w wM → va_P D classes (wX ++ wM) H → va_D (fun q : Nat => s.heap.size ≤ q) (wX ++ wM) → va_S (fun q : Nat => s.heap.size ≤ q) s.heap H locs → lv_has ls 4 [(0, .ref b), (1, .ref x), (2, .ref y), (3, .int (nI (6 * j)))] → W p l e room_1 s m #[Value.ref b] below meth c H locs (17 + 3 * (j + 1)) (85482 + 49152 * (j + 1)) (lw_Z below #[Value.ref b] s) (F0 m 353 ls [])) (T I O V : List Nat) (w : Nat) (wX wM : va_W) (H : Heap) (locs : List Loc) (ls : Array Slot) (hv : Vd T I O V w) (hRX : RX cI cB x T I O V w wX) (hRM : RM cI y T I O V w wM) (hP : va_P D classes (wX ++ wM) H) (hD : va_D (fun q : Nat => s.heap.size ≤ q) (wX ++ wM)) (hS : va_S (fun q : Nat => s.heap.size ≤ q) s.heap H locs) (hl : lv_has ls 4 [(0, .ref b), (1, .ref x), (2, .ref y), (3, .int (nI (6 * j)))]) : W p l e room_1 s m #[Value.ref b] below meth c H locs (17 + 3 * j) (85482 + 49152 * j) (lw_Z below #[Value.ref b] s) (F0 m 201 ls []) := by
  have hA : ∀ q : Nat, s.heap.size ≤ q → (fun q : Nat => s.heap.size ≤ q) q := fun _ h => h
  have hbA : ¬ (fun q : Nat => s.heap.size ≤ q) b := Nat.not_le.mpr hbl
  obtain ⟨xtp, xip, xop, xru, xro, xsp, xrt, xri, xrO, xsm, xta, xtf, xia, xfi, xoa, xfo, xu, xtt, xti, xto_, xv, xvs, xS, rfl, xhT, xhI, xhO, xhV, xhu, xhul⟩ := hRX
  obtain ⟨mro, msp, mtp, mip, mop, ma0, mf0, mtt, mti, mto_, mv, mvs, rfl, mhT, mhI, mhO, mhV⟩ := hRM
  have hP : va_P D classes [oX x xtp xip xop xru xro xsp V.length w, oB xtp xrt T.length xta xtf, aB cB xrt 8192 xtt, oB xip xri I.length xia xfi, aB cB xri 8192 xti, oB xop xrO O.length xoa xfo, aB cB xrO (8192 * xu) xto_, oU xru xsm, aN cI xsm 4096 xS, aN cI xro 4096 xv, aN cI xsp 4096 xvs, oM y 0 mro msp V.length w T.length I.length O.length ma0 mf0 mtp mip mop, aN cI mro 4096 mv, aN cI msp 4104 mvs, aN cI mtp 8192 mtt, aN cI mip 8192 mti, aN cI mop 24000 mto_] H := hP
  have hD : va_D (fun q : Nat => s.heap.size ≤ q) [oX x xtp xip xop xru xro xsp V.length w, oB xtp xrt T.length xta xtf, aB cB xrt 8192 xtt, oB xip xri I.length xia xfi, aB cB xri 8192 xti, oB xop xrO O.length xoa xfo, aB cB xrO (8192 * xu) xto_, oU xru xsm, aN cI xsm 4096 xS, aN cI xro 4096 xv, aN cI xsp 4096 xvs, oM y 0 mro msp V.length w T.length I.length O.length ma0 mf0 mtp mip mop, aN cI mro 4096 mv, aN cI msp 4104 mvs, aN cI mtp 8192 mtt, aN cI mip 8192 mti, aN cI mop 24000 mto_] := hD
  refine lv_aload_n C.x C.b d_law_201 rfl (lv_at hl 1 rfl) ?_
  refine lv_aload_n C.x C.b d_law_202 rfl (lv_at hl 0 rfl) ?_
  refine lv_iload_n C.x C.b d_law_203 rfl (lv_at hl 3 rfl) ?_
  refine lv_iconst (v := nI 1) C.x C.b d_law_204 (by decide) ?_
  refine lv_iadd C.x C.b d_law_205 ?_
  refine ra_i (nI_add _ _) ?_
  refine va_sld C.x C.b hX hbl hbA hS (vp_in_nI (by omega) (by omega)) d_law_206 ?_
  refine ra_i (y := nI (ys (6 * j + 1))) (by rw [nI_clamp (by omega)]; exact hys _) ?_
  refine lv_aload_n C.x C.b d_law_207 rfl (lv_at hl 0 rfl) ?_
  refine lv_iload_n C.x C.b d_law_208 rfl (lv_at hl 3 rfl) ?_
  refine lv_iconst (v := nI 2) C.x C.b d_law_209 (by decide) ?_
  refine lv_iadd C.x C.b d_law_210 ?_
  refine ra_i (nI_add _ _) ?_
  refine va_sld C.x C.b hX hbl hbA hS (vp_in_nI (by omega) (by omega)) d_law_211 ?_
  refine ra_i (y := nI (ys (6 * j + 2))) (by rw [nI_clamp (by omega)]; exact hys _) ?_
  refine ciV (wr := [oM y 0 mro msp V.length w T.length I.length O.length ma0 mf0 mtp mip mop, aN cI mro 4096 mv, aN cI msp 4104 mvs, aN cI mtp 8192 mtt, aN cI mip 8192 mti, aN cI mop 24000 mto_]) C hA hP hD hS hl.1 (c_X_add l D cI cB x T I O V w hv [oX x xtp xip xop xru xro xsp V.length w, oB xtp xrt T.length xta xtf, aB cB xrt 8192 xtt, oB xip xri I.length xia xfi, aB cB xri 8192 xti, oB xop xrO O.length xoa xfo, aB cB xrO (8192 * xu) xto_, oU xru xsm, aN cI xsm 4096 xS, aN cI xro 4096 xv, aN cI xsp 4096 xvs] ⟨xtp, xip, xop, xru, xro, xsp, xrt, xri, xrO, xsm, xta, xtf, xia, xfi, xoa, xfo, xu, xtt, xti, xto_, xv, xvs, xS, rfl, xhT, xhI, xhO, xhV, xhu, xhul⟩ (ys (6 * j + 1)) (ys (6 * j + 2)) (h32 _) (h32 _)) ok_L_27 [] [0, 1, 2, 3, 4, 5, 6, 7, 8, 9, 10] [11, 12, 13, 14, 15, 16] 2 0 rfl rfl rfl rfl (by decide) rfl (by decide) (by decide) rfl rfl (Nat.le_of_ble_eq_true rfl) (⟨by decide, by decide⟩) (⟨by show _ ≤ 600000; omega, by show _ ≤ 7302250; omega⟩) d_law_212 ?_
  intro r1 w1 H locs hw hP hD hS
  obtain ⟨hr1, hRX2⟩ := hw
  obtain ⟨ztp, zip, zop, zru, zro, zsp, zrt, zri, zrO, zsm, zta, ztf, zia, zfi, zoa, zfo, zu, ztt, zti, zto_, zv, zvs, zS, rfl, zhT, zhI, zhO, zhV, zhu, zhul⟩ := hRX2
  have hP : va_P D classes [oM y 0 mro msp V.length w T.length I.length O.length ma0 mf0 mtp mip mop, aN cI mro 4096 mv, aN cI msp 4104 mvs, aN cI mtp 8192 mtt, aN cI mip 8192 mti, aN cI mop 24000 mto_, oX x ztp zip zop zru zro zsp ((adV V (ys (6 * j + 1)) (ys (6 * j + 2))).length) w, oB ztp zrt T.length zta ztf, aB cB zrt 8192 ztt, oB zip zri I.length zia zfi, aB cB zri 8192 zti, oB zop zrO O.length zoa zfo, aB cB zrO (8192 * zu) zto_, oU zru zsm, aN cI zsm 4096 zS, aN cI zro 4096 zv, aN cI zsp 4096 zvs] H := hP
  have hD : va_D (fun q : Nat => s.heap.size ≤ q) [oM y 0 mro msp V.length w T.length I.length O.length ma0 mf0 mtp mip mop, aN cI mro 4096 mv, aN cI msp 4104 mvs, aN cI mtp 8192 mtt, aN cI mip 8192 mti, aN cI mop 24000 mto_, oX x ztp zip zop zru zro zsp ((adV V (ys (6 * j + 1)) (ys (6 * j + 2))).length) w, oB ztp zrt T.length zta ztf, aB cB zrt 8192 ztt, oB zip zri I.length zia zfi, aB cB zri 8192 zti, oB zop zrO O.length zoa zfo, aB cB zrO (8192 * zu) zto_, oU zru zsm, aN cI zsm 4096 zS, aN cI zro 4096 zv, aN cI zsp 4096 zvs] := hD
  refine lv_aload_n C.x C.b d_law_215 rfl (lv_at hl 2 rfl) ?_
  refine lv_aload_n C.x C.b d_law_216 rfl (lv_at hl 0 rfl) ?_
  refine lv_iload_n C.x C.b d_law_217 rfl (lv_at hl 3 rfl) ?_
  refine lv_iconst (v := nI 1) C.x C.b d_law_218 (by decide) ?_
  refine lv_iadd C.x C.b d_law_219 ?_
  refine ra_i (nI_add _ _) ?_
  refine va_sld C.x C.b hX hbl hbA hS (vp_in_nI (by omega) (by omega)) d_law_220 ?_
  refine ra_i (y := nI (ys (6 * j + 1))) (by rw [nI_clamp (by omega)]; exact hys _) ?_
  refine lv_aload_n C.x C.b d_law_221 rfl (lv_at hl 0 rfl) ?_
  refine lv_iload_n C.x C.b d_law_222 rfl (lv_at hl 3 rfl) ?_
  refine lv_iconst (v := nI 2) C.x C.b d_law_223 (by decide) ?_
  refine lv_iadd C.x C.b d_law_224 ?_
  refine ra_i (nI_add _ _) ?_
  refine va_sld C.x C.b hX hbl hbA hS (vp_in_nI (by omega) (by omega)) d_law_225 ?_
  refine ra_i (y := nI (ys (6 * j + 2))) (by rw [nI_clamp (by omega)]; exact hys _) ?_
  refine ciV (wr := [oX x ztp zip zop zru zro zsp ((adV V (ys (6 * j + 1)) (ys (6 * j + 2))).length) w, oB ztp zrt T.length zta ztf, aB cB zrt 8192 ztt, oB zip zri I.length zia zfi, aB cB zri 8192 zti, oB zop zrO O.length zoa zfo, aB cB zrO (8192 * zu) zto_, oU zru zsm, aN cI zsm 4096 zS, aN cI zro 4096 zv, aN cI zsp 4096 zvs]) C hA hP hD hS hl.1 (c_M_add l D cI cB y T I O V w hv [oM y 0 mro msp V.length w T.length I.length O.length ma0 mf0 mtp mip mop, aN cI mro 4096 mv, aN cI msp 4104 mvs, aN cI mtp 8192 mtt, aN cI mip 8192 mti, aN cI mop 24000 mto_] ⟨mro, msp, mtp, mip, mop, ma0, mf0, mtt, mti, mto_, mv, mvs, rfl, mhT, mhI, mhO, mhV⟩ (ys (6 * j + 1)) (ys (6 * j + 2)) (h32 _) (h32 _)) ok_L_31 [.int r1] [0, 1, 2, 3, 4, 5] [6, 7, 8, 9, 10, 11, 12, 13, 14, 15, 16] 3 0 rfl rfl rfl rfl (by decide) rfl (by decide) (by decide) rfl rfl (Nat.le_of_ble_eq_true rfl) (⟨by decide, by decide⟩) (⟨by show _ ≤ 600000; omega, by show _ ≤ 7302250; omega⟩) d_law_226 ?_
  intro r2 w1 H locs hw hP hD hS
  obtain ⟨hr2, hRM2⟩ := hw
  refine W.widen (k := 17 + 3 * (j + 1)) (n := 85482 + 49152 * (j + 1)) (by omega) (by omega) ?_
  refine lv_icmp_eq (tgt := 353) C.x C.b d_law_229 (by decide) (fun _ => ?_) (fun q => absurd (hr1.trans hr2.symm) q)
  exact kk T I O (adV V (ys (6 * j + 1)) (ys (6 * j + 2))) w [oX x ztp zip zop zru zro zsp ((adV V (ys (6 * j + 1)) (ys (6 * j + 2))).length) w, oB ztp zrt T.length zta ztf, aB cB zrt 8192 ztt, oB zip zri I.length zia zfi, aB cB zri 8192 zti, oB zop zrO O.length zoa zfo, aB cB zrO (8192 * zu) zto_, oU zru zsm, aN cI zsm 4096 zS, aN cI zro 4096 zv, aN cI zsp 4096 zvs] w1 H locs ls (Vd_add (h32 _) hv) ⟨ztp, zip, zop, zru, zro, zsp, zrt, zri, zrO, zsm, zta, ztf, zia, zfi, zoa, zfo, zu, ztt, zti, zto_, zv, zvs, zS, rfl, zhT, zhI, zhO, zhV, zhu, zhul⟩ hRM2 hP hD hS hl
set_option maxHeartbeats 4000000 in
set_option maxRecDepth 100000 in
/-- the law: case 4, clear -/
theorem law_4 {p : Program} {l : Launch} {e : Env} {s : State} {m : MethodId} {below : List Frame} {meth : Method} {c : Code} {D : va_G} {cI cB : ClassId} {b L : Nat} {xs : Nat → Int32} {ys : Nat → Nat} {nm : String} (C : Cx p s m #[Value.ref b] meth c D cI cB code 4 R_L ret nm) (hX : va_X b L xs s s.heap) (hbl : b < s.heap.size) (hys : ∀ j, xs j = nI (ys j)) (h32 : ∀ j, ys j < 2 ^ 32) (hL : L ≤ 384) (x y : Nat) (j : Nat) (hj : 6 * j + 6 ≤ L) (kk : ∀ (T I O V : List Nat) (w : Nat) (wX wM : va_W) (H : Heap) (locs : List Loc) (ls : Array Slot), Vd T I O V w → RX cI cB x T I O V w wX → RM cI y T I O V w wM → va_P D classes (wX ++ wM) H → va_D (fun q : Nat => s.heap.size ≤ q) (wX ++ wM) → va_S (fun q : Nat => s.heap.size ≤ q) s.heap H locs → lv_has ls 4 [(0, .ref b), (1, .ref x), (2, .ref y), (3, .int (nI (6 * j)))] → W p l e room_1 s m #[Value.ref b] below meth c H locs (17 + 3 * (j + 1)) (85482 + 49152 * (j + 1)) (lw_Z below #[Value.ref b] s) (F0 m 353 ls [])) (T I O V : List Nat) (w : Nat) (wX wM : va_W) (H : Heap) (locs : List Loc) (ls : Array Slot) (hv : Vd T I O V w) (hRX : RX cI cB x T I O V w wX) (hRM : RM cI y T I O V w wM) (hP : va_P D classes (wX ++ wM) H) (hD : va_D (fun q : Nat => s.heap.size ≤ q) (wX ++ wM)) (hS : va_S (fun q : Nat => s.heap.size ≤ q) s.heap H locs) (hl : lv_has ls 4 [(0, .ref b), (1, .ref x), (2, .ref y), (3, .int (nI (6 * j)))]) : W p l e room_1 s m #[Value.ref b] below meth c H locs (17 + 3 * j) (85482 + 49152 * j) (lw_Z below #[Value.ref b] s) (F0 m 234 ls []) := by
  have hA : ∀ q : Nat, s.heap.size ≤ q → (fun q : Nat => s.heap.size ≤ q) q := fun _ h => h
  have hbA : ¬ (fun q : Nat => s.heap.size ≤ q) b := Nat.not_le.mpr hbl
  obtain ⟨xtp, xip, xop, xru, xro, xsp, xrt, xri, xrO, xsm, xta, xtf, xia, xfi, xoa, xfo, xu, xtt, xti, xto_, xv, xvs, xS, rfl, xhT, xhI, xhO, xhV, xhu, xhul⟩ := hRX
  obtain ⟨mro, msp, mtp, mip, mop, ma0, mf0, mtt, mti, mto_, mv, mvs, rfl, mhT, mhI, mhO, mhV⟩ := hRM
  have hP : va_P D classes [oX x xtp xip xop xru xro xsp V.length w, oB xtp xrt T.length xta xtf, aB cB xrt 8192 xtt, oB xip xri I.length xia xfi, aB cB xri 8192 xti, oB xop xrO O.length xoa xfo, aB cB xrO (8192 * xu) xto_, oU xru xsm, aN cI xsm 4096 xS, aN cI xro 4096 xv, aN cI xsp 4096 xvs, oM y 0 mro msp V.length w T.length I.length O.length ma0 mf0 mtp mip mop, aN cI mro 4096 mv, aN cI msp 4104 mvs, aN cI mtp 8192 mtt, aN cI mip 8192 mti, aN cI mop 24000 mto_] H := hP
  have hD : va_D (fun q : Nat => s.heap.size ≤ q) [oX x xtp xip xop xru xro xsp V.length w, oB xtp xrt T.length xta xtf, aB cB xrt 8192 xtt, oB xip xri I.length xia xfi, aB cB xri 8192 xti, oB xop xrO O.length xoa xfo, aB cB xrO (8192 * xu) xto_, oU xru xsm, aN cI xsm 4096 xS, aN cI xro 4096 xv, aN cI xsp 4096 xvs, oM y 0 mro msp V.length w T.length I.length O.length ma0 mf0 mtp mip mop, aN cI mro 4096 mv, aN cI msp 4104 mvs, aN cI mtp 8192 mtt, aN cI mip 8192 mti, aN cI mop 24000 mto_] := hD
  refine lv_aload_n C.x C.b d_law_234 rfl (lv_at hl 1 rfl) ?_
  refine cvV (wr := [oM y 0 mro msp V.length w T.length I.length O.length ma0 mf0 mtp mip mop, aN cI mro 4096 mv, aN cI msp 4104 mvs, aN cI mtp 8192 mtt, aN cI mip 8192 mti, aN cI mop 24000 mto_]) C hA hP hD hS hl.1 (c_X_clear l D cI cB x T I O V w hv [oX x xtp xip xop xru xro xsp V.length w, oB xtp xrt T.length xta xtf, aB cB xrt 8192 xtt, oB xip xri I.length xia xfi, aB cB xri 8192 xti, oB xop xrO O.length xoa xfo, aB cB xrO (8192 * xu) xto_, oU xru xsm, aN cI xsm 4096 xS, aN cI xro 4096 xv, aN cI xsp 4096 xvs] ⟨xtp, xip, xop, xru, xro, xsp, xrt, xri, xrO, xsm, xta, xtf, xia, xfi, xoa, xfo, xu, xtt, xti, xto_, xv, xvs, xS, rfl, xhT, xhI, xhO, xhV, xhu, xhul⟩ ) ok_L_32 [] [0, 1, 2, 3, 4, 5, 6, 7, 8, 9, 10] [11, 12, 13, 14, 15, 16] 2 0 rfl rfl rfl rfl (by decide) rfl (by decide) (by decide) rfl rfl (Nat.le_of_ble_eq_true rfl) (⟨by decide, by decide⟩) (⟨by show _ ≤ 600000; omega, by show _ ≤ 7302250; omega⟩) d_law_235 ?_
  intro w1 H locs hw hP hD hS
  have hRX2 : RX cI cB x T I O ([]) w w1 := hw
  obtain ⟨ztp, zip, zop, zru, zro, zsp, zrt, zri, zrO, zsm, zta, ztf, zia, zfi, zoa, zfo, zu, ztt, zti, zto_, zv, zvs, zS, rfl, zhT, zhI, zhO, zhV, zhu, zhul⟩ := hRX2
  have hP : va_P D classes [oM y 0 mro msp V.length w T.length I.length O.length ma0 mf0 mtp mip mop, aN cI mro 4096 mv, aN cI msp 4104 mvs, aN cI mtp 8192 mtt, aN cI mip 8192 mti, aN cI mop 24000 mto_, oX x ztp zip zop zru zro zsp (([]).length) w, oB ztp zrt T.length zta ztf, aB cB zrt 8192 ztt, oB zip zri I.length zia zfi, aB cB zri 8192 zti, oB zop zrO O.length zoa zfo, aB cB zrO (8192 * zu) zto_, oU zru zsm, aN cI zsm 4096 zS, aN cI zro 4096 zv, aN cI zsp 4096 zvs] H := hP
  have hD : va_D (fun q : Nat => s.heap.size ≤ q) [oM y 0 mro msp V.length w T.length I.length O.length ma0 mf0 mtp mip mop, aN cI mro 4096 mv, aN cI msp 4104 mvs, aN cI mtp 8192 mtt, aN cI mip 8192 mti, aN cI mop 24000 mto_, oX x ztp zip zop zru zro zsp (([]).length) w, oB ztp zrt T.length zta ztf, aB cB zrt 8192 ztt, oB zip zri I.length zia zfi, aB cB zri 8192 zti, oB zop zrO O.length zoa zfo, aB cB zrO (8192 * zu) zto_, oU zru zsm, aN cI zsm 4096 zS, aN cI zro 4096 zv, aN cI zsp 4096 zvs] := hD
  refine lv_aload_n C.x C.b d_law_238 rfl (lv_at hl 2 rfl) ?_
  refine cvV (wr := [oX x ztp zip zop zru zro zsp (([]).length) w, oB ztp zrt T.length zta ztf, aB cB zrt 8192 ztt, oB zip zri I.length zia zfi, aB cB zri 8192 zti, oB zop zrO O.length zoa zfo, aB cB zrO (8192 * zu) zto_, oU zru zsm, aN cI zsm 4096 zS, aN cI zro 4096 zv, aN cI zsp 4096 zvs]) C hA hP hD hS hl.1 (c_M_clear l D cI cB y T I O V w hv [oM y 0 mro msp V.length w T.length I.length O.length ma0 mf0 mtp mip mop, aN cI mro 4096 mv, aN cI msp 4104 mvs, aN cI mtp 8192 mtt, aN cI mip 8192 mti, aN cI mop 24000 mto_] ⟨mro, msp, mtp, mip, mop, ma0, mf0, mtt, mti, mto_, mv, mvs, rfl, mhT, mhI, mhO, mhV⟩ ) ok_L_35 [] [0, 1, 2, 3, 4, 5] [6, 7, 8, 9, 10, 11, 12, 13, 14, 15, 16] 3 0 rfl rfl rfl rfl (by decide) rfl (by decide) (by decide) rfl rfl (Nat.le_of_ble_eq_true rfl) (⟨by decide, by decide⟩) (⟨by show _ ≤ 600000; omega, by show _ ≤ 7302250; omega⟩) d_law_239 ?_
  intro w1 H locs hw hP hD hS
  have hRM2 : RM cI y T I O ([]) w w1 := hw
  refine W.widen (k := 17 + 3 * (j + 1)) (n := 85482 + 49152 * (j + 1)) (by omega) (by omega) ?_
  refine lv_goto (tgt := 353) C.x C.b d_law_242 (by decide) ?_
  exact kk T I O ([]) w [oX x ztp zip zop zru zro zsp (([]).length) w, oB ztp zrt T.length zta ztf, aB cB zrt 8192 ztt, oB zip zri I.length zia zfi, aB cB zri 8192 zti, oB zop zrO O.length zoa zfo, aB cB zrO (8192 * zu) zto_, oU zru zsm, aN cI zsm 4096 zS, aN cI zro 4096 zv, aN cI zsp 4096 zvs] w1 H locs ls (Vd_clear hv) ⟨ztp, zip, zop, zru, zro, zsp, zrt, zri, zrO, zsm, zta, ztf, zia, zfi, zoa, zfo, zu, ztt, zti, zto_, zv, zvs, zS, rfl, zhT, zhI, zhO, zhV, zhu, zhul⟩ hRM2 hP hD hS hl
set_option maxHeartbeats 4000000 in
set_option maxRecDepth 100000 in
/-- the law: case 5, encode -/
theorem law_5 {p : Program} {l : Launch} {e : Env} {s : State} {m : MethodId} {below : List Frame} {meth : Method} {c : Code} {D : va_G} {cI cB : ClassId} {b L : Nat} {xs : Nat → Int32} {ys : Nat → Nat} {nm : String} (C : Cx p s m #[Value.ref b] meth c D cI cB code 4 R_L ret nm) (hX : va_X b L xs s s.heap) (hbl : b < s.heap.size) (hys : ∀ j, xs j = nI (ys j)) (h32 : ∀ j, ys j < 2 ^ 32) (hL : L ≤ 384) (x y : Nat) (j : Nat) (hj : 6 * j + 6 ≤ L) (kk : ∀ (T I O V : List Nat) (w : Nat) (wX wM : va_W) (H : Heap) (locs : List Loc) (ls : Array Slot), Vd T I O V w → RX cI cB x T I O V w wX → RM cI y T I O V w wM → va_P D classes (wX ++ wM) H → va_D (fun q : Nat => s.heap.size ≤ q) (wX ++ wM) → va_S (fun q : Nat => s.heap.size ≤ q) s.heap H locs → lv_has ls 4 [(0, .ref b), (1, .ref x), (2, .ref y), (3, .int (nI (6 * j)))] → W p l e room_1 s m #[Value.ref b] below meth c H locs (17 + 3 * (j + 1)) (85482 + 49152 * (j + 1)) (lw_Z below #[Value.ref b] s) (F0 m 353 ls [])) (T I O V : List Nat) (w : Nat) (wX wM : va_W) (H : Heap) (locs : List Loc) (ls : Array Slot) (hv : Vd T I O V w) (hRX : RX cI cB x T I O V w wX) (hRM : RM cI y T I O V w wM) (hP : va_P D classes (wX ++ wM) H) (hD : va_D (fun q : Nat => s.heap.size ≤ q) (wX ++ wM)) (hS : va_S (fun q : Nat => s.heap.size ≤ q) s.heap H locs) (hl : lv_has ls 4 [(0, .ref b), (1, .ref x), (2, .ref y), (3, .int (nI (6 * j)))]) : W p l e room_1 s m #[Value.ref b] below meth c H locs (17 + 3 * j) (85482 + 49152 * j) (lw_Z below #[Value.ref b] s) (F0 m 245 ls []) := by
  have hA : ∀ q : Nat, s.heap.size ≤ q → (fun q : Nat => s.heap.size ≤ q) q := fun _ h => h
  have hbA : ¬ (fun q : Nat => s.heap.size ≤ q) b := Nat.not_le.mpr hbl
  obtain ⟨xtp, xip, xop, xru, xro, xsp, xrt, xri, xrO, xsm, xta, xtf, xia, xfi, xoa, xfo, xu, xtt, xti, xto_, xv, xvs, xS, rfl, xhT, xhI, xhO, xhV, xhu, xhul⟩ := hRX
  obtain ⟨mro, msp, mtp, mip, mop, ma0, mf0, mtt, mti, mto_, mv, mvs, rfl, mhT, mhI, mhO, mhV⟩ := hRM
  have hP : va_P D classes [oX x xtp xip xop xru xro xsp V.length w, oB xtp xrt T.length xta xtf, aB cB xrt 8192 xtt, oB xip xri I.length xia xfi, aB cB xri 8192 xti, oB xop xrO O.length xoa xfo, aB cB xrO (8192 * xu) xto_, oU xru xsm, aN cI xsm 4096 xS, aN cI xro 4096 xv, aN cI xsp 4096 xvs, oM y 0 mro msp V.length w T.length I.length O.length ma0 mf0 mtp mip mop, aN cI mro 4096 mv, aN cI msp 4104 mvs, aN cI mtp 8192 mtt, aN cI mip 8192 mti, aN cI mop 24000 mto_] H := hP
  have hD : va_D (fun q : Nat => s.heap.size ≤ q) [oX x xtp xip xop xru xro xsp V.length w, oB xtp xrt T.length xta xtf, aB cB xrt 8192 xtt, oB xip xri I.length xia xfi, aB cB xri 8192 xti, oB xop xrO O.length xoa xfo, aB cB xrO (8192 * xu) xto_, oU xru xsm, aN cI xsm 4096 xS, aN cI xro 4096 xv, aN cI xsp 4096 xvs, oM y 0 mro msp V.length w T.length I.length O.length ma0 mf0 mtp mip mop, aN cI mro 4096 mv, aN cI msp 4104 mvs, aN cI mtp 8192 mtt, aN cI mip 8192 mti, aN cI mop 24000 mto_] := hD
  refine lv_aload_n C.x C.b d_law_245 rfl (lv_at hl 1 rfl) ?_
  refine ciV (wr := [oM y 0 mro msp V.length w T.length I.length O.length ma0 mf0 mtp mip mop, aN cI mro 4096 mv, aN cI msp 4104 mvs, aN cI mtp 8192 mtt, aN cI mip 8192 mti, aN cI mop 24000 mto_]) C hA hP hD hS hl.1 (c_X_encode l D cI cB x T I O V w hv [oX x xtp xip xop xru xro xsp V.length w, oB xtp xrt T.length xta xtf, aB cB xrt 8192 xtt, oB xip xri I.length xia xfi, aB cB xri 8192 xti, oB xop xrO O.length xoa xfo, aB cB xrO (8192 * xu) xto_, oU xru xsm, aN cI xsm 4096 xS, aN cI xro 4096 xv, aN cI xsp 4096 xvs] ⟨xtp, xip, xop, xru, xro, xsp, xrt, xri, xrO, xsm, xta, xtf, xia, xfi, xoa, xfo, xu, xtt, xti, xto_, xv, xvs, xS, rfl, xhT, xhI, xhO, xhV, xhu, xhul⟩ ) ok_L_36 [] [0, 1, 2, 3, 4, 5, 6, 7, 8, 9, 10] [11, 12, 13, 14, 15, 16] 2 0 rfl rfl rfl rfl (by decide) rfl (by decide) (by decide) rfl rfl (Nat.le_of_ble_eq_true rfl) (⟨by decide, by decide⟩) (⟨by show _ ≤ 600000; omega, by show _ ≤ 7302250; omega⟩) d_law_246 ?_
  intro r1 w1 H locs hw hP hD hS
  obtain ⟨hr1, hRX2⟩ := hw
  obtain ⟨ztp, zip, zop, zru, zro, zsp, zrt, zri, zrO, zsm, zta, ztf, zia, zfi, zoa, zfo, zu, ztt, zti, zto_, zv, zvs, zS, rfl, zhT, zhI, zhO, zhV, zhu, zhul⟩ := hRX2
  have hP : va_P D classes [oM y 0 mro msp V.length w T.length I.length O.length ma0 mf0 mtp mip mop, aN cI mro 4096 mv, aN cI msp 4104 mvs, aN cI mtp 8192 mtt, aN cI mip 8192 mti, aN cI mop 24000 mto_, oX x ztp zip zop zru zro zsp V.length w, oB ztp zrt T.length zta ztf, aB cB zrt 8192 ztt, oB zip zri I.length zia zfi, aB cB zri 8192 zti, oB zop zrO ((ecO V w).length) zoa zfo, aB cB zrO (8192 * zu) zto_, oU zru zsm, aN cI zsm 4096 zS, aN cI zro 4096 zv, aN cI zsp 4096 zvs] H := hP
  have hD : va_D (fun q : Nat => s.heap.size ≤ q) [oM y 0 mro msp V.length w T.length I.length O.length ma0 mf0 mtp mip mop, aN cI mro 4096 mv, aN cI msp 4104 mvs, aN cI mtp 8192 mtt, aN cI mip 8192 mti, aN cI mop 24000 mto_, oX x ztp zip zop zru zro zsp V.length w, oB ztp zrt T.length zta ztf, aB cB zrt 8192 ztt, oB zip zri I.length zia zfi, aB cB zri 8192 zti, oB zop zrO ((ecO V w).length) zoa zfo, aB cB zrO (8192 * zu) zto_, oU zru zsm, aN cI zsm 4096 zS, aN cI zro 4096 zv, aN cI zsp 4096 zvs] := hD
  refine lv_aload_n C.x C.b d_law_249 rfl (lv_at hl 2 rfl) ?_
  refine ciV (wr := [oX x ztp zip zop zru zro zsp V.length w, oB ztp zrt T.length zta ztf, aB cB zrt 8192 ztt, oB zip zri I.length zia zfi, aB cB zri 8192 zti, oB zop zrO ((ecO V w).length) zoa zfo, aB cB zrO (8192 * zu) zto_, oU zru zsm, aN cI zsm 4096 zS, aN cI zro 4096 zv, aN cI zsp 4096 zvs]) C hA hP hD hS hl.1 (c_M_encode l D cI cB y T I O V w hv [oM y 0 mro msp V.length w T.length I.length O.length ma0 mf0 mtp mip mop, aN cI mro 4096 mv, aN cI msp 4104 mvs, aN cI mtp 8192 mtt, aN cI mip 8192 mti, aN cI mop 24000 mto_] ⟨mro, msp, mtp, mip, mop, ma0, mf0, mtt, mti, mto_, mv, mvs, rfl, mhT, mhI, mhO, mhV⟩ ) ok_L_40 [.int r1] [0, 1, 2, 3, 4, 5] [6, 7, 8, 9, 10, 11, 12, 13, 14, 15, 16] 3 0 rfl rfl rfl rfl (by decide) rfl (by decide) (by decide) rfl rfl (Nat.le_of_ble_eq_true rfl) (⟨by decide, by decide⟩) (⟨by show _ ≤ 600000; omega, by show _ ≤ 7302250; omega⟩) d_law_250 ?_
  intro r2 w1 H locs hw hP hD hS
  obtain ⟨hr2, hRM2⟩ := hw
  refine W.widen (k := 17 + 3 * (j + 1)) (n := 85482 + 49152 * (j + 1)) (by omega) (by omega) ?_
  refine lv_icmp_eq (tgt := 353) C.x C.b d_law_253 (by decide) (fun _ => ?_) (fun q => absurd (hr1.trans hr2.symm) q)
  exact kk T I (ecO V w) V w [oX x ztp zip zop zru zro zsp V.length w, oB ztp zrt T.length zta ztf, aB cB zrt 8192 ztt, oB zip zri I.length zia zfi, aB cB zri 8192 zti, oB zop zrO ((ecO V w).length) zoa zfo, aB cB zrO (8192 * zu) zto_, oU zru zsm, aN cI zsm 4096 zS, aN cI zro 4096 zv, aN cI zsp 4096 zvs] w1 H locs ls (Vd_enc hv) ⟨ztp, zip, zop, zru, zro, zsp, zrt, zri, zrO, zsm, zta, ztf, zia, zfi, zoa, zfo, zu, ztt, zti, zto_, zv, zvs, zS, rfl, zhT, zhI, zhO, zhV, zhu, zhul⟩ hRM2 hP hD hS hl
end
section
/-! the law, case by case (printed by gen/law.py) -/
set_option maxHeartbeats 4000000 in
set_option maxRecDepth 100000 in
/-- the law: case 6, decode -/
theorem law_6 {p : Program} {l : Launch} {e : Env} {s : State} {m : MethodId} {below : List Frame} {meth : Method} {c : Code} {D : va_G} {cI cB : ClassId} {b L : Nat} {xs : Nat → Int32} {ys : Nat → Nat} {nm : String} (C : Cx p s m #[Value.ref b] meth c D cI cB code 4 R_L ret nm) (hX : va_X b L xs s s.heap) (hbl : b < s.heap.size) (hys : ∀ j, xs j = nI (ys j)) (h32 : ∀ j, ys j < 2 ^ 32) (hL : L ≤ 384) (x y : Nat) (j : Nat) (hj : 6 * j + 6 ≤ L) (kk : ∀ (T I O V : List Nat) (w : Nat) (wX wM : va_W) (H : Heap) (locs : List Loc) (ls : Array Slot), Vd T I O V w → RX cI cB x T I O V w wX → RM cI y T I O V w wM → va_P D classes (wX ++ wM) H → va_D (fun q : Nat => s.heap.size ≤ q) (wX ++ wM) → va_S (fun q : Nat => s.heap.size ≤ q) s.heap H locs → lv_has ls 4 [(0, .ref b), (1, .ref x), (2, .ref y), (3, .int (nI (6 * j)))] → W p l e room_1 s m #[Value.ref b] below meth c H locs (17 + 3 * (j + 1)) (85482 + 49152 * (j + 1)) (lw_Z below #[Value.ref b] s) (F0 m 353 ls [])) (T I O V : List Nat) (w : Nat) (wX wM : va_W) (H : Heap) (locs : List Loc) (ls : Array Slot) (hv : Vd T I O V w) (hRX : RX cI cB x T I O V w wX) (hRM : RM cI y T I O V w wM) (hP : va_P D classes (wX ++ wM) H) (hD : va_D (fun q : Nat => s.heap.size ≤ q) (wX ++ wM)) (hS : va_S (fun q : Nat => s.heap.size ≤ q) s.heap H locs) (hl : lv_has ls 4 [(0, .ref b), (1, .ref x), (2, .ref y), (3, .int (nI (6 * j)))]) : W p l e room_1 s m #[Value.ref b] below meth c H locs (17 + 3 * j) (85482 + 49152 * j) (lw_Z below #[Value.ref b] s) (F0 m 258 ls []) := by
  have hA : ∀ q : Nat, s.heap.size ≤ q → (fun q : Nat => s.heap.size ≤ q) q := fun _ h => h
  have hbA : ¬ (fun q : Nat => s.heap.size ≤ q) b := Nat.not_le.mpr hbl
  obtain ⟨xtp, xip, xop, xru, xro, xsp, xrt, xri, xrO, xsm, xta, xtf, xia, xfi, xoa, xfo, xu, xtt, xti, xto_, xv, xvs, xS, rfl, xhT, xhI, xhO, xhV, xhu, xhul⟩ := hRX
  obtain ⟨mro, msp, mtp, mip, mop, ma0, mf0, mtt, mti, mto_, mv, mvs, rfl, mhT, mhI, mhO, mhV⟩ := hRM
  have hP : va_P D classes [oX x xtp xip xop xru xro xsp V.length w, oB xtp xrt T.length xta xtf, aB cB xrt 8192 xtt, oB xip xri I.length xia xfi, aB cB xri 8192 xti, oB xop xrO O.length xoa xfo, aB cB xrO (8192 * xu) xto_, oU xru xsm, aN cI xsm 4096 xS, aN cI xro 4096 xv, aN cI xsp 4096 xvs, oM y 0 mro msp V.length w T.length I.length O.length ma0 mf0 mtp mip mop, aN cI mro 4096 mv, aN cI msp 4104 mvs, aN cI mtp 8192 mtt, aN cI mip 8192 mti, aN cI mop 24000 mto_] H := hP
  have hD : va_D (fun q : Nat => s.heap.size ≤ q) [oX x xtp xip xop xru xro xsp V.length w, oB xtp xrt T.length xta xtf, aB cB xrt 8192 xtt, oB xip xri I.length xia xfi, aB cB xri 8192 xti, oB xop xrO O.length xoa xfo, aB cB xrO (8192 * xu) xto_, oU xru xsm, aN cI xsm 4096 xS, aN cI xro 4096 xv, aN cI xsp 4096 xvs, oM y 0 mro msp V.length w T.length I.length O.length ma0 mf0 mtp mip mop, aN cI mro 4096 mv, aN cI msp 4104 mvs, aN cI mtp 8192 mtt, aN cI mip 8192 mti, aN cI mop 24000 mto_] := hD
  refine lv_aload_n C.x C.b d_law_258 rfl (lv_at hl 1 rfl) ?_
  refine lv_aload_n C.x C.b d_law_259 rfl (lv_at hl 0 rfl) ?_
  refine lv_iload_n C.x C.b d_law_260 rfl (lv_at hl 3 rfl) ?_
  refine lv_iconst (v := nI 1) C.x C.b d_law_261 (by decide) ?_
  refine lv_iadd C.x C.b d_law_262 ?_
  refine ra_i (nI_add _ _) ?_
  refine va_sld C.x C.b hX hbl hbA hS (vp_in_nI (by omega) (by omega)) d_law_263 ?_
  refine ra_i (y := nI (ys (6 * j + 1))) (by rw [nI_clamp (by omega)]; exact hys _) ?_
  refine ciV (wr := [oM y 0 mro msp V.length w T.length I.length O.length ma0 mf0 mtp mip mop, aN cI mro 4096 mv, aN cI msp 4104 mvs, aN cI mtp 8192 mtt, aN cI mip 8192 mti, aN cI mop 24000 mto_]) C hA hP hD hS hl.1 (c_X_decode l D cI cB x T I O V w hv [oX x xtp xip xop xru xro xsp V.length w, oB xtp xrt T.length xta xtf, aB cB xrt 8192 xtt, oB xip xri I.length xia xfi, aB cB xri 8192 xti, oB xop xrO O.length xoa xfo, aB cB xrO (8192 * xu) xto_, oU xru xsm, aN cI xsm 4096 xS, aN cI xro 4096 xv, aN cI xsp 4096 xvs] ⟨xtp, xip, xop, xru, xro, xsp, xrt, xri, xrO, xsm, xta, xtf, xia, xfi, xoa, xfo, xu, xtt, xti, xto_, xv, xvs, xS, rfl, xhT, xhI, xhO, xhV, xhu, xhul⟩ (ys (6 * j + 1)) (h32 _)) ok_L_41 [] [0, 1, 2, 3, 4, 5, 6, 7, 8, 9, 10] [11, 12, 13, 14, 15, 16] 2 0 rfl rfl rfl rfl (by decide) rfl (by decide) (by decide) rfl rfl (Nat.le_of_ble_eq_true rfl) (⟨by decide, by decide⟩) (⟨by show _ ≤ 600000; omega, by show _ ≤ 7302250; omega⟩) d_law_264 ?_
  intro r1 w1 H locs hw hP hD hS
  obtain ⟨hr1, hRX2⟩ := hw
  obtain ⟨ztp, zip, zop, zru, zro, zsp, zrt, zri, zrO, zsm, zta, ztf, zia, zfi, zoa, zfo, zu, ztt, zti, zto_, zv, zvs, zS, rfl, zhT, zhI, zhO, zhV, zhu, zhul⟩ := hRX2
  have hP : va_P D classes [oM y 0 mro msp V.length w T.length I.length O.length ma0 mf0 mtp mip mop, aN cI mro 4096 mv, aN cI msp 4104 mvs, aN cI mtp 8192 mtt, aN cI mip 8192 mti, aN cI mop 24000 mto_, oX x ztp zip zop zru zro zsp ((dcV I V w (ys (6 * j + 1))).length) w, oB ztp zrt T.length zta ztf, aB cB zrt 8192 ztt, oB zip zri I.length zia zfi, aB cB zri 8192 zti, oB zop zrO O.length zoa zfo, aB cB zrO (8192 * zu) zto_, oU zru zsm, aN cI zsm 4096 zS, aN cI zro 4096 zv, aN cI zsp 4096 zvs] H := hP
  have hD : va_D (fun q : Nat => s.heap.size ≤ q) [oM y 0 mro msp V.length w T.length I.length O.length ma0 mf0 mtp mip mop, aN cI mro 4096 mv, aN cI msp 4104 mvs, aN cI mtp 8192 mtt, aN cI mip 8192 mti, aN cI mop 24000 mto_, oX x ztp zip zop zru zro zsp ((dcV I V w (ys (6 * j + 1))).length) w, oB ztp zrt T.length zta ztf, aB cB zrt 8192 ztt, oB zip zri I.length zia zfi, aB cB zri 8192 zti, oB zop zrO O.length zoa zfo, aB cB zrO (8192 * zu) zto_, oU zru zsm, aN cI zsm 4096 zS, aN cI zro 4096 zv, aN cI zsp 4096 zvs] := hD
  refine lv_aload_n C.x C.b d_law_267 rfl (lv_at hl 2 rfl) ?_
  refine lv_aload_n C.x C.b d_law_268 rfl (lv_at hl 0 rfl) ?_
  refine lv_iload_n C.x C.b d_law_269 rfl (lv_at hl 3 rfl) ?_
  refine lv_iconst (v := nI 1) C.x C.b d_law_270 (by decide) ?_
  refine lv_iadd C.x C.b d_law_271 ?_
  refine ra_i (nI_add _ _) ?_
  refine va_sld C.x C.b hX hbl hbA hS (vp_in_nI (by omega) (by omega)) d_law_272 ?_
  refine ra_i (y := nI (ys (6 * j + 1))) (by rw [nI_clamp (by omega)]; exact hys _) ?_
  refine ciV (wr := [oX x ztp zip zop zru zro zsp ((dcV I V w (ys (6 * j + 1))).length) w, oB ztp zrt T.length zta ztf, aB cB zrt 8192 ztt, oB zip zri I.length zia zfi, aB cB zri 8192 zti, oB zop zrO O.length zoa zfo, aB cB zrO (8192 * zu) zto_, oU zru zsm, aN cI zsm 4096 zS, aN cI zro 4096 zv, aN cI zsp 4096 zvs]) C hA hP hD hS hl.1 (c_M_decode l D cI cB y T I O V w hv [oM y 0 mro msp V.length w T.length I.length O.length ma0 mf0 mtp mip mop, aN cI mro 4096 mv, aN cI msp 4104 mvs, aN cI mtp 8192 mtt, aN cI mip 8192 mti, aN cI mop 24000 mto_] ⟨mro, msp, mtp, mip, mop, ma0, mf0, mtt, mti, mto_, mv, mvs, rfl, mhT, mhI, mhO, mhV⟩ (ys (6 * j + 1)) (h32 _)) ok_L_45 [.int r1] [0, 1, 2, 3, 4, 5] [6, 7, 8, 9, 10, 11, 12, 13, 14, 15, 16] 3 0 rfl rfl rfl rfl (by decide) rfl (by decide) (by decide) rfl rfl (Nat.le_of_ble_eq_true rfl) (⟨by decide, by decide⟩) (⟨by show _ ≤ 600000; omega, by show _ ≤ 7302250; omega⟩) d_law_273 ?_
  intro r2 w1 H locs hw hP hD hS
  obtain ⟨hr2, hRM2⟩ := hw
  refine W.widen (k := 17 + 3 * (j + 1)) (n := 85482 + 49152 * (j + 1)) (by omega) (by omega) ?_
  refine lv_icmp_eq (tgt := 353) C.x C.b d_law_276 (by decide) (fun _ => ?_) (fun q => absurd (hr1.trans hr2.symm) q)
  exact kk T I O (dcV I V w (ys (6 * j + 1))) w [oX x ztp zip zop zru zro zsp ((dcV I V w (ys (6 * j + 1))).length) w, oB ztp zrt T.length zta ztf, aB cB zrt 8192 ztt, oB zip zri I.length zia zfi, aB cB zri 8192 zti, oB zop zrO O.length zoa zfo, aB cB zrO (8192 * zu) zto_, oU zru zsm, aN cI zsm 4096 zS, aN cI zro 4096 zv, aN cI zsp 4096 zvs] w1 H locs ls (Vd_dec hv) ⟨ztp, zip, zop, zru, zro, zsp, zrt, zri, zrO, zsm, zta, ztf, zia, zfi, zoa, zfo, zu, ztt, zti, zto_, zv, zvs, zS, rfl, zhT, zhI, zhO, zhV, zhu, zhul⟩ hRM2 hP hD hS hl
set_option maxHeartbeats 4000000 in
set_option maxRecDepth 100000 in
/-- the law: case 7, turn -/
theorem law_7 {p : Program} {l : Launch} {e : Env} {s : State} {m : MethodId} {below : List Frame} {meth : Method} {c : Code} {D : va_G} {cI cB : ClassId} {b L : Nat} {xs : Nat → Int32} {ys : Nat → Nat} {nm : String} (C : Cx p s m #[Value.ref b] meth c D cI cB code 4 R_L ret nm) (hX : va_X b L xs s s.heap) (hbl : b < s.heap.size) (hys : ∀ j, xs j = nI (ys j)) (h32 : ∀ j, ys j < 2 ^ 32) (hL : L ≤ 384) (x y : Nat) (j : Nat) (hj : 6 * j + 6 ≤ L) (kk : ∀ (T I O V : List Nat) (w : Nat) (wX wM : va_W) (H : Heap) (locs : List Loc) (ls : Array Slot), Vd T I O V w → RX cI cB x T I O V w wX → RM cI y T I O V w wM → va_P D classes (wX ++ wM) H → va_D (fun q : Nat => s.heap.size ≤ q) (wX ++ wM) → va_S (fun q : Nat => s.heap.size ≤ q) s.heap H locs → lv_has ls 4 [(0, .ref b), (1, .ref x), (2, .ref y), (3, .int (nI (6 * j)))] → W p l e room_1 s m #[Value.ref b] below meth c H locs (17 + 3 * (j + 1)) (85482 + 49152 * (j + 1)) (lw_Z below #[Value.ref b] s) (F0 m 353 ls [])) (T I O V : List Nat) (w : Nat) (wX wM : va_W) (H : Heap) (locs : List Loc) (ls : Array Slot) (hv : Vd T I O V w) (hRX : RX cI cB x T I O V w wX) (hRM : RM cI y T I O V w wM) (hP : va_P D classes (wX ++ wM) H) (hD : va_D (fun q : Nat => s.heap.size ≤ q) (wX ++ wM)) (hS : va_S (fun q : Nat => s.heap.size ≤ q) s.heap H locs) (hl : lv_has ls 4 [(0, .ref b), (1, .ref x), (2, .ref y), (3, .int (nI (6 * j)))]) : W p l e room_1 s m #[Value.ref b] below meth c H locs (17 + 3 * j) (85482 + 49152 * j) (lw_Z below #[Value.ref b] s) (F0 m 281 ls []) := by
  have hA : ∀ q : Nat, s.heap.size ≤ q → (fun q : Nat => s.heap.size ≤ q) q := fun _ h => h
  have hbA : ¬ (fun q : Nat => s.heap.size ≤ q) b := Nat.not_le.mpr hbl
  obtain ⟨xtp, xip, xop, xru, xro, xsp, xrt, xri, xrO, xsm, xta, xtf, xia, xfi, xoa, xfo, xu, xtt, xti, xto_, xv, xvs, xS, rfl, xhT, xhI, xhO, xhV, xhu, xhul⟩ := hRX
  obtain ⟨mro, msp, mtp, mip, mop, ma0, mf0, mtt, mti, mto_, mv, mvs, rfl, mhT, mhI, mhO, mhV⟩ := hRM
  have hP : va_P D classes [oX x xtp xip xop xru xro xsp V.length w, oB xtp xrt T.length xta xtf, aB cB xrt 8192 xtt, oB xip xri I.length xia xfi, aB cB xri 8192 xti, oB xop xrO O.length xoa xfo, aB cB xrO (8192 * xu) xto_, oU xru xsm, aN cI xsm 4096 xS, aN cI xro 4096 xv, aN cI xsp 4096 xvs, oM y 0 mro msp V.length w T.length I.length O.length ma0 mf0 mtp mip mop, aN cI mro 4096 mv, aN cI msp 4104 mvs, aN cI mtp 8192 mtt, aN cI mip 8192 mti, aN cI mop 24000 mto_] H := hP
  have hD : va_D (fun q : Nat => s.heap.size ≤ q) [oX x xtp xip xop xru xro xsp V.length w, oB xtp xrt T.length xta xtf, aB cB xrt 8192 xtt, oB xip xri I.length xia xfi, aB cB xri 8192 xti, oB xop xrO O.length xoa xfo, aB cB xrO (8192 * xu) xto_, oU xru xsm, aN cI xsm 4096 xS, aN cI xro 4096 xv, aN cI xsp 4096 xvs, oM y 0 mro msp V.length w T.length I.length O.length ma0 mf0 mtp mip mop, aN cI mro 4096 mv, aN cI msp 4104 mvs, aN cI mtp 8192 mtt, aN cI mip 8192 mti, aN cI mop 24000 mto_] := hD
  refine lv_aload_n C.x C.b d_law_281 rfl (lv_at hl 1 rfl) ?_
  refine ciV (wr := [oM y 0 mro msp V.length w T.length I.length O.length ma0 mf0 mtp mip mop, aN cI mro 4096 mv, aN cI msp 4104 mvs, aN cI mtp 8192 mtt, aN cI mip 8192 mti, aN cI mop 24000 mto_]) C hA hP hD hS hl.1 (c_X_turn l D cI cB x T I O V w hv [oX x xtp xip xop xru xro xsp V.length w, oB xtp xrt T.length xta xtf, aB cB xrt 8192 xtt, oB xip xri I.length xia xfi, aB cB xri 8192 xti, oB xop xrO O.length xoa xfo, aB cB xrO (8192 * xu) xto_, oU xru xsm, aN cI xsm 4096 xS, aN cI xro 4096 xv, aN cI xsp 4096 xvs] ⟨xtp, xip, xop, xru, xro, xsp, xrt, xri, xrO, xsm, xta, xtf, xia, xfi, xoa, xfo, xu, xtt, xti, xto_, xv, xvs, xS, rfl, xhT, xhI, xhO, xhV, xhu, xhul⟩ ) ok_L_46 [] [0, 1, 2, 3, 4, 5, 6, 7, 8, 9, 10] [11, 12, 13, 14, 15, 16] 2 0 rfl rfl rfl rfl (by decide) rfl (by decide) (by decide) rfl rfl (Nat.le_of_ble_eq_true rfl) (⟨by decide, by decide⟩) (⟨by show _ ≤ 600000; omega, by show _ ≤ 7302250; omega⟩) d_law_282 ?_
  intro r1 w1 H locs hw hP hD hS
  obtain ⟨hr1, hRX2⟩ := hw
  obtain ⟨ztp, zip, zop, zru, zro, zsp, zrt, zri, zrO, zsm, zta, ztf, zia, zfi, zoa, zfo, zu, ztt, zti, zto_, zv, zvs, zS, rfl, zhT, zhI, zhO, zhV, zhu, zhul⟩ := hRX2
  have hP : va_P D classes [oM y 0 mro msp V.length w T.length I.length O.length ma0 mf0 mtp mip mop, aN cI mro 4096 mv, aN cI msp 4104 mvs, aN cI mtp 8192 mtt, aN cI mip 8192 mti, aN cI mop 24000 mto_, oX x ztp zip zop zru zro zsp V.length w, oB ztp zrt T.length zta ztf, aB cB zrt 8192 ztt, oB zip zri ((tuI I O).length) zia zfi, aB cB zri 8192 zti, oB zop zrO O.length zoa zfo, aB cB zrO (8192 * zu) zto_, oU zru zsm, aN cI zsm 4096 zS, aN cI zro 4096 zv, aN cI zsp 4096 zvs] H := hP
  have hD : va_D (fun q : Nat => s.heap.size ≤ q) [oM y 0 mro msp V.length w T.length I.length O.length ma0 mf0 mtp mip mop, aN cI mro 4096 mv, aN cI msp 4104 mvs, aN cI mtp 8192 mtt, aN cI mip 8192 mti, aN cI mop 24000 mto_, oX x ztp zip zop zru zro zsp V.length w, oB ztp zrt T.length zta ztf, aB cB zrt 8192 ztt, oB zip zri ((tuI I O).length) zia zfi, aB cB zri 8192 zti, oB zop zrO O.length zoa zfo, aB cB zrO (8192 * zu) zto_, oU zru zsm, aN cI zsm 4096 zS, aN cI zro 4096 zv, aN cI zsp 4096 zvs] := hD
  refine lv_aload_n C.x C.b d_law_285 rfl (lv_at hl 2 rfl) ?_
  refine ciV (wr := [oX x ztp zip zop zru zro zsp V.length w, oB ztp zrt T.length zta ztf, aB cB zrt 8192 ztt, oB zip zri ((tuI I O).length) zia zfi, aB cB zri 8192 zti, oB zop zrO O.length zoa zfo, aB cB zrO (8192 * zu) zto_, oU zru zsm, aN cI zsm 4096 zS, aN cI zro 4096 zv, aN cI zsp 4096 zvs]) C hA hP hD hS hl.1 (c_M_turn l D cI cB y T I O V w hv [oM y 0 mro msp V.length w T.length I.length O.length ma0 mf0 mtp mip mop, aN cI mro 4096 mv, aN cI msp 4104 mvs, aN cI mtp 8192 mtt, aN cI mip 8192 mti, aN cI mop 24000 mto_] ⟨mro, msp, mtp, mip, mop, ma0, mf0, mtt, mti, mto_, mv, mvs, rfl, mhT, mhI, mhO, mhV⟩ ) ok_L_50 [.int r1] [0, 1, 2, 3, 4, 5] [6, 7, 8, 9, 10, 11, 12, 13, 14, 15, 16] 3 0 rfl rfl rfl rfl (by decide) rfl (by decide) (by decide) rfl rfl (Nat.le_of_ble_eq_true rfl) (⟨by decide, by decide⟩) (⟨by show _ ≤ 600000; omega, by show _ ≤ 7302250; omega⟩) d_law_286 ?_
  intro r2 w1 H locs hw hP hD hS
  obtain ⟨hr2, hRM2⟩ := hw
  refine W.widen (k := 17 + 3 * (j + 1)) (n := 85482 + 49152 * (j + 1)) (by omega) (by omega) ?_
  refine lv_icmp_eq (tgt := 353) C.x C.b d_law_289 (by decide) (fun _ => ?_) (fun q => absurd (hr1.trans hr2.symm) q)
  exact kk T (tuI I O) O V w [oX x ztp zip zop zru zro zsp V.length w, oB ztp zrt T.length zta ztf, aB cB zrt 8192 ztt, oB zip zri ((tuI I O).length) zia zfi, aB cB zri 8192 zti, oB zop zrO O.length zoa zfo, aB cB zrO (8192 * zu) zto_, oU zru zsm, aN cI zsm 4096 zS, aN cI zro 4096 zv, aN cI zsp 4096 zvs] w1 H locs ls (Vd_turn hv) ⟨ztp, zip, zop, zru, zro, zsp, zrt, zri, zrO, zsm, zta, ztf, zia, zfi, zoa, zfo, zu, ztt, zti, zto_, zv, zvs, zS, rfl, zhT, zhI, zhO, zhV, zhu, zhul⟩ hRM2 hP hD hS hl
set_option maxHeartbeats 4000000 in
set_option maxRecDepth 100000 in
/-- the law: case 8, size -/
theorem law_8 {p : Program} {l : Launch} {e : Env} {s : State} {m : MethodId} {below : List Frame} {meth : Method} {c : Code} {D : va_G} {cI cB : ClassId} {b L : Nat} {xs : Nat → Int32} {ys : Nat → Nat} {nm : String} (C : Cx p s m #[Value.ref b] meth c D cI cB code 4 R_L ret nm) (hX : va_X b L xs s s.heap) (hbl : b < s.heap.size) (hys : ∀ j, xs j = nI (ys j)) (h32 : ∀ j, ys j < 2 ^ 32) (hL : L ≤ 384) (x y : Nat) (j : Nat) (hj : 6 * j + 6 ≤ L) (kk : ∀ (T I O V : List Nat) (w : Nat) (wX wM : va_W) (H : Heap) (locs : List Loc) (ls : Array Slot), Vd T I O V w → RX cI cB x T I O V w wX → RM cI y T I O V w wM → va_P D classes (wX ++ wM) H → va_D (fun q : Nat => s.heap.size ≤ q) (wX ++ wM) → va_S (fun q : Nat => s.heap.size ≤ q) s.heap H locs → lv_has ls 4 [(0, .ref b), (1, .ref x), (2, .ref y), (3, .int (nI (6 * j)))] → W p l e room_1 s m #[Value.ref b] below meth c H locs (17 + 3 * (j + 1)) (85482 + 49152 * (j + 1)) (lw_Z below #[Value.ref b] s) (F0 m 353 ls [])) (T I O V : List Nat) (w : Nat) (wX wM : va_W) (H : Heap) (locs : List Loc) (ls : Array Slot) (hv : Vd T I O V w) (hRX : RX cI cB x T I O V w wX) (hRM : RM cI y T I O V w wM) (hP : va_P D classes (wX ++ wM) H) (hD : va_D (fun q : Nat => s.heap.size ≤ q) (wX ++ wM)) (hS : va_S (fun q : Nat => s.heap.size ≤ q) s.heap H locs) (hl : lv_has ls 4 [(0, .ref b), (1, .ref x), (2, .ref y), (3, .int (nI (6 * j)))]) : W p l e room_1 s m #[Value.ref b] below meth c H locs (17 + 3 * j) (85482 + 49152 * j) (lw_Z below #[Value.ref b] s) (F0 m 294 ls []) := by
  have hA : ∀ q : Nat, s.heap.size ≤ q → (fun q : Nat => s.heap.size ≤ q) q := fun _ h => h
  have hbA : ¬ (fun q : Nat => s.heap.size ≤ q) b := Nat.not_le.mpr hbl
  obtain ⟨xtp, xip, xop, xru, xro, xsp, xrt, xri, xrO, xsm, xta, xtf, xia, xfi, xoa, xfo, xu, xtt, xti, xto_, xv, xvs, xS, rfl, xhT, xhI, xhO, xhV, xhu, xhul⟩ := hRX
  obtain ⟨mro, msp, mtp, mip, mop, ma0, mf0, mtt, mti, mto_, mv, mvs, rfl, mhT, mhI, mhO, mhV⟩ := hRM
  have hP : va_P D classes [oX x xtp xip xop xru xro xsp V.length w, oB xtp xrt T.length xta xtf, aB cB xrt 8192 xtt, oB xip xri I.length xia xfi, aB cB xri 8192 xti, oB xop xrO O.length xoa xfo, aB cB xrO (8192 * xu) xto_, oU xru xsm, aN cI xsm 4096 xS, aN cI xro 4096 xv, aN cI xsp 4096 xvs, oM y 0 mro msp V.length w T.length I.length O.length ma0 mf0 mtp mip mop, aN cI mro 4096 mv, aN cI msp 4104 mvs, aN cI mtp 8192 mtt, aN cI mip 8192 mti, aN cI mop 24000 mto_] H := hP
  have hD : va_D (fun q : Nat => s.heap.size ≤ q) [oX x xtp xip xop xru xro xsp V.length w, oB xtp xrt T.length xta xtf, aB cB xrt 8192 xtt, oB xip xri I.length xia xfi, aB cB xri 8192 xti, oB xop xrO O.length xoa xfo, aB cB xrO (8192 * xu) xto_, oU xru xsm, aN cI xsm 4096 xS, aN cI xro 4096 xv, aN cI xsp 4096 xvs, oM y 0 mro msp V.length w T.length I.length O.length ma0 mf0 mtp mip mop, aN cI mro 4096 mv, aN cI msp 4104 mvs, aN cI mtp 8192 mtt, aN cI mip 8192 mti, aN cI mop 24000 mto_] := hD
  refine lv_aload_n C.x C.b d_law_294 rfl (lv_at hl 1 rfl) ?_
  refine ciV (wr := [oM y 0 mro msp V.length w T.length I.length O.length ma0 mf0 mtp mip mop, aN cI mro 4096 mv, aN cI msp 4104 mvs, aN cI mtp 8192 mtt, aN cI mip 8192 mti, aN cI mop 24000 mto_]) C hA hP hD hS hl.1 (c_X_size l D cI cB x T I O V w hv [oX x xtp xip xop xru xro xsp V.length w, oB xtp xrt T.length xta xtf, aB cB xrt 8192 xtt, oB xip xri I.length xia xfi, aB cB xri 8192 xti, oB xop xrO O.length xoa xfo, aB cB xrO (8192 * xu) xto_, oU xru xsm, aN cI xsm 4096 xS, aN cI xro 4096 xv, aN cI xsp 4096 xvs] ⟨xtp, xip, xop, xru, xro, xsp, xrt, xri, xrO, xsm, xta, xtf, xia, xfi, xoa, xfo, xu, xtt, xti, xto_, xv, xvs, xS, rfl, xhT, xhI, xhO, xhV, xhu, xhul⟩ ) ok_L_51 [] [0, 1, 2, 3, 4, 5, 6, 7, 8, 9, 10] [11, 12, 13, 14, 15, 16] 2 0 rfl rfl rfl rfl (by decide) rfl (by decide) (by decide) rfl rfl (Nat.le_of_ble_eq_true rfl) (⟨by decide, by decide⟩) (⟨by show _ ≤ 600000; omega, by show _ ≤ 7302250; omega⟩) d_law_295 ?_
  intro r1 w1 H locs hw hP hD hS
  obtain ⟨hr1, hRX2⟩ := hw
  obtain ⟨ztp, zip, zop, zru, zro, zsp, zrt, zri, zrO, zsm, zta, ztf, zia, zfi, zoa, zfo, zu, ztt, zti, zto_, zv, zvs, zS, rfl, zhT, zhI, zhO, zhV, zhu, zhul⟩ := hRX2
  have hP : va_P D classes [oM y 0 mro msp V.length w T.length I.length O.length ma0 mf0 mtp mip mop, aN cI mro 4096 mv, aN cI msp 4104 mvs, aN cI mtp 8192 mtt, aN cI mip 8192 mti, aN cI mop 24000 mto_, oX x ztp zip zop zru zro zsp V.length w, oB ztp zrt T.length zta ztf, aB cB zrt 8192 ztt, oB zip zri I.length zia zfi, aB cB zri 8192 zti, oB zop zrO O.length zoa zfo, aB cB zrO (8192 * zu) zto_, oU zru zsm, aN cI zsm 4096 zS, aN cI zro 4096 zv, aN cI zsp 4096 zvs] H := hP
  have hD : va_D (fun q : Nat => s.heap.size ≤ q) [oM y 0 mro msp V.length w T.length I.length O.length ma0 mf0 mtp mip mop, aN cI mro 4096 mv, aN cI msp 4104 mvs, aN cI mtp 8192 mtt, aN cI mip 8192 mti, aN cI mop 24000 mto_, oX x ztp zip zop zru zro zsp V.length w, oB ztp zrt T.length zta ztf, aB cB zrt 8192 ztt, oB zip zri I.length zia zfi, aB cB zri 8192 zti, oB zop zrO O.length zoa zfo, aB cB zrO (8192 * zu) zto_, oU zru zsm, aN cI zsm 4096 zS, aN cI zro 4096 zv, aN cI zsp 4096 zvs] := hD
  refine lv_aload_n C.x C.b d_law_298 rfl (lv_at hl 2 rfl) ?_
  refine ciV (wr := [oX x ztp zip zop zru zro zsp V.length w, oB ztp zrt T.length zta ztf, aB cB zrt 8192 ztt, oB zip zri I.length zia zfi, aB cB zri 8192 zti, oB zop zrO O.length zoa zfo, aB cB zrO (8192 * zu) zto_, oU zru zsm, aN cI zsm 4096 zS, aN cI zro 4096 zv, aN cI zsp 4096 zvs]) C hA hP hD hS hl.1 (c_M_size l D cI cB y T I O V w hv [oM y 0 mro msp V.length w T.length I.length O.length ma0 mf0 mtp mip mop, aN cI mro 4096 mv, aN cI msp 4104 mvs, aN cI mtp 8192 mtt, aN cI mip 8192 mti, aN cI mop 24000 mto_] ⟨mro, msp, mtp, mip, mop, ma0, mf0, mtt, mti, mto_, mv, mvs, rfl, mhT, mhI, mhO, mhV⟩ ) ok_L_54 [.int r1] [0, 1, 2, 3, 4, 5] [6, 7, 8, 9, 10, 11, 12, 13, 14, 15, 16] 3 0 rfl rfl rfl rfl (by decide) rfl (by decide) (by decide) rfl rfl (Nat.le_of_ble_eq_true rfl) (⟨by decide, by decide⟩) (⟨by show _ ≤ 600000; omega, by show _ ≤ 7302250; omega⟩) d_law_299 ?_
  intro r2 w1 H locs hw hP hD hS
  obtain ⟨hr2, hRM2⟩ := hw
  refine W.widen (k := 17 + 3 * (j + 1)) (n := 85482 + 49152 * (j + 1)) (by omega) (by omega) ?_
  refine lv_icmp_eq (tgt := 353) C.x C.b d_law_302 (by decide) (fun _ => ?_) (fun q => absurd (hr1.trans hr2.symm) q)
  exact kk T I O V w [oX x ztp zip zop zru zro zsp V.length w, oB ztp zrt T.length zta ztf, aB cB zrt 8192 ztt, oB zip zri I.length zia zfi, aB cB zri 8192 zti, oB zop zrO O.length zoa zfo, aB cB zrO (8192 * zu) zto_, oU zru zsm, aN cI zsm 4096 zS, aN cI zro 4096 zv, aN cI zsp 4096 zvs] w1 H locs ls (hv) ⟨ztp, zip, zop, zru, zro, zsp, zrt, zri, zrO, zsm, zta, ztf, zia, zfi, zoa, zfo, zu, ztt, zti, zto_, zv, zvs, zS, rfl, zhT, zhI, zhO, zhV, zhu, zhul⟩ hRM2 hP hD hS hl
set_option maxHeartbeats 4000000 in
set_option maxRecDepth 100000 in
/-- the law: case 9, value -/
theorem law_9 {p : Program} {l : Launch} {e : Env} {s : State} {m : MethodId} {below : List Frame} {meth : Method} {c : Code} {D : va_G} {cI cB : ClassId} {b L : Nat} {xs : Nat → Int32} {ys : Nat → Nat} {nm : String} (C : Cx p s m #[Value.ref b] meth c D cI cB code 4 R_L ret nm) (hX : va_X b L xs s s.heap) (hbl : b < s.heap.size) (hys : ∀ j, xs j = nI (ys j)) (h32 : ∀ j, ys j < 2 ^ 32) (hL : L ≤ 384) (x y : Nat) (j : Nat) (hj : 6 * j + 6 ≤ L) (kk : ∀ (T I O V : List Nat) (w : Nat) (wX wM : va_W) (H : Heap) (locs : List Loc) (ls : Array Slot), Vd T I O V w → RX cI cB x T I O V w wX → RM cI y T I O V w wM → va_P D classes (wX ++ wM) H → va_D (fun q : Nat => s.heap.size ≤ q) (wX ++ wM) → va_S (fun q : Nat => s.heap.size ≤ q) s.heap H locs → lv_has ls 4 [(0, .ref b), (1, .ref x), (2, .ref y), (3, .int (nI (6 * j)))] → W p l e room_1 s m #[Value.ref b] below meth c H locs (17 + 3 * (j + 1)) (85482 + 49152 * (j + 1)) (lw_Z below #[Value.ref b] s) (F0 m 353 ls [])) (T I O V : List Nat) (w : Nat) (wX wM : va_W) (H : Heap) (locs : List Loc) (ls : Array Slot) (hv : Vd T I O V w) (hRX : RX cI cB x T I O V w wX) (hRM : RM cI y T I O V w wM) (hP : va_P D classes (wX ++ wM) H) (hD : va_D (fun q : Nat => s.heap.size ≤ q) (wX ++ wM)) (hS : va_S (fun q : Nat => s.heap.size ≤ q) s.heap H locs) (hl : lv_has ls 4 [(0, .ref b), (1, .ref x), (2, .ref y), (3, .int (nI (6 * j)))]) : W p l e room_1 s m #[Value.ref b] below meth c H locs (17 + 3 * j) (85482 + 49152 * j) (lw_Z below #[Value.ref b] s) (F0 m 307 ls []) := by
  have hA : ∀ q : Nat, s.heap.size ≤ q → (fun q : Nat => s.heap.size ≤ q) q := fun _ h => h
  have hbA : ¬ (fun q : Nat => s.heap.size ≤ q) b := Nat.not_le.mpr hbl
  obtain ⟨xtp, xip, xop, xru, xro, xsp, xrt, xri, xrO, xsm, xta, xtf, xia, xfi, xoa, xfo, xu, xtt, xti, xto_, xv, xvs, xS, rfl, xhT, xhI, xhO, xhV, xhu, xhul⟩ := hRX
  obtain ⟨mro, msp, mtp, mip, mop, ma0, mf0, mtt, mti, mto_, mv, mvs, rfl, mhT, mhI, mhO, mhV⟩ := hRM
  have hP : va_P D classes [oX x xtp xip xop xru xro xsp V.length w, oB xtp xrt T.length xta xtf, aB cB xrt 8192 xtt, oB xip xri I.length xia xfi, aB cB xri 8192 xti, oB xop xrO O.length xoa xfo, aB cB xrO (8192 * xu) xto_, oU xru xsm, aN cI xsm 4096 xS, aN cI xro 4096 xv, aN cI xsp 4096 xvs, oM y 0 mro msp V.length w T.length I.length O.length ma0 mf0 mtp mip mop, aN cI mro 4096 mv, aN cI msp 4104 mvs, aN cI mtp 8192 mtt, aN cI mip 8192 mti, aN cI mop 24000 mto_] H := hP
  have hD : va_D (fun q : Nat => s.heap.size ≤ q) [oX x xtp xip xop xru xro xsp V.length w, oB xtp xrt T.length xta xtf, aB cB xrt 8192 xtt, oB xip xri I.length xia xfi, aB cB xri 8192 xti, oB xop xrO O.length xoa xfo, aB cB xrO (8192 * xu) xto_, oU xru xsm, aN cI xsm 4096 xS, aN cI xro 4096 xv, aN cI xsp 4096 xvs, oM y 0 mro msp V.length w T.length I.length O.length ma0 mf0 mtp mip mop, aN cI mro 4096 mv, aN cI msp 4104 mvs, aN cI mtp 8192 mtt, aN cI mip 8192 mti, aN cI mop 24000 mto_] := hD
  refine lv_aload_n C.x C.b d_law_307 rfl (lv_at hl 1 rfl) ?_
  refine lv_aload_n C.x C.b d_law_308 rfl (lv_at hl 0 rfl) ?_
  refine lv_iload_n C.x C.b d_law_309 rfl (lv_at hl 3 rfl) ?_
  refine lv_iconst (v := nI 1) C.x C.b d_law_310 (by decide) ?_
  refine lv_iadd C.x C.b d_law_311 ?_
  refine ra_i (nI_add _ _) ?_
  refine va_sld C.x C.b hX hbl hbA hS (vp_in_nI (by omega) (by omega)) d_law_312 ?_
  refine ra_i (y := nI (ys (6 * j + 1))) (by rw [nI_clamp (by omega)]; exact hys _) ?_
  refine ciV (wr := [oM y 0 mro msp V.length w T.length I.length O.length ma0 mf0 mtp mip mop, aN cI mro 4096 mv, aN cI msp 4104 mvs, aN cI mtp 8192 mtt, aN cI mip 8192 mti, aN cI mop 24000 mto_]) C hA hP hD hS hl.1 (c_X_value l D cI cB x T I O V w hv [oX x xtp xip xop xru xro xsp V.length w, oB xtp xrt T.length xta xtf, aB cB xrt 8192 xtt, oB xip xri I.length xia xfi, aB cB xri 8192 xti, oB xop xrO O.length xoa xfo, aB cB xrO (8192 * xu) xto_, oU xru xsm, aN cI xsm 4096 xS, aN cI xro 4096 xv, aN cI xsp 4096 xvs] ⟨xtp, xip, xop, xru, xro, xsp, xrt, xri, xrO, xsm, xta, xtf, xia, xfi, xoa, xfo, xu, xtt, xti, xto_, xv, xvs, xS, rfl, xhT, xhI, xhO, xhV, xhu, xhul⟩ (ys (6 * j + 1)) (h32 _)) ok_L_55 [] [0, 1, 2, 3, 4, 5, 6, 7, 8, 9, 10] [11, 12, 13, 14, 15, 16] 2 0 rfl rfl rfl rfl (by decide) rfl (by decide) (by decide) rfl rfl (Nat.le_of_ble_eq_true rfl) (⟨by decide, by decide⟩) (⟨by show _ ≤ 600000; omega, by show _ ≤ 7302250; omega⟩) d_law_313 ?_
  intro r1 w1 H locs hw hP hD hS
  obtain ⟨hr1, hRX2⟩ := hw
  obtain ⟨ztp, zip, zop, zru, zro, zsp, zrt, zri, zrO, zsm, zta, ztf, zia, zfi, zoa, zfo, zu, ztt, zti, zto_, zv, zvs, zS, rfl, zhT, zhI, zhO, zhV, zhu, zhul⟩ := hRX2
  have hP : va_P D classes [oM y 0 mro msp V.length w T.length I.length O.length ma0 mf0 mtp mip mop, aN cI mro 4096 mv, aN cI msp 4104 mvs, aN cI mtp 8192 mtt, aN cI mip 8192 mti, aN cI mop 24000 mto_, oX x ztp zip zop zru zro zsp V.length w, oB ztp zrt T.length zta ztf, aB cB zrt 8192 ztt, oB zip zri I.length zia zfi, aB cB zri 8192 zti, oB zop zrO O.length zoa zfo, aB cB zrO (8192 * zu) zto_, oU zru zsm, aN cI zsm 4096 zS, aN cI zro 4096 zv, aN cI zsp 4096 zvs] H := hP
  have hD : va_D (fun q : Nat => s.heap.size ≤ q) [oM y 0 mro msp V.length w T.length I.length O.length ma0 mf0 mtp mip mop, aN cI mro 4096 mv, aN cI msp 4104 mvs, aN cI mtp 8192 mtt, aN cI mip 8192 mti, aN cI mop 24000 mto_, oX x ztp zip zop zru zro zsp V.length w, oB ztp zrt T.length zta ztf, aB cB zrt 8192 ztt, oB zip zri I.length zia zfi, aB cB zri 8192 zti, oB zop zrO O.length zoa zfo, aB cB zrO (8192 * zu) zto_, oU zru zsm, aN cI zsm 4096 zS, aN cI zro 4096 zv, aN cI zsp 4096 zvs] := hD
  refine lv_aload_n C.x C.b d_law_316 rfl (lv_at hl 2 rfl) ?_
  refine lv_aload_n C.x C.b d_law_317 rfl (lv_at hl 0 rfl) ?_
  refine lv_iload_n C.x C.b d_law_318 rfl (lv_at hl 3 rfl) ?_
  refine lv_iconst (v := nI 1) C.x C.b d_law_319 (by decide) ?_
  refine lv_iadd C.x C.b d_law_320 ?_
  refine ra_i (nI_add _ _) ?_
  refine va_sld C.x C.b hX hbl hbA hS (vp_in_nI (by omega) (by omega)) d_law_321 ?_
  refine ra_i (y := nI (ys (6 * j + 1))) (by rw [nI_clamp (by omega)]; exact hys _) ?_
  refine ciV (wr := [oX x ztp zip zop zru zro zsp V.length w, oB ztp zrt T.length zta ztf, aB cB zrt 8192 ztt, oB zip zri I.length zia zfi, aB cB zri 8192 zti, oB zop zrO O.length zoa zfo, aB cB zrO (8192 * zu) zto_, oU zru zsm, aN cI zsm 4096 zS, aN cI zro 4096 zv, aN cI zsp 4096 zvs]) C hA hP hD hS hl.1 (c_M_value l D cI cB y T I O V w hv [oM y 0 mro msp V.length w T.length I.length O.length ma0 mf0 mtp mip mop, aN cI mro 4096 mv, aN cI msp 4104 mvs, aN cI mtp 8192 mtt, aN cI mip 8192 mti, aN cI mop 24000 mto_] ⟨mro, msp, mtp, mip, mop, ma0, mf0, mtt, mti, mto_, mv, mvs, rfl, mhT, mhI, mhO, mhV⟩ (ys (6 * j + 1)) (h32 _)) ok_L_58 [.int r1] [0, 1, 2, 3, 4, 5] [6, 7, 8, 9, 10, 11, 12, 13, 14, 15, 16] 3 0 rfl rfl rfl rfl (by decide) rfl (by decide) (by decide) rfl rfl (Nat.le_of_ble_eq_true rfl) (⟨by decide, by decide⟩) (⟨by show _ ≤ 600000; omega, by show _ ≤ 7302250; omega⟩) d_law_322 ?_
  intro r2 w1 H locs hw hP hD hS
  obtain ⟨hr2, hRM2⟩ := hw
  refine W.widen (k := 17 + 3 * (j + 1)) (n := 85482 + 49152 * (j + 1)) (by omega) (by omega) ?_
  refine lv_icmp_eq (tgt := 353) C.x C.b d_law_325 (by decide) (fun _ => ?_) (fun q => absurd (hr1.trans hr2.symm) q)
  exact kk T I O V w [oX x ztp zip zop zru zro zsp V.length w, oB ztp zrt T.length zta ztf, aB cB zrt 8192 ztt, oB zip zri I.length zia zfi, aB cB zri 8192 zti, oB zop zrO O.length zoa zfo, aB cB zrO (8192 * zu) zto_, oU zru zsm, aN cI zsm 4096 zS, aN cI zro 4096 zv, aN cI zsp 4096 zvs] w1 H locs ls (hv) ⟨ztp, zip, zop, zru, zro, zsp, zrt, zri, zrO, zsm, zta, ztf, zia, zfi, zoa, zfo, zu, ztt, zti, zto_, zv, zvs, zS, rfl, zhT, zhI, zhO, zhV, zhu, zhul⟩ hRM2 hP hD hS hl
set_option maxHeartbeats 4000000 in
set_option maxRecDepth 100000 in
/-- the law: case 10, output -/
theorem law_10 {p : Program} {l : Launch} {e : Env} {s : State} {m : MethodId} {below : List Frame} {meth : Method} {c : Code} {D : va_G} {cI cB : ClassId} {b L : Nat} {xs : Nat → Int32} {ys : Nat → Nat} {nm : String} (C : Cx p s m #[Value.ref b] meth c D cI cB code 4 R_L ret nm) (hX : va_X b L xs s s.heap) (hbl : b < s.heap.size) (hys : ∀ j, xs j = nI (ys j)) (h32 : ∀ j, ys j < 2 ^ 32) (hL : L ≤ 384) (x y : Nat) (j : Nat) (hj : 6 * j + 6 ≤ L) (kk : ∀ (T I O V : List Nat) (w : Nat) (wX wM : va_W) (H : Heap) (locs : List Loc) (ls : Array Slot), Vd T I O V w → RX cI cB x T I O V w wX → RM cI y T I O V w wM → va_P D classes (wX ++ wM) H → va_D (fun q : Nat => s.heap.size ≤ q) (wX ++ wM) → va_S (fun q : Nat => s.heap.size ≤ q) s.heap H locs → lv_has ls 4 [(0, .ref b), (1, .ref x), (2, .ref y), (3, .int (nI (6 * j)))] → W p l e room_1 s m #[Value.ref b] below meth c H locs (17 + 3 * (j + 1)) (85482 + 49152 * (j + 1)) (lw_Z below #[Value.ref b] s) (F0 m 353 ls [])) (T I O V : List Nat) (w : Nat) (wX wM : va_W) (H : Heap) (locs : List Loc) (ls : Array Slot) (hv : Vd T I O V w) (hRX : RX cI cB x T I O V w wX) (hRM : RM cI y T I O V w wM) (hP : va_P D classes (wX ++ wM) H) (hD : va_D (fun q : Nat => s.heap.size ≤ q) (wX ++ wM)) (hS : va_S (fun q : Nat => s.heap.size ≤ q) s.heap H locs) (hl : lv_has ls 4 [(0, .ref b), (1, .ref x), (2, .ref y), (3, .int (nI (6 * j)))]) : W p l e room_1 s m #[Value.ref b] below meth c H locs (17 + 3 * j) (85482 + 49152 * j) (lw_Z below #[Value.ref b] s) (F0 m 330 ls []) := by
  have hA : ∀ q : Nat, s.heap.size ≤ q → (fun q : Nat => s.heap.size ≤ q) q := fun _ h => h
  have hbA : ¬ (fun q : Nat => s.heap.size ≤ q) b := Nat.not_le.mpr hbl
  obtain ⟨xtp, xip, xop, xru, xro, xsp, xrt, xri, xrO, xsm, xta, xtf, xia, xfi, xoa, xfo, xu, xtt, xti, xto_, xv, xvs, xS, rfl, xhT, xhI, xhO, xhV, xhu, xhul⟩ := hRX
  obtain ⟨mro, msp, mtp, mip, mop, ma0, mf0, mtt, mti, mto_, mv, mvs, rfl, mhT, mhI, mhO, mhV⟩ := hRM
  have hP : va_P D classes [oX x xtp xip xop xru xro xsp V.length w, oB xtp xrt T.length xta xtf, aB cB xrt 8192 xtt, oB xip xri I.length xia xfi, aB cB xri 8192 xti, oB xop xrO O.length xoa xfo, aB cB xrO (8192 * xu) xto_, oU xru xsm, aN cI xsm 4096 xS, aN cI xro 4096 xv, aN cI xsp 4096 xvs, oM y 0 mro msp V.length w T.length I.length O.length ma0 mf0 mtp mip mop, aN cI mro 4096 mv, aN cI msp 4104 mvs, aN cI mtp 8192 mtt, aN cI mip 8192 mti, aN cI mop 24000 mto_] H := hP
  have hD : va_D (fun q : Nat => s.heap.size ≤ q) [oX x xtp xip xop xru xro xsp V.length w, oB xtp xrt T.length xta xtf, aB cB xrt 8192 xtt, oB xip xri I.length xia xfi, aB cB xri 8192 xti, oB xop xrO O.length xoa xfo, aB cB xrO (8192 * xu) xto_, oU xru xsm, aN cI xsm 4096 xS, aN cI xro 4096 xv, aN cI xsp 4096 xvs, oM y 0 mro msp V.length w T.length I.length O.length ma0 mf0 mtp mip mop, aN cI mro 4096 mv, aN cI msp 4104 mvs, aN cI mtp 8192 mtt, aN cI mip 8192 mti, aN cI mop 24000 mto_] := hD
  refine lv_aload_n C.x C.b d_law_330 rfl (lv_at hl 1 rfl) ?_
  refine lv_aload_n C.x C.b d_law_331 rfl (lv_at hl 0 rfl) ?_
  refine lv_iload_n C.x C.b d_law_332 rfl (lv_at hl 3 rfl) ?_
  refine lv_iconst (v := nI 1) C.x C.b d_law_333 (by decide) ?_
  refine lv_iadd C.x C.b d_law_334 ?_
  refine ra_i (nI_add _ _) ?_
  refine va_sld C.x C.b hX hbl hbA hS (vp_in_nI (by omega) (by omega)) d_law_335 ?_
  refine ra_i (y := nI (ys (6 * j + 1))) (by rw [nI_clamp (by omega)]; exact hys _) ?_
  refine ciV (wr := [oM y 0 mro msp V.length w T.length I.length O.length ma0 mf0 mtp mip mop, aN cI mro 4096 mv, aN cI msp 4104 mvs, aN cI mtp 8192 mtt, aN cI mip 8192 mti, aN cI mop 24000 mto_]) C hA hP hD hS hl.1 (c_X_output l D cI cB x T I O V w hv [oX x xtp xip xop xru xro xsp V.length w, oB xtp xrt T.length xta xtf, aB cB xrt 8192 xtt, oB xip xri I.length xia xfi, aB cB xri 8192 xti, oB xop xrO O.length xoa xfo, aB cB xrO (8192 * xu) xto_, oU xru xsm, aN cI xsm 4096 xS, aN cI xro 4096 xv, aN cI xsp 4096 xvs] ⟨xtp, xip, xop, xru, xro, xsp, xrt, xri, xrO, xsm, xta, xtf, xia, xfi, xoa, xfo, xu, xtt, xti, xto_, xv, xvs, xS, rfl, xhT, xhI, xhO, xhV, xhu, xhul⟩ (ys (6 * j + 1)) (h32 _)) ok_L_59 [] [0, 1, 2, 3, 4, 5, 6, 7, 8, 9, 10] [11, 12, 13, 14, 15, 16] 2 0 rfl rfl rfl rfl (by decide) rfl (by decide) (by decide) rfl rfl (Nat.le_of_ble_eq_true rfl) (⟨by decide, by decide⟩) (⟨by show _ ≤ 600000; omega, by show _ ≤ 7302250; omega⟩) d_law_336 ?_
  intro r1 w1 H locs hw hP hD hS
  obtain ⟨hr1, hRX2⟩ := hw
  obtain ⟨ztp, zip, zop, zru, zro, zsp, zrt, zri, zrO, zsm, zta, ztf, zia, zfi, zoa, zfo, zu, ztt, zti, zto_, zv, zvs, zS, rfl, zhT, zhI, zhO, zhV, zhu, zhul⟩ := hRX2
  have hP : va_P D classes [oM y 0 mro msp V.length w T.length I.length O.length ma0 mf0 mtp mip mop, aN cI mro 4096 mv, aN cI msp 4104 mvs, aN cI mtp 8192 mtt, aN cI mip 8192 mti, aN cI mop 24000 mto_, oX x ztp zip zop zru zro zsp V.length w, oB ztp zrt T.length zta ztf, aB cB zrt 8192 ztt, oB zip zri I.length zia zfi, aB cB zri 8192 zti, oB zop zrO O.length zoa zfo, aB cB zrO (8192 * zu) zto_, oU zru zsm, aN cI zsm 4096 zS, aN cI zro 4096 zv, aN cI zsp 4096 zvs] H := hP
  have hD : va_D (fun q : Nat => s.heap.size ≤ q) [oM y 0 mro msp V.length w T.length I.length O.length ma0 mf0 mtp mip mop, aN cI mro 4096 mv, aN cI msp 4104 mvs, aN cI mtp 8192 mtt, aN cI mip 8192 mti, aN cI mop 24000 mto_, oX x ztp zip zop zru zro zsp V.length w, oB ztp zrt T.length zta ztf, aB cB zrt 8192 ztt, oB zip zri I.length zia zfi, aB cB zri 8192 zti, oB zop zrO O.length zoa zfo, aB cB zrO (8192 * zu) zto_, oU zru zsm, aN cI zsm 4096 zS, aN cI zro 4096 zv, aN cI zsp 4096 zvs] := hD
  refine lv_aload_n C.x C.b d_law_339 rfl (lv_at hl 2 rfl) ?_
  refine lv_aload_n C.x C.b d_law_340 rfl (lv_at hl 0 rfl) ?_
  refine lv_iload_n C.x C.b d_law_341 rfl (lv_at hl 3 rfl) ?_
  refine lv_iconst (v := nI 1) C.x C.b d_law_342 (by decide) ?_
  refine lv_iadd C.x C.b d_law_343 ?_
  refine ra_i (nI_add _ _) ?_
  refine va_sld C.x C.b hX hbl hbA hS (vp_in_nI (by omega) (by omega)) d_law_344 ?_
  refine ra_i (y := nI (ys (6 * j + 1))) (by rw [nI_clamp (by omega)]; exact hys _) ?_
  refine ciV (wr := [oX x ztp zip zop zru zro zsp V.length w, oB ztp zrt T.length zta ztf, aB cB zrt 8192 ztt, oB zip zri I.length zia zfi, aB cB zri 8192 zti, oB zop zrO O.length zoa zfo, aB cB zrO (8192 * zu) zto_, oU zru zsm, aN cI zsm 4096 zS, aN cI zro 4096 zv, aN cI zsp 4096 zvs]) C hA hP hD hS hl.1 (c_M_output l D cI cB y T I O V w hv [oM y 0 mro msp V.length w T.length I.length O.length ma0 mf0 mtp mip mop, aN cI mro 4096 mv, aN cI msp 4104 mvs, aN cI mtp 8192 mtt, aN cI mip 8192 mti, aN cI mop 24000 mto_] ⟨mro, msp, mtp, mip, mop, ma0, mf0, mtt, mti, mto_, mv, mvs, rfl, mhT, mhI, mhO, mhV⟩ (ys (6 * j + 1)) (h32 _)) ok_L_62 [.int r1] [0, 1, 2, 3, 4, 5] [6, 7, 8, 9, 10, 11, 12, 13, 14, 15, 16] 3 0 rfl rfl rfl rfl (by decide) rfl (by decide) (by decide) rfl rfl (Nat.le_of_ble_eq_true rfl) (⟨by decide, by decide⟩) (⟨by show _ ≤ 600000; omega, by show _ ≤ 7302250; omega⟩) d_law_345 ?_
  intro r2 w1 H locs hw hP hD hS
  obtain ⟨hr2, hRM2⟩ := hw
  refine W.widen (k := 17 + 3 * (j + 1)) (n := 85482 + 49152 * (j + 1)) (by omega) (by omega) ?_
  refine lv_icmp_eq (tgt := 353) C.x C.b d_law_348 (by decide) (fun _ => ?_) (fun q => absurd (hr1.trans hr2.symm) q)
  exact kk T I O V w [oX x ztp zip zop zru zro zsp V.length w, oB ztp zrt T.length zta ztf, aB cB zrt 8192 ztt, oB zip zri I.length zia zfi, aB cB zri 8192 zti, oB zop zrO O.length zoa zfo, aB cB zrO (8192 * zu) zto_, oU zru zsm, aN cI zsm 4096 zS, aN cI zro 4096 zv, aN cI zsp 4096 zvs] w1 H locs ls (hv) ⟨ztp, zip, zop, zru, zro, zsp, zrt, zri, zrO, zsm, zta, ztf, zia, zfi, zoa, zfo, zu, ztt, zti, zto_, zv, zvs, zS, rfl, zhT, zhI, zhO, zhV, zhu, zhul⟩ hRM2 hP hD hS hl
end
section
/-! the law's loop (printed by gen/law.py) -/
set_option maxHeartbeats 4000000 in
set_option maxRecDepth 100000 in
/-- THE LAW'S LOOP -/
theorem law_loop {p : Program} {l : Launch} {e : Env} {s : State} {m : MethodId} {below : List Frame} {meth : Method} {c : Code} {D : va_G} {cI cB : ClassId} {b L : Nat} {xs : Nat → Int32} {ys : Nat → Nat} {nm : String} (C : Cx p s m #[Value.ref b] meth c D cI cB code 4 R_L ret nm) (hX : va_X b L xs s s.heap) (hbl : b < s.heap.size) (hys : ∀ j, xs j = nI (ys j)) (h32 : ∀ j, ys j < 2 ^ 32) (hL : L ≤ 384) (x y : Nat) : ∀ (q j : Nat), L < 6 * j + q → 6 * j ≤ L → ∀ (T I O V : List Nat) (w : Nat) (wX wM : va_W) (H : Heap) (locs : List Loc) (ls : Array Slot), Vd T I O V w → RX cI cB x T I O V w wX → RM cI y T I O V w wM → va_P D classes (wX ++ wM) H → va_D (fun q : Nat => s.heap.size ≤ q) (wX ++ wM) → va_S (fun q : Nat => s.heap.size ≤ q) s.heap H locs → lv_has ls 4 [(0, .ref b), (1, .ref x), (2, .ref y), (3, .int (nI (6 * j)))] → W p l e room_1 s m #[Value.ref b] below meth c H locs (17 + 3 * j) (85482 + 49152 * j) (lw_Z below #[Value.ref b] s) (F0 m 18 ls []) := by
  have hA : ∀ q : Nat, s.heap.size ≤ q → (fun q : Nat => s.heap.size ≤ q) q := fun _ h => h
  have hbA : ¬ (fun q : Nat => s.heap.size ≤ q) b := Nat.not_le.mpr hbl
  intro q
  induction q with
  | zero => intro j hj hj2; exfalso; omega
  | succ q ih =>
    intro j hj hj2 T I O V w wX wM H locs ls hv hRX hRM hP hD hS hl
    refine lv_iload_n C.x C.b d_law_18 rfl (lv_at hl 3 rfl) ?_
    refine lv_aload_n C.x C.b d_law_19 rfl (lv_at hl 0 rfl) ?_
    refine va_slen C.x C.b hX hbl hbA hS d_law_20 ?_
    refine ra_i (y := nI L) rfl ?_
    refine lv_bipush (v := nI 6) C.x C.b d_law_21 (by decide) ?_
    refine lv_isub C.x C.b d_law_23 ?_
    rcases Nat.lt_or_ge L 6 with h6 | h6
    · refine lv_icmp_gt (tgt := 359) C.x C.b d_law_24 (by decide) (fun _ => ?_) (fun hq => ?_)
      · refine lv_iconst (v := 1) C.x C.b d_law_359 (by decide) ?_
        refine va_forget (fun q hq => hS.2.2 q hq) ?_
        refine W.widen (k := 600000) (n := 7302250) (by omega) (by omega) ?_
        exact lw_ret C.x C.b C.r C.lk d_law_360
      · exfalso
        have h7 := pk_sneg (a := L) (b := 6) (by decide) h6
        have h8 : (0 : Int32) ≤ nI (6 * j) := nI_pos' (by omega)
        apply hq
        rw [Int32.lt_iff_toInt_lt] at h7 ⊢
        rw [Int32.le_iff_toInt_le] at h8
        omega
    · refine ra_i (nI_subS h6) ?_
      refine jc_gt (tgt := 359) C d_law_24 (by decide) (by omega) (by omega) (fun hj3 => ?_) (fun hj3 => ?_)
      · refine lv_iconst (v := 1) C.x C.b d_law_359 (by decide) ?_
        refine va_forget (fun q hq => hS.2.2 q hq) ?_
        refine W.widen (k := 600000) (n := 7302250) (by omega) (by omega) ?_
        exact lw_ret C.x C.b C.r C.lk d_law_360
      · refine lv_aload_n C.x C.b d_law_27 rfl (lv_at hl 0 rfl) ?_
        refine lv_iload_n C.x C.b d_law_28 rfl (lv_at hl 3 rfl) ?_
        refine va_sld C.x C.b hX hbl hbA hS (vp_in_nI (by omega) (by omega)) d_law_29 ?_
        refine ra_i (y := nI (ys (6 * j))) (by rw [nI_clamp (by omega)]; exact hys _) ?_
        refine lv_bipush (v := nI 15) C.x C.b d_law_30 (by decide) ?_
        refine lv_iand C.x C.b d_law_32 ?_
        refine ra_i (ni_15 _) ?_
        obtain ⟨k9, hk9⟩ : ∃ z, z = ys (6 * j) % 16 := ⟨_, rfl⟩
        have hk16 : k9 < 16 := by omega
        refine ra_i (y := nI k9) (by rw [hk9]) ?_
        have kk : ∀ (T I O V : List Nat) (w : Nat) (wX wM : va_W) (H : Heap) (locs : List Loc) (ls : Array Slot), Vd T I O V w → RX cI cB x T I O V w wX → RM cI y T I O V w wM → va_P D classes (wX ++ wM) H → va_D (fun q : Nat => s.heap.size ≤ q) (wX ++ wM) → va_S (fun q : Nat => s.heap.size ≤ q) s.heap H locs → lv_has ls 4 [(0, .ref b), (1, .ref x), (2, .ref y), (3, .int (nI (6 * j)))] → W p l e room_1 s m #[Value.ref b] below meth c H locs (17 + 3 * (j + 1)) (85482 + 49152 * (j + 1)) (lw_Z below #[Value.ref b] s) (F0 m 353 ls []) := by
          intro T I O V w wX wM H locs ls hv hRX hRM hP hD hS hl
          refine lv_iinc (v := (nI (6 * (j + 1)))) (lv' := [(3, .int (nI (6 * (j + 1)))), (0, .ref b), (1, .ref x), (2, .ref y)]) C.x C.b d_law_353 hl (k := 3) rfl (by rw [Nat.mul_add]; exact nI_inc _ 6) (by decide) rfl (fun ls hl => ?_)
          refine lv_goto (tgt := 18) C.x C.b d_law_356 (by decide) ?_
          exact ih (j + 1) (by omega) (by omega) T I O V w wX wM H locs ls hv hRX hRM hP hD hS (lv_sub hl [1, 2, 3, 0] rfl)
        rcases (show k9 = 0 ∨ k9 = 1 ∨ k9 = 2 ∨ k9 = 3 ∨ k9 = 4 ∨ k9 = 5 ∨ k9 = 6 ∨ k9 = 7 ∨ k9 = 8 ∨ k9 = 9 ∨ k9 = 10 ∨ k9 = 11 ∨ k9 = 12 ∨ k9 = 13 ∨ k9 = 14 ∨ k9 = 15 by omega) with rfl | rfl | rfl | rfl | rfl | rfl | rfl | rfl | rfl | rfl | rfl | rfl | rfl | rfl | rfl | rfl
        · refine lv_tableIn (off := 59) (tgt := 92) C.x C.b d_law_33 (by decide) (by decide) (by decide) (by decide) ?_
          exact law_0 C hX hbl hys h32 hL x y j (by omega) kk T I O V w wX wM H locs ls hv hRX hRM hP hD hS hl
        · refine lv_tableIn (off := 122) (tgt := 155) C.x C.b d_law_33 (by decide) (by decide) (by decide) (by decide) ?_
          exact law_1 C hX hbl hys h32 hL x y j (by omega) kk T I O V w wX wM H locs ls hv hRX hRM hP hD hS hl
        · refine lv_tableIn (off := 145) (tgt := 178) C.x C.b d_law_33 (by decide) (by decide) (by decide) (by decide) ?_
          exact law_2 C hX hbl hys h32 hL x y j (by omega) kk T I O V w wX wM H locs ls hv hRX hRM hP hD hS hl
        · refine lv_tableIn (off := 168) (tgt := 201) C.x C.b d_law_33 (by decide) (by decide) (by decide) (by decide) ?_
          exact law_3 C hX hbl hys h32 hL x y j (by omega) kk T I O V w wX wM H locs ls hv hRX hRM hP hD hS hl
        · refine lv_tableIn (off := 201) (tgt := 234) C.x C.b d_law_33 (by decide) (by decide) (by decide) (by decide) ?_
          exact law_4 C hX hbl hys h32 hL x y j (by omega) kk T I O V w wX wM H locs ls hv hRX hRM hP hD hS hl
        · refine lv_tableIn (off := 212) (tgt := 245) C.x C.b d_law_33 (by decide) (by decide) (by decide) (by decide) ?_
          exact law_5 C hX hbl hys h32 hL x y j (by omega) kk T I O V w wX wM H locs ls hv hRX hRM hP hD hS hl
        · refine lv_tableIn (off := 225) (tgt := 258) C.x C.b d_law_33 (by decide) (by decide) (by decide) (by decide) ?_
          exact law_6 C hX hbl hys h32 hL x y j (by omega) kk T I O V w wX wM H locs ls hv hRX hRM hP hD hS hl
        · refine lv_tableIn (off := 248) (tgt := 281) C.x C.b d_law_33 (by decide) (by decide) (by decide) (by decide) ?_
          exact law_7 C hX hbl hys h32 hL x y j (by omega) kk T I O V w wX wM H locs ls hv hRX hRM hP hD hS hl
        · refine lv_tableIn (off := 261) (tgt := 294) C.x C.b d_law_33 (by decide) (by decide) (by decide) (by decide) ?_
          exact law_8 C hX hbl hys h32 hL x y j (by omega) kk T I O V w wX wM H locs ls hv hRX hRM hP hD hS hl
        · refine lv_tableIn (off := 274) (tgt := 307) C.x C.b d_law_33 (by decide) (by decide) (by decide) (by decide) ?_
          exact law_9 C hX hbl hys h32 hL x y j (by omega) kk T I O V w wX wM H locs ls hv hRX hRM hP hD hS hl
        · refine lv_tableIn (off := 297) (tgt := 330) C.x C.b d_law_33 (by decide) (by decide) (by decide) (by decide) ?_
          exact law_10 C hX hbl hys h32 hL x y j (by omega) kk T I O V w wX wM H locs ls hv hRX hRM hP hD hS hl
        · refine lv_tableOut (tgt := 353) C.x C.b d_law_33 (Or.inr (by decide)) (by decide) ?_
          refine W.widen (k := 17 + 3 * (j + 1)) (n := 85482 + 49152 * (j + 1)) (by omega) (by omega) ?_
          exact kk T I O V w wX wM H locs ls hv hRX hRM hP hD hS hl
        · refine lv_tableOut (tgt := 353) C.x C.b d_law_33 (Or.inr (by decide)) (by decide) ?_
          refine W.widen (k := 17 + 3 * (j + 1)) (n := 85482 + 49152 * (j + 1)) (by omega) (by omega) ?_
          exact kk T I O V w wX wM H locs ls hv hRX hRM hP hD hS hl
        · refine lv_tableOut (tgt := 353) C.x C.b d_law_33 (Or.inr (by decide)) (by decide) ?_
          refine W.widen (k := 17 + 3 * (j + 1)) (n := 85482 + 49152 * (j + 1)) (by omega) (by omega) ?_
          exact kk T I O V w wX wM H locs ls hv hRX hRM hP hD hS hl
        · refine lv_tableOut (tgt := 353) C.x C.b d_law_33 (Or.inr (by decide)) (by decide) ?_
          refine W.widen (k := 17 + 3 * (j + 1)) (n := 85482 + 49152 * (j + 1)) (by omega) (by omega) ?_
          exact kk T I O V w wX wM H locs ls hv hRX hRM hP hD hS hl
        · refine lv_tableOut (tgt := 353) C.x C.b d_law_33 (Or.inr (by decide)) (by decide) ?_
          refine W.widen (k := 17 + 3 * (j + 1)) (n := 85482 + 49152 * (j + 1)) (by omega) (by omega) ?_
          exact kk T I O V w wX wM H locs ls hv hRX hRM hP hD hS hl
end
section
/-! the law from its entry (printed by gen/law.py) -/
set_option maxHeartbeats 4000000 in
set_option maxRecDepth 100000 in
/-- THE LAW, from its entry -/
theorem whole_start {p : Program} {e : Env} {s : State} {m : MethodId} {below : List Frame} {meth : Method} {c : Code} (l : Launch) {b L : Nat} {xs : Nat → Int32} (hL : L ≤ 384) (C0 : lw_At p s m meth c b L xs) : W p l e room_1 s m #[Value.ref b] below meth c s.heap [] 0 0 (lw_Z below #[Value.ref b] s) (entryFrame m ([Value.ref b] : List Value).toArray 4) := by
  obtain ⟨hx, hb, hr, hml, hown, hts, hX, hbl, hlocks, hgv⟩ := id C0
  have htg : ∀ w ∈ gw, w.before #[Value.ref b] s = true := fun w hw => hts w (gw_tbl hw)
  obtain ⟨c0, iS0, hKn0⟩ := u_known (C := R_B) (T := F_B) (N := 4) (n := 4) htg i_B (htg _ ia_B)
  obtain ⟨c1, iS1, hKn1⟩ := u_known (C := R_U) (T := F_U) (N := 1) (n := 1) htg i_U (htg _ ia_U)
  obtain ⟨c2, iS2, hKn2⟩ := u_known (C := R_X) (T := F_X) (N := 8) (n := 8) htg i_X (htg _ ia_X)
  obtain ⟨c3, iS3, hKn3⟩ := u_known (C := R_M) (T := F_M) (N := 13) (n := 13) htg i_M (htg _ ia_M)
  obtain ⟨dC, dI, hKc⟩ : ∃ (dC : Nat → ClassId) (dI : Nat → Nat → Nat), ∀ (k : Nat) (q : vw_C), classes[k]? = some q → u_Kn s q.1 q.2.1 q.2.2 (dC k) (dI k) := by
    refine ⟨fun k => if k = 0 then c0 else if k = 1 then c1 else if k = 2 then c2 else c3, fun k => if k = 0 then iS0 else if k = 1 then iS1 else if k = 2 then iS2 else iS3, ?_⟩
    intro k q hq
    match k, hq with
    | 0, hq => cases hq; exact hKn0
    | 1, hq => cases hq; exact hKn1
    | 2, hq => cases hq; exact hKn2
    | 3, hq => cases hq; exact hKn3
    | k + 4, hq => simp [classes] at hq
  obtain ⟨cI, kI, mI, hI1, hI2, hI3⟩ := Cond.arrayClass_spec (htg _ ac_int)
  obtain ⟨cB, kB, mB, hB1, hB2, hB3⟩ := Cond.arrayClass_spec (htg _ ac_byte)
  have hK : va_K (dC, dI) classes [(cI, .int), (cB, .byte)] s := by
    refine ⟨hKc, fun k q hq => ?_⟩
    match k, hq with
    | 0, hq => cases hq; exact ⟨fun n z => ⟨fun k h => (by cases h), kI, hI2, mI, hI3⟩, hI1⟩
    | 1, hq => cases hq; exact ⟨fun n z => ⟨fun k h => (by cases h), kB, hB2, mB, hB3⟩, hB1⟩
    | k + 2, hq => simp at hq
  have C : Cx p s m #[Value.ref b] meth c (dC, dI) cI cB code 4 R_L ret meth.name := ⟨hx, hb, hml, hown, htg, ⟨hK, nst_of hts⟩, hr, hlocks, rfl⟩
  have hA : ∀ q : Nat, s.heap.size ≤ q → (fun q : Nat => s.heap.size ≤ q) q := fun _ h => h
  have hbA : ¬ (fun q : Nat => s.heap.size ≤ q) b := Nat.not_le.mpr hbl
  have hS : va_S (fun q : Nat => s.heap.size ≤ q) s.heap s.heap [] := va_S.rf
  have hP : va_P (dC, dI) classes [] s.heap := fun k q h => by simp at h
  have hD : va_D (fun q : Nat => s.heap.size ≤ q) [] := ⟨fun i j p q h => by simp at h, fun k q h => by simp at h⟩
  have hl := lv_entry ([.ref b]) (n := 4) (Nat.le_of_ble_eq_true rfl)
  rw [lg_entry_eq]
  generalize (lg_sl ([.ref b]) ++ List.replicate (4 - (lg_sl ([.ref b])).length) Slot.unset).toArray = ls at hl ⊢
  have hl : lv_has ls 4 [(0, .ref b)] := hl
  refine newo (fs := [.null, .null, .null, .null, .null, .null, .int (nI 0), .int (nI 0)]) C hA hP hD hS 2 rfl t_X t_X_ok cl_L_7 ia_X in_X (fun j hj => by rcases (show j = 0 ∨ j = 1 ∨ j = 2 ∨ j = 3 ∨ j = 4 ∨ j = 5 ∨ j = 6 ∨ j = 7 by omega) with rfl | rfl | rfl | rfl | rfl | rfl | rfl | rfl <;> rfl) (by show _ ≤ 600000; omega) (by show _ ≤ 7302250; omega) d_law_0 (fun x H hP hD hS => ?_)
  have hP : va_P (dC, dI) classes [(x, .inr (2, [.null, .null, .null, .null, .null, .null, .int (nI 0), .int (nI 0)]))] H := hP
  have hD : va_D (fun q : Nat => s.heap.size ≤ q) [(x, .inr (2, [.null, .null, .null, .null, .null, .null, .int (nI 0), .int (nI 0)]))] := hD
  refine lv_dup C.x C.b d_law_3 rfl ?_
  refine cvI (wr := []) C hA hP hD hS hl.1 (c_X_init l (dC, dI) cI cB x) ok_L_9 [.ref x] [0] [] rfl (by decide) rfl (by decide) (by decide) rfl rfl (Nat.le_of_ble_eq_true rfl) (⟨by decide, by decide⟩) (⟨by show _ ≤ 600000; omega, by show _ ≤ 7302250; omega⟩) d_law_4 ?_
  intro w1 H locs hw hP hD hS
  have hRX : RX cI cB x [] [] [] [] 0 w1 := hw
  obtain ⟨xtp, xip, xop, xru, xro, xsp, xrt, xri, xrO, xsm, xta, xtf, xia, xfi, xoa, xfo, xu, xtt, xti, xto_, xv, xvs, xS, rfl, xhT, xhI, xhO, xhV, xhu, xhul⟩ := hRX
  have hP : va_P (dC, dI) classes [oX x xtp xip xop xru xro xsp (([]).length) 0, oB xtp xrt (([]).length) xta xtf, aB cB xrt 8192 xtt, oB xip xri (([]).length) xia xfi, aB cB xri 8192 xti, oB xop xrO (([]).length) xoa xfo, aB cB xrO (8192 * xu) xto_, oU xru xsm, aN cI xsm 4096 xS, aN cI xro 4096 xv, aN cI xsp 4096 xvs] H := hP
  have hD : va_D (fun q : Nat => s.heap.size ≤ q) [oX x xtp xip xop xru xro xsp (([]).length) 0, oB xtp xrt (([]).length) xta xtf, aB cB xrt 8192 xtt, oB xip xri (([]).length) xia xfi, aB cB xri 8192 xti, oB xop xrO (([]).length) xoa xfo, aB cB xrO (8192 * xu) xto_, oU xru xsm, aN cI xsm 4096 xS, aN cI xro 4096 xv, aN cI xsp 4096 xvs] := hD
  refine lv_astore_n (lv' := [(1, .ref x), (0, .ref b)]) C.x C.b d_law_7 rfl hl (by decide) rfl (fun ls hl => ?_)
  refine newo (fs := [.int (nI 0), .null, .null, .int (nI 0), .int (nI 0), .int (nI 0), .int (nI 0), .int (nI 0), .int (nI 0), .int (nI 0), .null, .null, .null]) C hA hP hD hS 3 rfl t_M t_M_ok cl_L_10 ia_M in_M (fun j hj => by rcases (show j = 0 ∨ j = 1 ∨ j = 2 ∨ j = 3 ∨ j = 4 ∨ j = 5 ∨ j = 6 ∨ j = 7 ∨ j = 8 ∨ j = 9 ∨ j = 10 ∨ j = 11 ∨ j = 12 by omega) with rfl | rfl | rfl | rfl | rfl | rfl | rfl | rfl | rfl | rfl | rfl | rfl | rfl <;> rfl) (by show _ ≤ 600000; omega) (by show _ ≤ 7302250; omega) d_law_8 (fun y H hP hD hS => ?_)
  have hP : va_P (dC, dI) classes [oX x xtp xip xop xru xro xsp (([]).length) 0, oB xtp xrt (([]).length) xta xtf, aB cB xrt 8192 xtt, oB xip xri (([]).length) xia xfi, aB cB xri 8192 xti, oB xop xrO (([]).length) xoa xfo, aB cB xrO (8192 * xu) xto_, oU xru xsm, aN cI xsm 4096 xS, aN cI xro 4096 xv, aN cI xsp 4096 xvs, (y, .inr (3, [.int (nI 0), .null, .null, .int (nI 0), .int (nI 0), .int (nI 0), .int (nI 0), .int (nI 0), .int (nI 0), .int (nI 0), .null, .null, .null]))] H := hP
  have hD : va_D (fun q : Nat => s.heap.size ≤ q) [oX x xtp xip xop xru xro xsp (([]).length) 0, oB xtp xrt (([]).length) xta xtf, aB cB xrt 8192 xtt, oB xip xri (([]).length) xia xfi, aB cB xri 8192 xti, oB xop xrO (([]).length) xoa xfo, aB cB xrO (8192 * xu) xto_, oU xru xsm, aN cI xsm 4096 xS, aN cI xro 4096 xv, aN cI xsp 4096 xvs, (y, .inr (3, [.int (nI 0), .null, .null, .int (nI 0), .int (nI 0), .int (nI 0), .int (nI 0), .int (nI 0), .int (nI 0), .int (nI 0), .null, .null, .null]))] := hD
  refine lv_dup C.x C.b d_law_11 rfl ?_
  refine cvI (wr := [oX x xtp xip xop xru xro xsp (([]).length) 0, oB xtp xrt (([]).length) xta xtf, aB cB xrt 8192 xtt, oB xip xri (([]).length) xia xfi, aB cB xri 8192 xti, oB xop xrO (([]).length) xoa xfo, aB cB xrO (8192 * xu) xto_, oU xru xsm, aN cI xsm 4096 xS, aN cI xro 4096 xv, aN cI xsp 4096 xvs]) C hA hP hD hS hl.1 (c_M_init l (dC, dI) cI cB y) ok_L_12 [.ref y] [11] [0, 1, 2, 3, 4, 5, 6, 7, 8, 9, 10] rfl (by decide) rfl (by decide) (by decide) rfl rfl (Nat.le_of_ble_eq_true rfl) (⟨by decide, by decide⟩) (⟨by show _ ≤ 600000; omega, by show _ ≤ 7302250; omega⟩) d_law_12 ?_
  intro w1 H locs hw hP hD hS
  have hRM : RM cI y [] [] [] [] 0 w1 := hw
  refine lv_astore_n (lv' := [(2, .ref y), (1, .ref x), (0, .ref b)]) C.x C.b d_law_15 rfl hl (by decide) rfl (fun ls hl => ?_)
  refine lv_iconst (v := nI 0) C.x C.b d_law_16 (by decide) ?_
  refine lv_istore_n (lv' := [(3, .int (nI 0)), (2, .ref y), (1, .ref x), (0, .ref b)]) C.x C.b d_law_17 rfl hl (by decide) rfl (fun ls hl => ?_)
  refine W.widen (k := 17 + 3 * 0) (n := 85482 + 49152 * 0) (by omega) (by omega) ?_
  exact law_loop (ys := fun j => (xs j).toBitVec.toNat) C hX hbl (fun j => Int32.toBitVec_inj.mp (by show _ = BitVec.ofNat 32 _; simp)) (fun j => BitVec.isLt _) hL x y (L + 1) 0 (by omega) (by omega) [] [] [] [] 0 [oX x xtp xip xop xru xro xsp (([]).length) 0, oB xtp xrt (([]).length) xta xtf, aB cB xrt 8192 xtt, oB xip xri (([]).length) xia xfi, aB cB xri 8192 xti, oB xop xrO (([]).length) xoa xfo, aB cB xrO (8192 * xu) xto_, oU xru xsm, aN cI xsm 4096 xS, aN cI xro 4096 xv, aN cI xsp 4096 xvs] w1 H locs ls ⟨by simp, by simp, by simp, by simp, by decide, by simp, by simp, by simp, by simp⟩ ⟨xtp, xip, xop, xru, xro, xsp, xrt, xri, xrO, xsm, xta, xtf, xia, xfi, xoa, xfo, xu, xtt, xti, xto_, xv, xvs, xS, rfl, xhT, xhI, xhO, xhV, xhu, xhul⟩ hRM hP hD hS (lv_sub hl [3, 2, 1, 0] rfl)
end
section
set_option maxHeartbeats 4000000 in
theorem lw_walk (l : Launch) (b : Addr) (xs : List Int32) : MetFree l x (headSpec (Jvm.Cond.code x code maxLocals ret :: tables_1) room_1) (lw_P b xs) (fun _ _ _ _ _ => True) lw_Q := by
  refine MetFree.of_bodyS (code := code) (maxLocals := maxLocals) (ret := ret) (by decide) ?_ ?_
  · intro args s m h hn
    obtain ⟨meth, c, h1, h2, h3, h4, h5, h6, -, -⟩ := Cond.code_spec hn (atoms_spec (ws := Jvm.Cond.code x code maxLocals ret :: tables_1) h _ List.mem_cons_self)
    exact ⟨meth, c, h1, h2, h3, h4, h5, h6⟩
  · intro p e s m args below meth c s₁ B hml0 hP _
    obtain ⟨rfl, hx, hbd, hgv⟩ := hP
    obtain ⟨scr, harrAt, hlist, hof, hsmall⟩ := hx
    obtain ⟨hcb, hkn, -, -⟩ := State.arrayAt?_spec harrAt
    have hown : s.vm.findClass R_law = some m.cls := findClass_of_methodNamed B.named
    have hts0 : ∀ c ∈ (Jvm.Cond.code x code maxLocals ret :: tables_1), c.before #[Value.ref b] s = true := atoms_spec (ws := Jvm.Cond.code x code maxLocals ret :: tables_1) B.pre
    have hts : ∀ w ∈ lw_tbl, w.before #[Value.ref b] s = true := k2_hts_sels lw_privs (fun w hw => hts0 w (List.mem_cons_of_mem _ hw)) lw_privs_ok
    have hml : c.maxLocals = 4 := B.maxLocals_eq (hts0 _ List.mem_cons_self)
    have X₀ : Stand p l e room_1 s m #[Value.ref b] below meth c s₁ [] 0 0 := Stand.of_body B
    have hh0 : s₁.heap = s.heap := by rw [B.state]; rfl
    have hsz : scr.slots.size = xs.length := by rw [← Array.length_toList, hlist, List.length_map]
    have hval : ∀ j : Nat, j < xs.length → scr.slots[j]? = some (.int (xs.getD j 0)) := fun j hj => by
      rw [← Array.getElem?_toList, hlist]
      simp [hj]
    have hbl : b < s.heap.size := (Array.getElem?_eq_some_iff.mp hcb).1
    have hX : va_X b xs.length (fun j => xs.getD j 0) s s.heap := ⟨scr, hcb, hof, hkn, hsz, hval⟩
    have K : W p l e room_1 s m #[Value.ref b] below meth c s₁.heap [] 0 0 (lw_Z below #[Value.ref b] s) (entryFrame m ([Value.ref b] : List Value).toArray 4) := by
      rw [hh0]
      exact whole_start l hbd ⟨B.exec, B.bytes, B.returns, hml, hown, hts, hX, hbl, B.notSynchronized, hgv⟩
    obtain ⟨t, a1, o, b1, b2, b3⟩ := K s₁ rfl X₀
    exact ⟨t, o, a1, b1, b2, b3⟩
theorem lw_pre_spec {args : Array Value} {s : State} (h : (Jvm.Cond.and given_1 narrow_1).before args s = true) (hr : rest_1_c.before args s = true) : ∃ (b : Addr) (xs : List Int32), lw_P b xs args s := by
  have hs := flat_of_before _ h
  have hq := flat_of_before _ hr
  have hc : (Cond.count 1).before args s = true := hs _ (by decide +kernel)
  have harr : (Cond.arrayOf (.arg 0) .int).before args s = true := hs _ (by decide +kernel)
  have hle : (Cond.le (.length (.arg 0)) (.int 384)).before args s = true := hs _ (by decide +kernel)
  have hlen : (Cond.isInt (.length (.arg 0))).before args s = true := hq _ (by decide +kernel)
  have hall : (Cond.all (.arg 0) (.isInt (.elem (.arg 0) (.index 0)))).before args s = true := hq _ (by decide +kernel)
  obtain ⟨b, xs, hb, hx⟩ := State.ints_of_pre rfl harr hlen hall
  have hsm : xs.length < 2 ^ 31 := hx.choose_spec.2.2.2
  have hev : (Term.length (.arg 0)).eval args s none [] s = some (.int xs.length.toInt32) := hx.length_eval hb
  have hv := Cond.le_ints hev (show (Term.int 384).eval args s none [] s = some (.int 384) from rfl)
  have hd : xs.length.toInt32 ≤ 384 := by
    simpa [Cond.before, Cond.holds, hv] using hle
  have hN : xs.length ≤ 384 := (Int32.ofNat_le_ofNat hsm (by decide)).mp (show Int32.ofNat xs.length ≤ Int32.ofNat 384 from hd)
  exact ⟨b, xs, Cond.one_arg hc (show args[0]? = some (.ref b) from hb), hx, hN, h⟩
theorem lw_comes (l : Launch) : Comes l x (Jvm.Cond.code x code maxLocals ret :: tables_1) room_1 (fun tb e args s => Calls_1 tb e args s ∧ rest_1 tb e args s ∧ Pre_1 tb e args s)
    (fun _ _ args s o t => lw_Q args s o t) := by
  intro p e ha hc hk s m args below hf hfit hheap happ hpre
  obtain ⟨b, xs, hP⟩ := lw_pre_spec hpre.2.2 hpre.2.1
  obtain ⟨k, o, h1, h2, h3, hQ⟩ := lw_walk l b xs p e ha hc hk s m args below hf ((Spec.applies_iff_loose hf).mp happ).1 hP trivial
  exact ⟨k, o, h1, h2, h3, hQ⟩
theorem lw_frame {s t : State} {o : Outcome} {args : Array Value} (h : Framed s o t [] 600000 7302250) :
    Framed s o t (fieldLocs frame_1_writes args s ++ arrayLocs frame_1_arrays args s ++ staticLocs frame_1_statics s) 600000 7302250 := h
theorem lw_limb (L : Cond) (hL : ∀ (args : Array Value) (s t : State), L.after args s (.returned (some (.int 1))) t = true) :
    ArmFor flags0 classFile x code maxLocals ret World_1 tables_1 room_1 Calls_1 rest_1 Pre_1
      (fun tb e a s o t => postC L tb e a s o t ∧ Framed s o t (fieldLocs frame_1_writes a s ++ arrayLocs frame_1_arrays a s ++ staticLocs frame_1_statics s) 600000 7302250) := by
  intro l _ _ _ p e ha hc hk s m args below hf hfit hheap happ hpre
  obtain ⟨k, o, h1, h2, h3, rfl, hF⟩ := lw_comes l p e ha hc hk s m args below hf hfit hheap happ hpre
  exact ⟨k, _, h1, h2, h3, hL args s _, lw_frame hF⟩
theorem i_vc : Claimed_1_1 ∧ Claimed_1_2 := ⟨lw_limb limb_1_1 (fun args s t => by simp [limb_1_1, Cond.after, Cond.holds, Cond.value]), lw_limb limb_1_2 (fun args s t => Cond.after_iff.mpr (by
  first | (rw [show limb_1_2 = Cond.eq .result (.int 1) from rfl, Cond.eq_ints (x := 1) (y := 1) rfl rfl]; simp; done) | (simp [limb_1_2, Cond.value, Term.eval]; done)))⟩
end
