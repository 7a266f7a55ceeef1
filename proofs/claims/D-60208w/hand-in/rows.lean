section
-- ===== PART A: goes FIRST, ahead of the names: the tables' words, and 'selects' of the private methods out of them =====
/-- a private method of a class that the tables say can be made, by its rows of tables_1 -/
def lw_okq (q : MethodName × Nat) : Prop := (q.1.cls ≠ "java/lang/invoke/MethodHandle" ∧ q.1.cls ≠ "java/lang/invoke/VarHandle") ∧ Cond.instantiable q.1.cls q.2 ∈ tables_1 ∧ Cond.privateMethod q.1 ∈ tables_1 ∧ Cond.instanceMethod q.1 ∈ tables_1
theorem lw_p0 : lw_okq (⟨"ReshapeArray", "isBlock", "(I)Z"⟩, 8) := ⟨⟨by decide +kernel, by decide +kernel⟩, List.mem_of_getElem? (i := 4) (by decide +kernel), List.mem_of_getElem? (i := 66) (by decide +kernel), List.mem_of_getElem? (i := 67) (by decide +kernel)⟩
theorem lw_p1 : lw_okq (⟨"ReshapeArray", "fetch", "(I)I"⟩, 8) := ⟨⟨by decide +kernel, by decide +kernel⟩, List.mem_of_getElem? (i := 4) (by decide +kernel), List.mem_of_getElem? (i := 71) (by decide +kernel), List.mem_of_getElem? (i := 72) (by decide +kernel)⟩
theorem lw_p2 : lw_okq (⟨"ReshapeArray", "blockIsWide", "(I)Z"⟩, 8) := ⟨⟨by decide +kernel, by decide +kernel⟩, List.mem_of_getElem? (i := 4) (by decide +kernel), List.mem_of_getElem? (i := 75) (by decide +kernel), List.mem_of_getElem? (i := 76) (by decide +kernel)⟩
theorem lw_p3 : lw_okq (⟨"ReshapeArray", "fetchFrom", "(IZ)I"⟩, 8) := ⟨⟨by decide +kernel, by decide +kernel⟩, List.mem_of_getElem? (i := 4) (by decide +kernel), List.mem_of_getElem? (i := 79) (by decide +kernel), List.mem_of_getElem? (i := 80) (by decide +kernel)⟩
theorem lw_p4 : lw_okq (⟨"ReshapeArray", "others", "(IIZ)I"⟩, 8) := ⟨⟨by decide +kernel, by decide +kernel⟩, List.mem_of_getElem? (i := 4) (by decide +kernel), List.mem_of_getElem? (i := 89) (by decide +kernel), List.mem_of_getElem? (i := 90) (by decide +kernel)⟩
theorem lw_p5 : lw_okq (⟨"ReshapeArray", "store", "(III)V"⟩, 8) := ⟨⟨by decide +kernel, by decide +kernel⟩, List.mem_of_getElem? (i := 4) (by decide +kernel), List.mem_of_getElem? (i := 101) (by decide +kernel), List.mem_of_getElem? (i := 102) (by decide +kernel)⟩
theorem lw_p6 : lw_okq (⟨"ReshapeArray", "put", "(III)V"⟩, 8) := ⟨⟨by decide +kernel, by decide +kernel⟩, List.mem_of_getElem? (i := 4) (by decide +kernel), List.mem_of_getElem? (i := 108) (by decide +kernel), List.mem_of_getElem? (i := 109) (by decide +kernel)⟩
theorem lw_p7 : lw_okq (⟨"ReshapeArray", "moveGroup", "(I)V"⟩, 8) := ⟨⟨by decide +kernel, by decide +kernel⟩, List.mem_of_getElem? (i := 4) (by decide +kernel), List.mem_of_getElem? (i := 128) (by decide +kernel), List.mem_of_getElem? (i := 129) (by decide +kernel)⟩
theorem lw_p8 : lw_okq (⟨"ReshapeArray", "writeWide", "(II)V"⟩, 8) := ⟨⟨by decide +kernel, by decide +kernel⟩, List.mem_of_getElem? (i := 4) (by decide +kernel), List.mem_of_getElem? (i := 132) (by decide +kernel), List.mem_of_getElem? (i := 133) (by decide +kernel)⟩
theorem lw_p9 : lw_okq (⟨"ReshapeArray", "finish", "()V"⟩, 8) := ⟨⟨by decide +kernel, by decide +kernel⟩, List.mem_of_getElem? (i := 4) (by decide +kernel), List.mem_of_getElem? (i := 136) (by decide +kernel), List.mem_of_getElem? (i := 137) (by decide +kernel)⟩
theorem lw_p10 : lw_okq (⟨"ReshapeArray", "isWide", "(I)Z"⟩, 8) := ⟨⟨by decide +kernel, by decide +kernel⟩, List.mem_of_getElem? (i := 4) (by decide +kernel), List.mem_of_getElem? (i := 152) (by decide +kernel), List.mem_of_getElem? (i := 153) (by decide +kernel)⟩
theorem lw_p11 : lw_okq (⟨"ReshapeArray", "mend", "(IIZ)V"⟩, 8) := ⟨⟨by decide +kernel, by decide +kernel⟩, List.mem_of_getElem? (i := 4) (by decide +kernel), List.mem_of_getElem? (i := 156) (by decide +kernel), List.mem_of_getElem? (i := 157) (by decide +kernel)⟩
theorem lw_p12 : lw_okq (⟨"ReshapeArray", "takeBack", "()V"⟩, 8) := ⟨⟨by decide +kernel, by decide +kernel⟩, List.mem_of_getElem? (i := 4) (by decide +kernel), List.mem_of_getElem? (i := 160) (by decide +kernel), List.mem_of_getElem? (i := 161) (by decide +kernel)⟩
theorem lw_p13 : lw_okq (⟨"ReshapeArray", "inUse", "(I)Z"⟩, 8) := ⟨⟨by decide +kernel, by decide +kernel⟩, List.mem_of_getElem? (i := 4) (by decide +kernel), List.mem_of_getElem? (i := 174) (by decide +kernel), List.mem_of_getElem? (i := 175) (by decide +kernel)⟩
theorem lw_p14 : lw_okq (⟨"ReshapeArrayModel", "noBlock", "(I)Z"⟩, 5) := ⟨⟨by decide +kernel, by decide +kernel⟩, List.mem_of_getElem? (i := 182) (by decide +kernel), List.mem_of_getElem? (i := 232) (by decide +kernel), List.mem_of_getElem? (i := 233) (by decide +kernel)⟩
theorem lw_p15 : lw_okq (⟨"ReshapeArrayModel", "move", "()V"⟩, 5) := ⟨⟨by decide +kernel, by decide +kernel⟩, List.mem_of_getElem? (i := 182) (by decide +kernel), List.mem_of_getElem? (i := 262) (by decide +kernel), List.mem_of_getElem? (i := 263) (by decide +kernel)⟩
def lw_privs_1 : List (MethodName × Nat) := [(⟨"ReshapeArray", "isBlock", "(I)Z"⟩, 8), (⟨"ReshapeArray", "fetch", "(I)I"⟩, 8), (⟨"ReshapeArray", "blockIsWide", "(I)Z"⟩, 8), (⟨"ReshapeArray", "fetchFrom", "(IZ)I"⟩, 8), (⟨"ReshapeArray", "others", "(IIZ)I"⟩, 8), (⟨"ReshapeArray", "store", "(III)V"⟩, 8), (⟨"ReshapeArray", "put", "(III)V"⟩, 8), (⟨"ReshapeArray", "moveGroup", "(I)V"⟩, 8), (⟨"ReshapeArray", "writeWide", "(II)V"⟩, 8), (⟨"ReshapeArray", "finish", "()V"⟩, 8), (⟨"ReshapeArray", "isWide", "(I)Z"⟩, 8), (⟨"ReshapeArray", "mend", "(IIZ)V"⟩, 8), (⟨"ReshapeArray", "takeBack", "()V"⟩, 8), (⟨"ReshapeArray", "inUse", "(I)Z"⟩, 8), (⟨"ReshapeArrayModel", "noBlock", "(I)Z"⟩, 5), (⟨"ReshapeArrayModel", "move", "()V"⟩, 5)]
theorem lw_r1 : ∀ q ∈ lw_privs_1, lw_okq q := List.forall_mem_cons.mpr ⟨lw_p0, List.forall_mem_cons.mpr ⟨lw_p1, List.forall_mem_cons.mpr ⟨lw_p2, List.forall_mem_cons.mpr ⟨lw_p3, List.forall_mem_cons.mpr ⟨lw_p4, List.forall_mem_cons.mpr ⟨lw_p5, List.forall_mem_cons.mpr ⟨lw_p6, List.forall_mem_cons.mpr ⟨lw_p7, List.forall_mem_cons.mpr ⟨lw_p8, List.forall_mem_cons.mpr ⟨lw_p9, List.forall_mem_cons.mpr ⟨lw_p10, List.forall_mem_cons.mpr ⟨lw_p11, List.forall_mem_cons.mpr ⟨lw_p12, List.forall_mem_cons.mpr ⟨lw_p13, List.forall_mem_cons.mpr ⟨lw_p14, List.forall_mem_cons.mpr ⟨lw_p15, fun _ h => absurd h List.not_mem_nil⟩⟩⟩⟩⟩⟩⟩⟩⟩⟩⟩⟩⟩⟩⟩⟩
def lw_privs : List (MethodName × Nat) := lw_privs_1
def lw_tbl : List Cond := k2_sels lw_privs ++ tables_1
theorem lw_privs_ok : ∀ q ∈ lw_privs, lw_okq q := lw_r1
-- the words that last: what every contract asks
def lw_gd : List Cond := lw_tbl.filter goodWord
-- names: classes, fields in the order of the slots, types
def R_law : String := "ReshapeArrayLaw"
def R_X : String := "ReshapeArray"
def R_M : String := "ReshapeArrayModel"
def F_X : u_T := fun k => match k with
  | 0 => ("ReshapeArray", "disk", "[I", true)
  | 1 => ("ReshapeArray", "group", "[I", true)
  | 2 => ("ReshapeArray", "running", "Z", false)
  | 3 => ("ReshapeArray", "failedMember", "I", false)
  | 4 => ("ReshapeArray", "stage", "I", false)
  | 5 => ("ReshapeArray", "moved", "I", false)
  | 6 => ("ReshapeArray", "copied", "Z", false)
  | _ => ("ReshapeArray", "openRow", "I", false)
def t_X : Nat → FieldType := fun k => match k with
  | 0 => .array .int
  | 1 => .array .int
  | 2 => .boolean
  | 3 => .int
  | 4 => .int
  | 5 => .int
  | 6 => .boolean
  | _ => .int
abbrev w_X : List Cond := u_ws R_X F_X 8
theorem n_X : ∀ a, a < 8 → ∀ b, b < 8 → a ≠ b → (F_X a).2.1 ≠ (F_X b).2.1 := by decide +kernel
theorem t_X_ok : ∀ k, k < 8 → parseFieldDescriptor (F_X k).2.2.1 = some (t_X k) := by decide +kernel
theorem i_X : ∀ w ∈ w_X, w ∈ lw_gd := by decide +kernel
theorem j_X : ∀ w ∈ w_X, w ∈ lw_tbl := fun w h => (List.mem_filter.mp (i_X w h)).1
def F_M : u_T := fun k => match k with
  | 0 => ("ReshapeArrayModel", "block", "[I", false)
  | 1 => ("ReshapeArrayModel", "down", "Z", false)
  | 2 => ("ReshapeArrayModel", "begun", "Z", false)
  | 3 => ("ReshapeArrayModel", "moved", "I", false)
  | _ => ("ReshapeArrayModel", "lost", "I", false)
def t_M : Nat → FieldType := fun k => match k with
  | 0 => .array .int
  | 1 => .boolean
  | 2 => .boolean
  | 3 => .int
  | _ => .int
abbrev w_M : List Cond := u_ws R_M F_M 5
theorem n_M : ∀ a, a < 5 → ∀ b, b < 5 → a ≠ b → (F_M a).2.1 ≠ (F_M b).2.1 := by decide +kernel
theorem t_M_ok : ∀ k, k < 5 → parseFieldDescriptor (F_M k).2.2.1 = some (t_M k) := by decide +kernel
theorem i_M : ∀ w ∈ w_M, w ∈ lw_gd := by decide +kernel
theorem j_M : ∀ w ∈ w_M, w ∈ lw_tbl := fun w h => (List.mem_filter.mp (i_M w h)).1
abbrev classes : List vw_C := [(R_X, F_X, 8), (R_M, F_M, 5)]
-- methods
abbrev b_X_init : ByteArray := prog_1_method_1_code
def y_X_init : MethodName := ⟨R_X, "<init>", "()V"⟩
abbrev b_X_up : ByteArray := prog_1_method_2_code
def y_X_up : MethodName := ⟨R_X, "up", "()I"⟩
abbrev b_X_size : ByteArray := prog_1_method_3_code
def y_X_size : MethodName := ⟨R_X, "size", "()I"⟩
abbrev b_X_members : ByteArray := prog_1_method_4_code
def y_X_members : MethodName := ⟨R_X, "members", "()I"⟩
abbrev b_X_failed : ByteArray := prog_1_method_5_code
def y_X_failed : MethodName := ⟨R_X, "failed", "()I"⟩
abbrev b_X_growth : ByteArray := prog_1_method_6_code
def y_X_growth : MethodName := ⟨R_X, "growth", "()I"⟩
abbrev b_X_groups : ByteArray := prog_1_method_7_code
def y_X_groups : MethodName := ⟨R_X, "groups", "()I"⟩
abbrev b_X_read : ByteArray := prog_1_method_8_code
def y_X_read : MethodName := ⟨R_X, "read", "(I)I"⟩
abbrev b_X_isBlock : ByteArray := prog_1_method_21_code
def y_X_isBlock : MethodName := ⟨R_X, "isBlock", "(I)Z"⟩
abbrev b_X_fetch : ByteArray := prog_1_method_31_code
def y_X_fetch : MethodName := ⟨R_X, "fetch", "(I)I"⟩
abbrev b_X_blockIsWide : ByteArray := prog_1_method_24_code
def y_X_blockIsWide : MethodName := ⟨R_X, "blockIsWide", "(I)Z"⟩
abbrev b_X_fetchFrom : ByteArray := prog_1_method_32_code
def y_X_fetchFrom : MethodName := ⟨R_X, "fetchFrom", "(IZ)I"⟩
abbrev b_X_rowOf : ByteArray := prog_1_method_25_code
def y_X_rowOf : MethodName := ⟨R_X, "rowOf", "(IZ)I"⟩
abbrev b_X_memberOf : ByteArray := prog_1_method_27_code
def y_X_memberOf : MethodName := ⟨R_X, "memberOf", "(IZ)I"⟩
abbrev b_X_others : ByteArray := prog_1_method_28_code
def y_X_others : MethodName := ⟨R_X, "others", "(IIZ)I"⟩
abbrev b_X_sum : ByteArray := prog_1_method_9_code
def y_X_sum : MethodName := ⟨R_X, "sum", "()I"⟩
abbrev b_X_write : ByteArray := prog_1_method_10_code
def y_X_write : MethodName := ⟨R_X, "write", "(II)I"⟩
abbrev b_X_store : ByteArray := prog_1_method_33_code
def y_X_store : MethodName := ⟨R_X, "store", "(III)V"⟩
abbrev b_X_parityOf : ByteArray := prog_1_method_26_code
def y_X_parityOf : MethodName := ⟨R_X, "parityOf", "(IZ)I"⟩
abbrev b_X_put : ByteArray := prog_1_method_30_code
def y_X_put : MethodName := ⟨R_X, "put", "(III)V"⟩
abbrev b_X_fill : ByteArray := prog_1_method_11_code
def y_X_fill : MethodName := ⟨R_X, "fill", "(IIII)I"⟩
abbrev b_X_writeCrash : ByteArray := prog_1_method_12_code
def y_X_writeCrash : MethodName := ⟨R_X, "writeCrash", "(III)I"⟩
abbrev b_X_begin : ByteArray := prog_1_method_13_code
def y_X_begin : MethodName := ⟨R_X, "begin", "()I"⟩
abbrev b_X_step : ByteArray := prog_1_method_14_code
def y_X_step : MethodName := ⟨R_X, "step", "()I"⟩
abbrev b_X_moveGroup : ByteArray := prog_1_method_34_code
def y_X_moveGroup : MethodName := ⟨R_X, "moveGroup", "(I)V"⟩
abbrev b_X_writeWide : ByteArray := prog_1_method_35_code
def y_X_writeWide : MethodName := ⟨R_X, "writeWide", "(II)V"⟩
abbrev b_X_finish : ByteArray := prog_1_method_36_code
def y_X_finish : MethodName := ⟨R_X, "finish", "()V"⟩
abbrev b_X_stepCrash : ByteArray := prog_1_method_15_code
def y_X_stepCrash : MethodName := ⟨R_X, "stepCrash", "(I)I"⟩
abbrev b_X_crash : ByteArray := prog_1_method_16_code
def y_X_crash : MethodName := ⟨R_X, "crash", "()I"⟩
abbrev b_X_mount : ByteArray := prog_1_method_17_code
def y_X_mount : MethodName := ⟨R_X, "mount", "()I"⟩
abbrev b_X_isWide : ByteArray := prog_1_method_22_code
def y_X_isWide : MethodName := ⟨R_X, "isWide", "(I)Z"⟩
abbrev b_X_mend : ByteArray := prog_1_method_29_code
def y_X_mend : MethodName := ⟨R_X, "mend", "(IIZ)V"⟩
abbrev b_X_takeBack : ByteArray := prog_1_method_37_code
def y_X_takeBack : MethodName := ⟨R_X, "takeBack", "()V"⟩
abbrev b_X_fail : ByteArray := prog_1_method_18_code
def y_X_fail : MethodName := ⟨R_X, "fail", "(I)I"⟩
abbrev b_X_replace : ByteArray := prog_1_method_19_code
def y_X_replace : MethodName := ⟨R_X, "replace", "()I"⟩
abbrev b_X_inUse : ByteArray := prog_1_method_23_code
def y_X_inUse : MethodName := ⟨R_X, "inUse", "(I)Z"⟩
abbrev b_X_scrub : ByteArray := prog_1_method_20_code
def y_X_scrub : MethodName := ⟨R_X, "scrub", "()I"⟩
abbrev b_M_init : ByteArray := prog_3_method_1_code
def y_M_init : MethodName := ⟨R_M, "<init>", "()V"⟩
abbrev b_M_up : ByteArray := prog_3_method_2_code
def y_M_up : MethodName := ⟨R_M, "up", "()I"⟩
abbrev b_M_size : ByteArray := prog_3_method_3_code
def y_M_size : MethodName := ⟨R_M, "size", "()I"⟩
abbrev b_M_members : ByteArray := prog_3_method_4_code
def y_M_members : MethodName := ⟨R_M, "members", "()I"⟩
abbrev b_M_failed : ByteArray := prog_3_method_5_code
def y_M_failed : MethodName := ⟨R_M, "failed", "()I"⟩
abbrev b_M_growth : ByteArray := prog_3_method_6_code
def y_M_growth : MethodName := ⟨R_M, "growth", "()I"⟩
abbrev b_M_groups : ByteArray := prog_3_method_7_code
def y_M_groups : MethodName := ⟨R_M, "groups", "()I"⟩
abbrev b_M_read : ByteArray := prog_3_method_9_code
def y_M_read : MethodName := ⟨R_M, "read", "(I)I"⟩
abbrev b_M_noBlock : ByteArray := prog_3_method_8_code
def y_M_noBlock : MethodName := ⟨R_M, "noBlock", "(I)Z"⟩
abbrev b_M_sum : ByteArray := prog_3_method_10_code
def y_M_sum : MethodName := ⟨R_M, "sum", "()I"⟩
abbrev b_M_write : ByteArray := prog_3_method_11_code
def y_M_write : MethodName := ⟨R_M, "write", "(II)I"⟩
abbrev b_M_fill : ByteArray := prog_3_method_12_code
def y_M_fill : MethodName := ⟨R_M, "fill", "(IIII)I"⟩
abbrev b_M_writeCrash : ByteArray := prog_3_method_13_code
def y_M_writeCrash : MethodName := ⟨R_M, "writeCrash", "(III)I"⟩
abbrev b_M_begin : ByteArray := prog_3_method_14_code
def y_M_begin : MethodName := ⟨R_M, "begin", "()I"⟩
abbrev b_M_step : ByteArray := prog_3_method_16_code
def y_M_step : MethodName := ⟨R_M, "step", "()I"⟩
abbrev b_M_move : ByteArray := prog_3_method_15_code
def y_M_move : MethodName := ⟨R_M, "move", "()V"⟩
abbrev b_M_stepCrash : ByteArray := prog_3_method_17_code
def y_M_stepCrash : MethodName := ⟨R_M, "stepCrash", "(I)I"⟩
abbrev b_M_crash : ByteArray := prog_3_method_18_code
def y_M_crash : MethodName := ⟨R_M, "crash", "()I"⟩
abbrev b_M_mount : ByteArray := prog_3_method_19_code
def y_M_mount : MethodName := ⟨R_M, "mount", "()I"⟩
abbrev b_M_fail : ByteArray := prog_3_method_20_code
def y_M_fail : MethodName := ⟨R_M, "fail", "(I)I"⟩
abbrev b_M_replace : ByteArray := prog_3_method_21_code
def y_M_replace : MethodName := ⟨R_M, "replace", "()I"⟩
abbrev b_M_scrub : ByteArray := prog_3_method_22_code
def y_M_scrub : MethodName := ⟨R_M, "scrub", "()I"⟩
-- the words of the tables, by their places
theorem kw_0 : Cond.initialized R_law ∈ lw_gd := List.mem_filter.mpr ⟨List.mem_append_right _ (List.mem_of_getElem? (i := 0) (by decide +kernel)), rfl⟩
theorem kw_1 : Cond.initialized R_X ∈ lw_gd := List.mem_filter.mpr ⟨List.mem_append_right _ (List.mem_of_getElem? (i := 1) (by decide +kernel)), rfl⟩
theorem kw_2 : Cond.initialized R_M ∈ lw_gd := List.mem_filter.mpr ⟨List.mem_append_right _ (List.mem_of_getElem? (i := 2) (by decide +kernel)), rfl⟩
theorem kw_3 : Cond.classLink R_law 7 R_X ∈ lw_gd := List.mem_filter.mpr ⟨List.mem_append_right _ (List.mem_of_getElem? (i := 3) (by decide +kernel)), rfl⟩
theorem kw_4 : Cond.instantiable R_X 8 ∈ lw_gd := List.mem_filter.mpr ⟨List.mem_append_right _ (List.mem_of_getElem? (i := 4) (by decide +kernel)), rfl⟩
theorem kw_5 : Cond.methodLink R_law 9 y_X_init ∈ lw_gd := List.mem_filter.mpr ⟨List.mem_append_right _ (List.mem_of_getElem? (i := 5) (by decide +kernel)), rfl⟩
theorem kw_6 : Cond.instanceMethod y_X_init ∈ lw_gd := List.mem_filter.mpr ⟨List.mem_append_right _ (List.mem_of_getElem? (i := 6) (by decide +kernel)), rfl⟩
abbrev c_X_init : Cond := .code y_X_init b_X_init 1 none
theorem kw_7 : c_X_init ∈ lw_gd := List.mem_filter.mpr ⟨List.mem_append_right _ (List.mem_of_getElem? (i := 7) rfl), rfl⟩
theorem kw_8 : Cond.methodLink R_X 1 objectInit ∈ lw_gd := List.mem_filter.mpr ⟨List.mem_append_right _ (List.mem_of_getElem? (i := 8) (by decide +kernel)), rfl⟩
theorem kw_9 : Cond.instanceMethod objectInit ∈ lw_gd := List.mem_filter.mpr ⟨List.mem_append_right _ (List.mem_of_getElem? (i := 9) (by decide +kernel)), rfl⟩
theorem kw_10 : Cond.code objectInit ⟨#[0xb1]⟩ 1 none ∈ lw_gd := List.mem_filter.mpr ⟨List.mem_append_right _ (List.mem_of_getElem? (i := 10) rfl), rfl⟩
theorem kw_11 : Cond.fieldLink R_X 7 "ReshapeArray" "disk" "[I" ∈ lw_gd := List.mem_filter.mpr ⟨List.mem_append_right _ (List.mem_of_getElem? (i := 11) (by decide +kernel)), rfl⟩
theorem kw_12 : Cond.fieldLink R_X 13 "ReshapeArray" "group" "[I" ∈ lw_gd := List.mem_filter.mpr ⟨List.mem_append_right _ (List.mem_of_getElem? (i := 12) (by decide +kernel)), rfl⟩
theorem kw_13 : Cond.fieldLink R_X 16 "ReshapeArray" "running" "Z" ∈ lw_gd := List.mem_filter.mpr ⟨List.mem_append_right _ (List.mem_of_getElem? (i := 13) (by decide +kernel)), rfl⟩
theorem kw_14 : Cond.fieldLink R_X 20 "ReshapeArray" "failedMember" "I" ∈ lw_gd := List.mem_filter.mpr ⟨List.mem_append_right _ (List.mem_of_getElem? (i := 14) (by decide +kernel)), rfl⟩
theorem kw_15 : Cond.fieldLink R_X 30 "ReshapeArray" "stage" "I" ∈ lw_gd := List.mem_filter.mpr ⟨List.mem_append_right _ (List.mem_of_getElem? (i := 15) (by decide +kernel)), rfl⟩
theorem kw_16 : Cond.fieldLink R_X 27 "ReshapeArray" "moved" "I" ∈ lw_gd := List.mem_filter.mpr ⟨List.mem_append_right _ (List.mem_of_getElem? (i := 16) (by decide +kernel)), rfl⟩
theorem kw_17 : Cond.fieldLink R_X 64 "ReshapeArray" "copied" "Z" ∈ lw_gd := List.mem_filter.mpr ⟨List.mem_append_right _ (List.mem_of_getElem? (i := 17) (by decide +kernel)), rfl⟩
theorem kw_18 : Cond.fieldLink R_X 24 "ReshapeArray" "openRow" "I" ∈ lw_gd := List.mem_filter.mpr ⟨List.mem_append_right _ (List.mem_of_getElem? (i := 18) (by decide +kernel)), rfl⟩
theorem kw_36 : Cond.arrayClass .int ∈ lw_gd := List.mem_filter.mpr ⟨List.mem_append_right _ (List.mem_of_getElem? (i := 36) (by decide +kernel)), rfl⟩
theorem kw_37 : Cond.methodLink R_law 13 y_X_up ∈ lw_gd := List.mem_filter.mpr ⟨List.mem_append_right _ (List.mem_of_getElem? (i := 37) (by decide +kernel)), rfl⟩
theorem kw_38 : Cond.instanceMethod y_X_up ∈ lw_gd := List.mem_filter.mpr ⟨List.mem_append_right _ (List.mem_of_getElem? (i := 38) (by decide +kernel)), rfl⟩
theorem kw_39 : Cond.selects R_X y_X_up y_X_up ∈ lw_gd := List.mem_filter.mpr ⟨List.mem_append_right _ (List.mem_of_getElem? (i := 39) (by decide +kernel)), rfl⟩
abbrev c_X_up : Cond := .code y_X_up b_X_up 1 (some .int)
theorem kw_40 : c_X_up ∈ lw_gd := List.mem_filter.mpr ⟨List.mem_append_right _ (List.mem_of_getElem? (i := 40) rfl), rfl⟩
theorem kw_41 : Cond.methodLink R_law 18 y_X_size ∈ lw_gd := List.mem_filter.mpr ⟨List.mem_append_right _ (List.mem_of_getElem? (i := 41) (by decide +kernel)), rfl⟩
theorem kw_42 : Cond.instanceMethod y_X_size ∈ lw_gd := List.mem_filter.mpr ⟨List.mem_append_right _ (List.mem_of_getElem? (i := 42) (by decide +kernel)), rfl⟩
theorem kw_43 : Cond.selects R_X y_X_size y_X_size ∈ lw_gd := List.mem_filter.mpr ⟨List.mem_append_right _ (List.mem_of_getElem? (i := 43) (by decide +kernel)), rfl⟩
abbrev c_X_size : Cond := .code y_X_size b_X_size 1 (some .int)
theorem kw_44 : c_X_size ∈ lw_gd := List.mem_filter.mpr ⟨List.mem_append_right _ (List.mem_of_getElem? (i := 44) rfl), rfl⟩
theorem kw_45 : Cond.methodLink R_law 22 y_X_members ∈ lw_gd := List.mem_filter.mpr ⟨List.mem_append_right _ (List.mem_of_getElem? (i := 45) (by decide +kernel)), rfl⟩
theorem kw_46 : Cond.instanceMethod y_X_members ∈ lw_gd := List.mem_filter.mpr ⟨List.mem_append_right _ (List.mem_of_getElem? (i := 46) (by decide +kernel)), rfl⟩
theorem kw_47 : Cond.selects R_X y_X_members y_X_members ∈ lw_gd := List.mem_filter.mpr ⟨List.mem_append_right _ (List.mem_of_getElem? (i := 47) (by decide +kernel)), rfl⟩
abbrev c_X_members : Cond := .code y_X_members b_X_members 1 (some .int)
theorem kw_48 : c_X_members ∈ lw_gd := List.mem_filter.mpr ⟨List.mem_append_right _ (List.mem_of_getElem? (i := 48) rfl), rfl⟩
theorem kw_49 : Cond.methodLink R_law 26 y_X_failed ∈ lw_gd := List.mem_filter.mpr ⟨List.mem_append_right _ (List.mem_of_getElem? (i := 49) (by decide +kernel)), rfl⟩
theorem kw_50 : Cond.instanceMethod y_X_failed ∈ lw_gd := List.mem_filter.mpr ⟨List.mem_append_right _ (List.mem_of_getElem? (i := 50) (by decide +kernel)), rfl⟩
theorem kw_51 : Cond.selects R_X y_X_failed y_X_failed ∈ lw_gd := List.mem_filter.mpr ⟨List.mem_append_right _ (List.mem_of_getElem? (i := 51) (by decide +kernel)), rfl⟩
abbrev c_X_failed : Cond := .code y_X_failed b_X_failed 1 (some .int)
theorem kw_52 : c_X_failed ∈ lw_gd := List.mem_filter.mpr ⟨List.mem_append_right _ (List.mem_of_getElem? (i := 52) rfl), rfl⟩
theorem kw_53 : Cond.methodLink R_law 30 y_X_growth ∈ lw_gd := List.mem_filter.mpr ⟨List.mem_append_right _ (List.mem_of_getElem? (i := 53) (by decide +kernel)), rfl⟩
theorem kw_54 : Cond.instanceMethod y_X_growth ∈ lw_gd := List.mem_filter.mpr ⟨List.mem_append_right _ (List.mem_of_getElem? (i := 54) (by decide +kernel)), rfl⟩
theorem kw_55 : Cond.selects R_X y_X_growth y_X_growth ∈ lw_gd := List.mem_filter.mpr ⟨List.mem_append_right _ (List.mem_of_getElem? (i := 55) (by decide +kernel)), rfl⟩
abbrev c_X_growth : Cond := .code y_X_growth b_X_growth 1 (some .int)
theorem kw_56 : c_X_growth ∈ lw_gd := List.mem_filter.mpr ⟨List.mem_append_right _ (List.mem_of_getElem? (i := 56) rfl), rfl⟩
theorem kw_57 : Cond.methodLink R_law 34 y_X_groups ∈ lw_gd := List.mem_filter.mpr ⟨List.mem_append_right _ (List.mem_of_getElem? (i := 57) (by decide +kernel)), rfl⟩
theorem kw_58 : Cond.instanceMethod y_X_groups ∈ lw_gd := List.mem_filter.mpr ⟨List.mem_append_right _ (List.mem_of_getElem? (i := 58) (by decide +kernel)), rfl⟩
theorem kw_59 : Cond.selects R_X y_X_groups y_X_groups ∈ lw_gd := List.mem_filter.mpr ⟨List.mem_append_right _ (List.mem_of_getElem? (i := 59) (by decide +kernel)), rfl⟩
abbrev c_X_groups : Cond := .code y_X_groups b_X_groups 1 (some .int)
theorem kw_60 : c_X_groups ∈ lw_gd := List.mem_filter.mpr ⟨List.mem_append_right _ (List.mem_of_getElem? (i := 60) rfl), rfl⟩
theorem kw_61 : Cond.methodLink R_law 38 y_X_read ∈ lw_gd := List.mem_filter.mpr ⟨List.mem_append_right _ (List.mem_of_getElem? (i := 61) (by decide +kernel)), rfl⟩
theorem kw_62 : Cond.instanceMethod y_X_read ∈ lw_gd := List.mem_filter.mpr ⟨List.mem_append_right _ (List.mem_of_getElem? (i := 62) (by decide +kernel)), rfl⟩
theorem kw_63 : Cond.selects R_X y_X_read y_X_read ∈ lw_gd := List.mem_filter.mpr ⟨List.mem_append_right _ (List.mem_of_getElem? (i := 63) (by decide +kernel)), rfl⟩
abbrev c_X_read : Cond := .code y_X_read b_X_read 2 (some .int)
theorem kw_64 : c_X_read ∈ lw_gd := List.mem_filter.mpr ⟨List.mem_append_right _ (List.mem_of_getElem? (i := 64) rfl), rfl⟩
theorem kw_65 : Cond.methodLink R_X 33 y_X_isBlock ∈ lw_gd := List.mem_filter.mpr ⟨List.mem_append_right _ (List.mem_of_getElem? (i := 65) (by decide +kernel)), rfl⟩
theorem kw_67 : Cond.instanceMethod y_X_isBlock ∈ lw_gd := List.mem_filter.mpr ⟨List.mem_append_right _ (List.mem_of_getElem? (i := 67) (by decide +kernel)), rfl⟩
abbrev c_X_isBlock : Cond := .code y_X_isBlock b_X_isBlock 3 (some .boolean)
theorem kw_68 : c_X_isBlock ∈ lw_gd := List.mem_filter.mpr ⟨List.mem_append_right _ (List.mem_of_getElem? (i := 68) rfl), rfl⟩
theorem kw_69 : Cond.methodLink R_X 41 y_X_size ∈ lw_gd := List.mem_filter.mpr ⟨List.mem_append_right _ (List.mem_of_getElem? (i := 69) (by decide +kernel)), rfl⟩
theorem kw_70 : Cond.methodLink R_X 37 y_X_fetch ∈ lw_gd := List.mem_filter.mpr ⟨List.mem_append_right _ (List.mem_of_getElem? (i := 70) (by decide +kernel)), rfl⟩
theorem kw_72 : Cond.instanceMethod y_X_fetch ∈ lw_gd := List.mem_filter.mpr ⟨List.mem_append_right _ (List.mem_of_getElem? (i := 72) (by decide +kernel)), rfl⟩
abbrev c_X_fetch : Cond := .code y_X_fetch b_X_fetch 3 (some .int)
theorem kw_73 : c_X_fetch ∈ lw_gd := List.mem_filter.mpr ⟨List.mem_append_right _ (List.mem_of_getElem? (i := 73) rfl), rfl⟩
theorem kw_74 : Cond.methodLink R_X 87 y_X_blockIsWide ∈ lw_gd := List.mem_filter.mpr ⟨List.mem_append_right _ (List.mem_of_getElem? (i := 74) (by decide +kernel)), rfl⟩
theorem kw_76 : Cond.instanceMethod y_X_blockIsWide ∈ lw_gd := List.mem_filter.mpr ⟨List.mem_append_right _ (List.mem_of_getElem? (i := 76) (by decide +kernel)), rfl⟩
abbrev c_X_blockIsWide : Cond := .code y_X_blockIsWide b_X_blockIsWide 2 (some .boolean)
theorem kw_77 : c_X_blockIsWide ∈ lw_gd := List.mem_filter.mpr ⟨List.mem_append_right _ (List.mem_of_getElem? (i := 77) rfl), rfl⟩
theorem kw_78 : Cond.methodLink R_X 90 y_X_fetchFrom ∈ lw_gd := List.mem_filter.mpr ⟨List.mem_append_right _ (List.mem_of_getElem? (i := 78) (by decide +kernel)), rfl⟩
theorem kw_80 : Cond.instanceMethod y_X_fetchFrom ∈ lw_gd := List.mem_filter.mpr ⟨List.mem_append_right _ (List.mem_of_getElem? (i := 80) (by decide +kernel)), rfl⟩
abbrev c_X_fetchFrom : Cond := .code y_X_fetchFrom b_X_fetchFrom 5 (some .int)
theorem kw_81 : c_X_fetchFrom ∈ lw_gd := List.mem_filter.mpr ⟨List.mem_append_right _ (List.mem_of_getElem? (i := 81) rfl), rfl⟩
theorem kw_82 : Cond.methodLink R_X 93 y_X_rowOf ∈ lw_gd := List.mem_filter.mpr ⟨List.mem_append_right _ (List.mem_of_getElem? (i := 82) (by decide +kernel)), rfl⟩
theorem kw_83 : Cond.static y_X_rowOf ∈ lw_gd := List.mem_filter.mpr ⟨List.mem_append_right _ (List.mem_of_getElem? (i := 83) (by decide +kernel)), rfl⟩
abbrev c_X_rowOf : Cond := .code y_X_rowOf b_X_rowOf 2 (some .int)
theorem kw_84 : c_X_rowOf ∈ lw_gd := List.mem_filter.mpr ⟨List.mem_append_right _ (List.mem_of_getElem? (i := 84) rfl), rfl⟩
theorem kw_85 : Cond.methodLink R_X 96 y_X_memberOf ∈ lw_gd := List.mem_filter.mpr ⟨List.mem_append_right _ (List.mem_of_getElem? (i := 85) (by decide +kernel)), rfl⟩
theorem kw_86 : Cond.static y_X_memberOf ∈ lw_gd := List.mem_filter.mpr ⟨List.mem_append_right _ (List.mem_of_getElem? (i := 86) (by decide +kernel)), rfl⟩
abbrev c_X_memberOf : Cond := .code y_X_memberOf b_X_memberOf 5 (some .int)
theorem kw_87 : c_X_memberOf ∈ lw_gd := List.mem_filter.mpr ⟨List.mem_append_right _ (List.mem_of_getElem? (i := 87) rfl), rfl⟩
theorem kw_88 : Cond.methodLink R_X 80 y_X_others ∈ lw_gd := List.mem_filter.mpr ⟨List.mem_append_right _ (List.mem_of_getElem? (i := 88) (by decide +kernel)), rfl⟩
theorem kw_90 : Cond.instanceMethod y_X_others ∈ lw_gd := List.mem_filter.mpr ⟨List.mem_append_right _ (List.mem_of_getElem? (i := 90) (by decide +kernel)), rfl⟩
abbrev c_X_others : Cond := .code y_X_others b_X_others 7 (some .int)
theorem kw_91 : c_X_others ∈ lw_gd := List.mem_filter.mpr ⟨List.mem_append_right _ (List.mem_of_getElem? (i := 91) rfl), rfl⟩
theorem kw_92 : Cond.methodLink R_law 43 y_X_sum ∈ lw_gd := List.mem_filter.mpr ⟨List.mem_append_right _ (List.mem_of_getElem? (i := 92) (by decide +kernel)), rfl⟩
theorem kw_93 : Cond.instanceMethod y_X_sum ∈ lw_gd := List.mem_filter.mpr ⟨List.mem_append_right _ (List.mem_of_getElem? (i := 93) (by decide +kernel)), rfl⟩
theorem kw_94 : Cond.selects R_X y_X_sum y_X_sum ∈ lw_gd := List.mem_filter.mpr ⟨List.mem_append_right _ (List.mem_of_getElem? (i := 94) (by decide +kernel)), rfl⟩
abbrev c_X_sum : Cond := .code y_X_sum b_X_sum 4 (some .int)
theorem kw_95 : c_X_sum ∈ lw_gd := List.mem_filter.mpr ⟨List.mem_append_right _ (List.mem_of_getElem? (i := 95) rfl), rfl⟩
theorem kw_96 : Cond.methodLink R_law 47 y_X_write ∈ lw_gd := List.mem_filter.mpr ⟨List.mem_append_right _ (List.mem_of_getElem? (i := 96) (by decide +kernel)), rfl⟩
theorem kw_97 : Cond.instanceMethod y_X_write ∈ lw_gd := List.mem_filter.mpr ⟨List.mem_append_right _ (List.mem_of_getElem? (i := 97) (by decide +kernel)), rfl⟩
theorem kw_98 : Cond.selects R_X y_X_write y_X_write ∈ lw_gd := List.mem_filter.mpr ⟨List.mem_append_right _ (List.mem_of_getElem? (i := 98) (by decide +kernel)), rfl⟩
abbrev c_X_write : Cond := .code y_X_write b_X_write 3 (some .int)
theorem kw_99 : c_X_write ∈ lw_gd := List.mem_filter.mpr ⟨List.mem_append_right _ (List.mem_of_getElem? (i := 99) rfl), rfl⟩
theorem kw_100 : Cond.methodLink R_X 45 y_X_store ∈ lw_gd := List.mem_filter.mpr ⟨List.mem_append_right _ (List.mem_of_getElem? (i := 100) (by decide +kernel)), rfl⟩
theorem kw_102 : Cond.instanceMethod y_X_store ∈ lw_gd := List.mem_filter.mpr ⟨List.mem_append_right _ (List.mem_of_getElem? (i := 102) (by decide +kernel)), rfl⟩
abbrev c_X_store : Cond := .code y_X_store b_X_store 10 none
theorem kw_103 : c_X_store ∈ lw_gd := List.mem_filter.mpr ⟨List.mem_append_right _ (List.mem_of_getElem? (i := 103) rfl), rfl⟩
theorem kw_104 : Cond.methodLink R_X 56 y_X_parityOf ∈ lw_gd := List.mem_filter.mpr ⟨List.mem_append_right _ (List.mem_of_getElem? (i := 104) (by decide +kernel)), rfl⟩
theorem kw_105 : Cond.static y_X_parityOf ∈ lw_gd := List.mem_filter.mpr ⟨List.mem_append_right _ (List.mem_of_getElem? (i := 105) (by decide +kernel)), rfl⟩
abbrev c_X_parityOf : Cond := .code y_X_parityOf b_X_parityOf 2 (some .int)
theorem kw_106 : c_X_parityOf ∈ lw_gd := List.mem_filter.mpr ⟨List.mem_append_right _ (List.mem_of_getElem? (i := 106) rfl), rfl⟩
theorem kw_107 : Cond.methodLink R_X 84 y_X_put ∈ lw_gd := List.mem_filter.mpr ⟨List.mem_append_right _ (List.mem_of_getElem? (i := 107) (by decide +kernel)), rfl⟩
theorem kw_109 : Cond.instanceMethod y_X_put ∈ lw_gd := List.mem_filter.mpr ⟨List.mem_append_right _ (List.mem_of_getElem? (i := 109) (by decide +kernel)), rfl⟩
abbrev c_X_put : Cond := .code y_X_put b_X_put 4 none
theorem kw_110 : c_X_put ∈ lw_gd := List.mem_filter.mpr ⟨List.mem_append_right _ (List.mem_of_getElem? (i := 110) rfl), rfl⟩
theorem kw_111 : Cond.methodLink R_law 52 y_X_fill ∈ lw_gd := List.mem_filter.mpr ⟨List.mem_append_right _ (List.mem_of_getElem? (i := 111) (by decide +kernel)), rfl⟩
theorem kw_112 : Cond.instanceMethod y_X_fill ∈ lw_gd := List.mem_filter.mpr ⟨List.mem_append_right _ (List.mem_of_getElem? (i := 112) (by decide +kernel)), rfl⟩
theorem kw_113 : Cond.selects R_X y_X_fill y_X_fill ∈ lw_gd := List.mem_filter.mpr ⟨List.mem_append_right _ (List.mem_of_getElem? (i := 113) (by decide +kernel)), rfl⟩
abbrev c_X_fill : Cond := .code y_X_fill b_X_fill 7 (some .int)
theorem kw_114 : c_X_fill ∈ lw_gd := List.mem_filter.mpr ⟨List.mem_append_right _ (List.mem_of_getElem? (i := 114) rfl), rfl⟩
theorem kw_115 : Cond.methodLink R_law 57 y_X_writeCrash ∈ lw_gd := List.mem_filter.mpr ⟨List.mem_append_right _ (List.mem_of_getElem? (i := 115) (by decide +kernel)), rfl⟩
theorem kw_116 : Cond.instanceMethod y_X_writeCrash ∈ lw_gd := List.mem_filter.mpr ⟨List.mem_append_right _ (List.mem_of_getElem? (i := 116) (by decide +kernel)), rfl⟩
theorem kw_117 : Cond.selects R_X y_X_writeCrash y_X_writeCrash ∈ lw_gd := List.mem_filter.mpr ⟨List.mem_append_right _ (List.mem_of_getElem? (i := 117) (by decide +kernel)), rfl⟩
abbrev c_X_writeCrash : Cond := .code y_X_writeCrash b_X_writeCrash 4 (some .int)
theorem kw_118 : c_X_writeCrash ∈ lw_gd := List.mem_filter.mpr ⟨List.mem_append_right _ (List.mem_of_getElem? (i := 118) rfl), rfl⟩
theorem kw_119 : Cond.methodLink R_law 62 y_X_begin ∈ lw_gd := List.mem_filter.mpr ⟨List.mem_append_right _ (List.mem_of_getElem? (i := 119) (by decide +kernel)), rfl⟩
theorem kw_120 : Cond.instanceMethod y_X_begin ∈ lw_gd := List.mem_filter.mpr ⟨List.mem_append_right _ (List.mem_of_getElem? (i := 120) (by decide +kernel)), rfl⟩
theorem kw_121 : Cond.selects R_X y_X_begin y_X_begin ∈ lw_gd := List.mem_filter.mpr ⟨List.mem_append_right _ (List.mem_of_getElem? (i := 121) (by decide +kernel)), rfl⟩
abbrev c_X_begin : Cond := .code y_X_begin b_X_begin 1 (some .int)
theorem kw_122 : c_X_begin ∈ lw_gd := List.mem_filter.mpr ⟨List.mem_append_right _ (List.mem_of_getElem? (i := 122) rfl), rfl⟩
theorem kw_123 : Cond.methodLink R_law 66 y_X_step ∈ lw_gd := List.mem_filter.mpr ⟨List.mem_append_right _ (List.mem_of_getElem? (i := 123) (by decide +kernel)), rfl⟩
theorem kw_124 : Cond.instanceMethod y_X_step ∈ lw_gd := List.mem_filter.mpr ⟨List.mem_append_right _ (List.mem_of_getElem? (i := 124) (by decide +kernel)), rfl⟩
theorem kw_125 : Cond.selects R_X y_X_step y_X_step ∈ lw_gd := List.mem_filter.mpr ⟨List.mem_append_right _ (List.mem_of_getElem? (i := 125) (by decide +kernel)), rfl⟩
abbrev c_X_step : Cond := .code y_X_step b_X_step 1 (some .int)
theorem kw_126 : c_X_step ∈ lw_gd := List.mem_filter.mpr ⟨List.mem_append_right _ (List.mem_of_getElem? (i := 126) rfl), rfl⟩
theorem kw_127 : Cond.methodLink R_X 49 y_X_moveGroup ∈ lw_gd := List.mem_filter.mpr ⟨List.mem_append_right _ (List.mem_of_getElem? (i := 127) (by decide +kernel)), rfl⟩
theorem kw_129 : Cond.instanceMethod y_X_moveGroup ∈ lw_gd := List.mem_filter.mpr ⟨List.mem_append_right _ (List.mem_of_getElem? (i := 129) (by decide +kernel)), rfl⟩
abbrev c_X_moveGroup : Cond := .code y_X_moveGroup b_X_moveGroup 3 none
theorem kw_130 : c_X_moveGroup ∈ lw_gd := List.mem_filter.mpr ⟨List.mem_append_right _ (List.mem_of_getElem? (i := 130) rfl), rfl⟩
theorem kw_131 : Cond.methodLink R_X 99 y_X_writeWide ∈ lw_gd := List.mem_filter.mpr ⟨List.mem_append_right _ (List.mem_of_getElem? (i := 131) (by decide +kernel)), rfl⟩
theorem kw_133 : Cond.instanceMethod y_X_writeWide ∈ lw_gd := List.mem_filter.mpr ⟨List.mem_append_right _ (List.mem_of_getElem? (i := 133) (by decide +kernel)), rfl⟩
abbrev c_X_writeWide : Cond := .code y_X_writeWide b_X_writeWide 5 none
theorem kw_134 : c_X_writeWide ∈ lw_gd := List.mem_filter.mpr ⟨List.mem_append_right _ (List.mem_of_getElem? (i := 134) rfl), rfl⟩
theorem kw_135 : Cond.methodLink R_X 70 y_X_finish ∈ lw_gd := List.mem_filter.mpr ⟨List.mem_append_right _ (List.mem_of_getElem? (i := 135) (by decide +kernel)), rfl⟩
theorem kw_137 : Cond.instanceMethod y_X_finish ∈ lw_gd := List.mem_filter.mpr ⟨List.mem_append_right _ (List.mem_of_getElem? (i := 137) (by decide +kernel)), rfl⟩
abbrev c_X_finish : Cond := .code y_X_finish b_X_finish 3 none
theorem kw_138 : c_X_finish ∈ lw_gd := List.mem_filter.mpr ⟨List.mem_append_right _ (List.mem_of_getElem? (i := 138) rfl), rfl⟩
theorem kw_139 : Cond.methodLink R_law 70 y_X_stepCrash ∈ lw_gd := List.mem_filter.mpr ⟨List.mem_append_right _ (List.mem_of_getElem? (i := 139) (by decide +kernel)), rfl⟩
theorem kw_140 : Cond.instanceMethod y_X_stepCrash ∈ lw_gd := List.mem_filter.mpr ⟨List.mem_append_right _ (List.mem_of_getElem? (i := 140) (by decide +kernel)), rfl⟩
theorem kw_141 : Cond.selects R_X y_X_stepCrash y_X_stepCrash ∈ lw_gd := List.mem_filter.mpr ⟨List.mem_append_right _ (List.mem_of_getElem? (i := 141) (by decide +kernel)), rfl⟩
abbrev c_X_stepCrash : Cond := .code y_X_stepCrash b_X_stepCrash 2 (some .int)
theorem kw_142 : c_X_stepCrash ∈ lw_gd := List.mem_filter.mpr ⟨List.mem_append_right _ (List.mem_of_getElem? (i := 142) rfl), rfl⟩
theorem kw_143 : Cond.methodLink R_law 74 y_X_crash ∈ lw_gd := List.mem_filter.mpr ⟨List.mem_append_right _ (List.mem_of_getElem? (i := 143) (by decide +kernel)), rfl⟩
theorem kw_144 : Cond.instanceMethod y_X_crash ∈ lw_gd := List.mem_filter.mpr ⟨List.mem_append_right _ (List.mem_of_getElem? (i := 144) (by decide +kernel)), rfl⟩
theorem kw_145 : Cond.selects R_X y_X_crash y_X_crash ∈ lw_gd := List.mem_filter.mpr ⟨List.mem_append_right _ (List.mem_of_getElem? (i := 145) (by decide +kernel)), rfl⟩
abbrev c_X_crash : Cond := .code y_X_crash b_X_crash 1 (some .int)
theorem kw_146 : c_X_crash ∈ lw_gd := List.mem_filter.mpr ⟨List.mem_append_right _ (List.mem_of_getElem? (i := 146) rfl), rfl⟩
theorem kw_147 : Cond.methodLink R_law 78 y_X_mount ∈ lw_gd := List.mem_filter.mpr ⟨List.mem_append_right _ (List.mem_of_getElem? (i := 147) (by decide +kernel)), rfl⟩
theorem kw_148 : Cond.instanceMethod y_X_mount ∈ lw_gd := List.mem_filter.mpr ⟨List.mem_append_right _ (List.mem_of_getElem? (i := 148) (by decide +kernel)), rfl⟩
theorem kw_149 : Cond.selects R_X y_X_mount y_X_mount ∈ lw_gd := List.mem_filter.mpr ⟨List.mem_append_right _ (List.mem_of_getElem? (i := 149) (by decide +kernel)), rfl⟩
abbrev c_X_mount : Cond := .code y_X_mount b_X_mount 2 (some .int)
theorem kw_150 : c_X_mount ∈ lw_gd := List.mem_filter.mpr ⟨List.mem_append_right _ (List.mem_of_getElem? (i := 150) rfl), rfl⟩
theorem kw_151 : Cond.methodLink R_X 53 y_X_isWide ∈ lw_gd := List.mem_filter.mpr ⟨List.mem_append_right _ (List.mem_of_getElem? (i := 151) (by decide +kernel)), rfl⟩
theorem kw_153 : Cond.instanceMethod y_X_isWide ∈ lw_gd := List.mem_filter.mpr ⟨List.mem_append_right _ (List.mem_of_getElem? (i := 153) (by decide +kernel)), rfl⟩
abbrev c_X_isWide : Cond := .code y_X_isWide b_X_isWide 2 (some .boolean)
theorem kw_154 : c_X_isWide ∈ lw_gd := List.mem_filter.mpr ⟨List.mem_append_right _ (List.mem_of_getElem? (i := 154) rfl), rfl⟩
theorem kw_155 : Cond.methodLink R_X 60 y_X_mend ∈ lw_gd := List.mem_filter.mpr ⟨List.mem_append_right _ (List.mem_of_getElem? (i := 155) (by decide +kernel)), rfl⟩
theorem kw_157 : Cond.instanceMethod y_X_mend ∈ lw_gd := List.mem_filter.mpr ⟨List.mem_append_right _ (List.mem_of_getElem? (i := 157) (by decide +kernel)), rfl⟩
abbrev c_X_mend : Cond := .code y_X_mend b_X_mend 5 none
theorem kw_158 : c_X_mend ∈ lw_gd := List.mem_filter.mpr ⟨List.mem_append_right _ (List.mem_of_getElem? (i := 158) rfl), rfl⟩
theorem kw_159 : Cond.methodLink R_X 67 y_X_takeBack ∈ lw_gd := List.mem_filter.mpr ⟨List.mem_append_right _ (List.mem_of_getElem? (i := 159) (by decide +kernel)), rfl⟩
theorem kw_161 : Cond.instanceMethod y_X_takeBack ∈ lw_gd := List.mem_filter.mpr ⟨List.mem_append_right _ (List.mem_of_getElem? (i := 161) (by decide +kernel)), rfl⟩
abbrev c_X_takeBack : Cond := .code y_X_takeBack b_X_takeBack 4 none
theorem kw_162 : c_X_takeBack ∈ lw_gd := List.mem_filter.mpr ⟨List.mem_append_right _ (List.mem_of_getElem? (i := 162) rfl), rfl⟩
theorem kw_163 : Cond.methodLink R_law 82 y_X_fail ∈ lw_gd := List.mem_filter.mpr ⟨List.mem_append_right _ (List.mem_of_getElem? (i := 163) (by decide +kernel)), rfl⟩
theorem kw_164 : Cond.instanceMethod y_X_fail ∈ lw_gd := List.mem_filter.mpr ⟨List.mem_append_right _ (List.mem_of_getElem? (i := 164) (by decide +kernel)), rfl⟩
theorem kw_165 : Cond.selects R_X y_X_fail y_X_fail ∈ lw_gd := List.mem_filter.mpr ⟨List.mem_append_right _ (List.mem_of_getElem? (i := 165) (by decide +kernel)), rfl⟩
abbrev c_X_fail : Cond := .code y_X_fail b_X_fail 4 (some .int)
theorem kw_166 : c_X_fail ∈ lw_gd := List.mem_filter.mpr ⟨List.mem_append_right _ (List.mem_of_getElem? (i := 166) rfl), rfl⟩
theorem kw_167 : Cond.methodLink R_X 73 y_X_members ∈ lw_gd := List.mem_filter.mpr ⟨List.mem_append_right _ (List.mem_of_getElem? (i := 167) (by decide +kernel)), rfl⟩
theorem kw_168 : Cond.constant R_X 76 (1515870810 : Int32) ∈ lw_gd := List.mem_filter.mpr ⟨List.mem_append_right _ (List.mem_of_getElem? (i := 168) (by decide +kernel)), rfl⟩
theorem kw_169 : Cond.methodLink R_law 86 y_X_replace ∈ lw_gd := List.mem_filter.mpr ⟨List.mem_append_right _ (List.mem_of_getElem? (i := 169) (by decide +kernel)), rfl⟩
theorem kw_170 : Cond.instanceMethod y_X_replace ∈ lw_gd := List.mem_filter.mpr ⟨List.mem_append_right _ (List.mem_of_getElem? (i := 170) (by decide +kernel)), rfl⟩
theorem kw_171 : Cond.selects R_X y_X_replace y_X_replace ∈ lw_gd := List.mem_filter.mpr ⟨List.mem_append_right _ (List.mem_of_getElem? (i := 171) (by decide +kernel)), rfl⟩
abbrev c_X_replace : Cond := .code y_X_replace b_X_replace 4 (some .int)
theorem kw_172 : c_X_replace ∈ lw_gd := List.mem_filter.mpr ⟨List.mem_append_right _ (List.mem_of_getElem? (i := 172) rfl), rfl⟩
theorem kw_173 : Cond.methodLink R_X 77 y_X_inUse ∈ lw_gd := List.mem_filter.mpr ⟨List.mem_append_right _ (List.mem_of_getElem? (i := 173) (by decide +kernel)), rfl⟩
theorem kw_175 : Cond.instanceMethod y_X_inUse ∈ lw_gd := List.mem_filter.mpr ⟨List.mem_append_right _ (List.mem_of_getElem? (i := 175) (by decide +kernel)), rfl⟩
abbrev c_X_inUse : Cond := .code y_X_inUse b_X_inUse 2 (some .boolean)
theorem kw_176 : c_X_inUse ∈ lw_gd := List.mem_filter.mpr ⟨List.mem_append_right _ (List.mem_of_getElem? (i := 176) rfl), rfl⟩
theorem kw_177 : Cond.methodLink R_law 90 y_X_scrub ∈ lw_gd := List.mem_filter.mpr ⟨List.mem_append_right _ (List.mem_of_getElem? (i := 177) (by decide +kernel)), rfl⟩
theorem kw_178 : Cond.instanceMethod y_X_scrub ∈ lw_gd := List.mem_filter.mpr ⟨List.mem_append_right _ (List.mem_of_getElem? (i := 178) (by decide +kernel)), rfl⟩
theorem kw_179 : Cond.selects R_X y_X_scrub y_X_scrub ∈ lw_gd := List.mem_filter.mpr ⟨List.mem_append_right _ (List.mem_of_getElem? (i := 179) (by decide +kernel)), rfl⟩
abbrev c_X_scrub : Cond := .code y_X_scrub b_X_scrub 5 (some .int)
theorem kw_180 : c_X_scrub ∈ lw_gd := List.mem_filter.mpr ⟨List.mem_append_right _ (List.mem_of_getElem? (i := 180) rfl), rfl⟩
theorem kw_181 : Cond.classLink R_law 10 R_M ∈ lw_gd := List.mem_filter.mpr ⟨List.mem_append_right _ (List.mem_of_getElem? (i := 181) (by decide +kernel)), rfl⟩
theorem kw_182 : Cond.instantiable R_M 5 ∈ lw_gd := List.mem_filter.mpr ⟨List.mem_append_right _ (List.mem_of_getElem? (i := 182) (by decide +kernel)), rfl⟩
theorem kw_183 : Cond.methodLink R_law 12 y_M_init ∈ lw_gd := List.mem_filter.mpr ⟨List.mem_append_right _ (List.mem_of_getElem? (i := 183) (by decide +kernel)), rfl⟩
theorem kw_184 : Cond.instanceMethod y_M_init ∈ lw_gd := List.mem_filter.mpr ⟨List.mem_append_right _ (List.mem_of_getElem? (i := 184) (by decide +kernel)), rfl⟩
abbrev c_M_init : Cond := .code y_M_init b_M_init 1 none
theorem kw_185 : c_M_init ∈ lw_gd := List.mem_filter.mpr ⟨List.mem_append_right _ (List.mem_of_getElem? (i := 185) rfl), rfl⟩
theorem kw_186 : Cond.methodLink R_M 1 objectInit ∈ lw_gd := List.mem_filter.mpr ⟨List.mem_append_right _ (List.mem_of_getElem? (i := 186) (by decide +kernel)), rfl⟩
theorem kw_187 : Cond.fieldLink R_M 7 "ReshapeArrayModel" "block" "[I" ∈ lw_gd := List.mem_filter.mpr ⟨List.mem_append_right _ (List.mem_of_getElem? (i := 187) (by decide +kernel)), rfl⟩
theorem kw_188 : Cond.fieldLink R_M 17 "ReshapeArrayModel" "down" "Z" ∈ lw_gd := List.mem_filter.mpr ⟨List.mem_append_right _ (List.mem_of_getElem? (i := 188) (by decide +kernel)), rfl⟩
theorem kw_189 : Cond.fieldLink R_M 24 "ReshapeArrayModel" "begun" "Z" ∈ lw_gd := List.mem_filter.mpr ⟨List.mem_append_right _ (List.mem_of_getElem? (i := 189) (by decide +kernel)), rfl⟩
theorem kw_190 : Cond.fieldLink R_M 21 "ReshapeArrayModel" "moved" "I" ∈ lw_gd := List.mem_filter.mpr ⟨List.mem_append_right _ (List.mem_of_getElem? (i := 190) (by decide +kernel)), rfl⟩
theorem kw_191 : Cond.fieldLink R_M 13 "ReshapeArrayModel" "lost" "I" ∈ lw_gd := List.mem_filter.mpr ⟨List.mem_append_right _ (List.mem_of_getElem? (i := 191) (by decide +kernel)), rfl⟩
theorem kw_203 : Cond.methodLink R_law 17 y_M_up ∈ lw_gd := List.mem_filter.mpr ⟨List.mem_append_right _ (List.mem_of_getElem? (i := 203) (by decide +kernel)), rfl⟩
theorem kw_204 : Cond.instanceMethod y_M_up ∈ lw_gd := List.mem_filter.mpr ⟨List.mem_append_right _ (List.mem_of_getElem? (i := 204) (by decide +kernel)), rfl⟩
theorem kw_205 : Cond.selects R_M y_M_up y_M_up ∈ lw_gd := List.mem_filter.mpr ⟨List.mem_append_right _ (List.mem_of_getElem? (i := 205) (by decide +kernel)), rfl⟩
abbrev c_M_up : Cond := .code y_M_up b_M_up 1 (some .int)
theorem kw_206 : c_M_up ∈ lw_gd := List.mem_filter.mpr ⟨List.mem_append_right _ (List.mem_of_getElem? (i := 206) rfl), rfl⟩
theorem kw_207 : Cond.methodLink R_law 21 y_M_size ∈ lw_gd := List.mem_filter.mpr ⟨List.mem_append_right _ (List.mem_of_getElem? (i := 207) (by decide +kernel)), rfl⟩
theorem kw_208 : Cond.instanceMethod y_M_size ∈ lw_gd := List.mem_filter.mpr ⟨List.mem_append_right _ (List.mem_of_getElem? (i := 208) (by decide +kernel)), rfl⟩
theorem kw_209 : Cond.selects R_M y_M_size y_M_size ∈ lw_gd := List.mem_filter.mpr ⟨List.mem_append_right _ (List.mem_of_getElem? (i := 209) (by decide +kernel)), rfl⟩
abbrev c_M_size : Cond := .code y_M_size b_M_size 1 (some .int)
theorem kw_210 : c_M_size ∈ lw_gd := List.mem_filter.mpr ⟨List.mem_append_right _ (List.mem_of_getElem? (i := 210) rfl), rfl⟩
theorem kw_211 : Cond.methodLink R_law 25 y_M_members ∈ lw_gd := List.mem_filter.mpr ⟨List.mem_append_right _ (List.mem_of_getElem? (i := 211) (by decide +kernel)), rfl⟩
theorem kw_212 : Cond.instanceMethod y_M_members ∈ lw_gd := List.mem_filter.mpr ⟨List.mem_append_right _ (List.mem_of_getElem? (i := 212) (by decide +kernel)), rfl⟩
theorem kw_213 : Cond.selects R_M y_M_members y_M_members ∈ lw_gd := List.mem_filter.mpr ⟨List.mem_append_right _ (List.mem_of_getElem? (i := 213) (by decide +kernel)), rfl⟩
abbrev c_M_members : Cond := .code y_M_members b_M_members 1 (some .int)
theorem kw_214 : c_M_members ∈ lw_gd := List.mem_filter.mpr ⟨List.mem_append_right _ (List.mem_of_getElem? (i := 214) rfl), rfl⟩
theorem kw_215 : Cond.methodLink R_law 29 y_M_failed ∈ lw_gd := List.mem_filter.mpr ⟨List.mem_append_right _ (List.mem_of_getElem? (i := 215) (by decide +kernel)), rfl⟩
theorem kw_216 : Cond.instanceMethod y_M_failed ∈ lw_gd := List.mem_filter.mpr ⟨List.mem_append_right _ (List.mem_of_getElem? (i := 216) (by decide +kernel)), rfl⟩
theorem kw_217 : Cond.selects R_M y_M_failed y_M_failed ∈ lw_gd := List.mem_filter.mpr ⟨List.mem_append_right _ (List.mem_of_getElem? (i := 217) (by decide +kernel)), rfl⟩
abbrev c_M_failed : Cond := .code y_M_failed b_M_failed 1 (some .int)
theorem kw_218 : c_M_failed ∈ lw_gd := List.mem_filter.mpr ⟨List.mem_append_right _ (List.mem_of_getElem? (i := 218) rfl), rfl⟩
theorem kw_219 : Cond.methodLink R_law 33 y_M_growth ∈ lw_gd := List.mem_filter.mpr ⟨List.mem_append_right _ (List.mem_of_getElem? (i := 219) (by decide +kernel)), rfl⟩
theorem kw_220 : Cond.instanceMethod y_M_growth ∈ lw_gd := List.mem_filter.mpr ⟨List.mem_append_right _ (List.mem_of_getElem? (i := 220) (by decide +kernel)), rfl⟩
theorem kw_221 : Cond.selects R_M y_M_growth y_M_growth ∈ lw_gd := List.mem_filter.mpr ⟨List.mem_append_right _ (List.mem_of_getElem? (i := 221) (by decide +kernel)), rfl⟩
abbrev c_M_growth : Cond := .code y_M_growth b_M_growth 1 (some .int)
theorem kw_222 : c_M_growth ∈ lw_gd := List.mem_filter.mpr ⟨List.mem_append_right _ (List.mem_of_getElem? (i := 222) rfl), rfl⟩
theorem kw_223 : Cond.methodLink R_law 37 y_M_groups ∈ lw_gd := List.mem_filter.mpr ⟨List.mem_append_right _ (List.mem_of_getElem? (i := 223) (by decide +kernel)), rfl⟩
theorem kw_224 : Cond.instanceMethod y_M_groups ∈ lw_gd := List.mem_filter.mpr ⟨List.mem_append_right _ (List.mem_of_getElem? (i := 224) (by decide +kernel)), rfl⟩
theorem kw_225 : Cond.selects R_M y_M_groups y_M_groups ∈ lw_gd := List.mem_filter.mpr ⟨List.mem_append_right _ (List.mem_of_getElem? (i := 225) (by decide +kernel)), rfl⟩
abbrev c_M_groups : Cond := .code y_M_groups b_M_groups 1 (some .int)
theorem kw_226 : c_M_groups ∈ lw_gd := List.mem_filter.mpr ⟨List.mem_append_right _ (List.mem_of_getElem? (i := 226) rfl), rfl⟩
theorem kw_227 : Cond.methodLink R_law 42 y_M_read ∈ lw_gd := List.mem_filter.mpr ⟨List.mem_append_right _ (List.mem_of_getElem? (i := 227) (by decide +kernel)), rfl⟩
theorem kw_228 : Cond.instanceMethod y_M_read ∈ lw_gd := List.mem_filter.mpr ⟨List.mem_append_right _ (List.mem_of_getElem? (i := 228) (by decide +kernel)), rfl⟩
theorem kw_229 : Cond.selects R_M y_M_read y_M_read ∈ lw_gd := List.mem_filter.mpr ⟨List.mem_append_right _ (List.mem_of_getElem? (i := 229) (by decide +kernel)), rfl⟩
abbrev c_M_read : Cond := .code y_M_read b_M_read 2 (some .int)
theorem kw_230 : c_M_read ∈ lw_gd := List.mem_filter.mpr ⟨List.mem_append_right _ (List.mem_of_getElem? (i := 230) rfl), rfl⟩
theorem kw_231 : Cond.methodLink R_M 31 y_M_noBlock ∈ lw_gd := List.mem_filter.mpr ⟨List.mem_append_right _ (List.mem_of_getElem? (i := 231) (by decide +kernel)), rfl⟩
theorem kw_233 : Cond.instanceMethod y_M_noBlock ∈ lw_gd := List.mem_filter.mpr ⟨List.mem_append_right _ (List.mem_of_getElem? (i := 233) (by decide +kernel)), rfl⟩
abbrev c_M_noBlock : Cond := .code y_M_noBlock b_M_noBlock 2 (some .boolean)
theorem kw_234 : c_M_noBlock ∈ lw_gd := List.mem_filter.mpr ⟨List.mem_append_right _ (List.mem_of_getElem? (i := 234) rfl), rfl⟩
theorem kw_235 : Cond.methodLink R_M 27 y_M_size ∈ lw_gd := List.mem_filter.mpr ⟨List.mem_append_right _ (List.mem_of_getElem? (i := 235) (by decide +kernel)), rfl⟩
theorem kw_236 : Cond.methodLink R_law 46 y_M_sum ∈ lw_gd := List.mem_filter.mpr ⟨List.mem_append_right _ (List.mem_of_getElem? (i := 236) (by decide +kernel)), rfl⟩
theorem kw_237 : Cond.instanceMethod y_M_sum ∈ lw_gd := List.mem_filter.mpr ⟨List.mem_append_right _ (List.mem_of_getElem? (i := 237) (by decide +kernel)), rfl⟩
theorem kw_238 : Cond.selects R_M y_M_sum y_M_sum ∈ lw_gd := List.mem_filter.mpr ⟨List.mem_append_right _ (List.mem_of_getElem? (i := 238) (by decide +kernel)), rfl⟩
abbrev c_M_sum : Cond := .code y_M_sum b_M_sum 3 (some .int)
theorem kw_239 : c_M_sum ∈ lw_gd := List.mem_filter.mpr ⟨List.mem_append_right _ (List.mem_of_getElem? (i := 239) rfl), rfl⟩
theorem kw_240 : Cond.methodLink R_law 51 y_M_write ∈ lw_gd := List.mem_filter.mpr ⟨List.mem_append_right _ (List.mem_of_getElem? (i := 240) (by decide +kernel)), rfl⟩
theorem kw_241 : Cond.instanceMethod y_M_write ∈ lw_gd := List.mem_filter.mpr ⟨List.mem_append_right _ (List.mem_of_getElem? (i := 241) (by decide +kernel)), rfl⟩
theorem kw_242 : Cond.selects R_M y_M_write y_M_write ∈ lw_gd := List.mem_filter.mpr ⟨List.mem_append_right _ (List.mem_of_getElem? (i := 242) (by decide +kernel)), rfl⟩
abbrev c_M_write : Cond := .code y_M_write b_M_write 3 (some .int)
theorem kw_243 : c_M_write ∈ lw_gd := List.mem_filter.mpr ⟨List.mem_append_right _ (List.mem_of_getElem? (i := 243) rfl), rfl⟩
theorem kw_244 : Cond.methodLink R_law 56 y_M_fill ∈ lw_gd := List.mem_filter.mpr ⟨List.mem_append_right _ (List.mem_of_getElem? (i := 244) (by decide +kernel)), rfl⟩
theorem kw_245 : Cond.instanceMethod y_M_fill ∈ lw_gd := List.mem_filter.mpr ⟨List.mem_append_right _ (List.mem_of_getElem? (i := 245) (by decide +kernel)), rfl⟩
theorem kw_246 : Cond.selects R_M y_M_fill y_M_fill ∈ lw_gd := List.mem_filter.mpr ⟨List.mem_append_right _ (List.mem_of_getElem? (i := 246) (by decide +kernel)), rfl⟩
abbrev c_M_fill : Cond := .code y_M_fill b_M_fill 6 (some .int)
theorem kw_247 : c_M_fill ∈ lw_gd := List.mem_filter.mpr ⟨List.mem_append_right _ (List.mem_of_getElem? (i := 247) rfl), rfl⟩
theorem kw_248 : Cond.methodLink R_law 61 y_M_writeCrash ∈ lw_gd := List.mem_filter.mpr ⟨List.mem_append_right _ (List.mem_of_getElem? (i := 248) (by decide +kernel)), rfl⟩
theorem kw_249 : Cond.instanceMethod y_M_writeCrash ∈ lw_gd := List.mem_filter.mpr ⟨List.mem_append_right _ (List.mem_of_getElem? (i := 249) (by decide +kernel)), rfl⟩
theorem kw_250 : Cond.selects R_M y_M_writeCrash y_M_writeCrash ∈ lw_gd := List.mem_filter.mpr ⟨List.mem_append_right _ (List.mem_of_getElem? (i := 250) (by decide +kernel)), rfl⟩
abbrev c_M_writeCrash : Cond := .code y_M_writeCrash b_M_writeCrash 4 (some .int)
theorem kw_251 : c_M_writeCrash ∈ lw_gd := List.mem_filter.mpr ⟨List.mem_append_right _ (List.mem_of_getElem? (i := 251) rfl), rfl⟩
theorem kw_252 : Cond.methodLink R_law 65 y_M_begin ∈ lw_gd := List.mem_filter.mpr ⟨List.mem_append_right _ (List.mem_of_getElem? (i := 252) (by decide +kernel)), rfl⟩
theorem kw_253 : Cond.instanceMethod y_M_begin ∈ lw_gd := List.mem_filter.mpr ⟨List.mem_append_right _ (List.mem_of_getElem? (i := 253) (by decide +kernel)), rfl⟩
theorem kw_254 : Cond.selects R_M y_M_begin y_M_begin ∈ lw_gd := List.mem_filter.mpr ⟨List.mem_append_right _ (List.mem_of_getElem? (i := 254) (by decide +kernel)), rfl⟩
abbrev c_M_begin : Cond := .code y_M_begin b_M_begin 1 (some .int)
theorem kw_255 : c_M_begin ∈ lw_gd := List.mem_filter.mpr ⟨List.mem_append_right _ (List.mem_of_getElem? (i := 255) rfl), rfl⟩
theorem kw_256 : Cond.methodLink R_law 69 y_M_step ∈ lw_gd := List.mem_filter.mpr ⟨List.mem_append_right _ (List.mem_of_getElem? (i := 256) (by decide +kernel)), rfl⟩
theorem kw_257 : Cond.instanceMethod y_M_step ∈ lw_gd := List.mem_filter.mpr ⟨List.mem_append_right _ (List.mem_of_getElem? (i := 257) (by decide +kernel)), rfl⟩
theorem kw_258 : Cond.selects R_M y_M_step y_M_step ∈ lw_gd := List.mem_filter.mpr ⟨List.mem_append_right _ (List.mem_of_getElem? (i := 258) (by decide +kernel)), rfl⟩
abbrev c_M_step : Cond := .code y_M_step b_M_step 1 (some .int)
theorem kw_259 : c_M_step ∈ lw_gd := List.mem_filter.mpr ⟨List.mem_append_right _ (List.mem_of_getElem? (i := 259) rfl), rfl⟩
theorem kw_260 : Cond.methodLink R_M 35 y_M_growth ∈ lw_gd := List.mem_filter.mpr ⟨List.mem_append_right _ (List.mem_of_getElem? (i := 260) (by decide +kernel)), rfl⟩
theorem kw_261 : Cond.methodLink R_M 38 y_M_move ∈ lw_gd := List.mem_filter.mpr ⟨List.mem_append_right _ (List.mem_of_getElem? (i := 261) (by decide +kernel)), rfl⟩
theorem kw_263 : Cond.instanceMethod y_M_move ∈ lw_gd := List.mem_filter.mpr ⟨List.mem_append_right _ (List.mem_of_getElem? (i := 263) (by decide +kernel)), rfl⟩
abbrev c_M_move : Cond := .code y_M_move b_M_move 2 none
theorem kw_264 : c_M_move ∈ lw_gd := List.mem_filter.mpr ⟨List.mem_append_right _ (List.mem_of_getElem? (i := 264) rfl), rfl⟩
theorem kw_265 : Cond.methodLink R_law 73 y_M_stepCrash ∈ lw_gd := List.mem_filter.mpr ⟨List.mem_append_right _ (List.mem_of_getElem? (i := 265) (by decide +kernel)), rfl⟩
theorem kw_266 : Cond.instanceMethod y_M_stepCrash ∈ lw_gd := List.mem_filter.mpr ⟨List.mem_append_right _ (List.mem_of_getElem? (i := 266) (by decide +kernel)), rfl⟩
theorem kw_267 : Cond.selects R_M y_M_stepCrash y_M_stepCrash ∈ lw_gd := List.mem_filter.mpr ⟨List.mem_append_right _ (List.mem_of_getElem? (i := 267) (by decide +kernel)), rfl⟩
abbrev c_M_stepCrash : Cond := .code y_M_stepCrash b_M_stepCrash 2 (some .int)
theorem kw_268 : c_M_stepCrash ∈ lw_gd := List.mem_filter.mpr ⟨List.mem_append_right _ (List.mem_of_getElem? (i := 268) rfl), rfl⟩
theorem kw_269 : Cond.methodLink R_law 77 y_M_crash ∈ lw_gd := List.mem_filter.mpr ⟨List.mem_append_right _ (List.mem_of_getElem? (i := 269) (by decide +kernel)), rfl⟩
theorem kw_270 : Cond.instanceMethod y_M_crash ∈ lw_gd := List.mem_filter.mpr ⟨List.mem_append_right _ (List.mem_of_getElem? (i := 270) (by decide +kernel)), rfl⟩
theorem kw_271 : Cond.selects R_M y_M_crash y_M_crash ∈ lw_gd := List.mem_filter.mpr ⟨List.mem_append_right _ (List.mem_of_getElem? (i := 271) (by decide +kernel)), rfl⟩
abbrev c_M_crash : Cond := .code y_M_crash b_M_crash 1 (some .int)
theorem kw_272 : c_M_crash ∈ lw_gd := List.mem_filter.mpr ⟨List.mem_append_right _ (List.mem_of_getElem? (i := 272) rfl), rfl⟩
theorem kw_273 : Cond.methodLink R_law 81 y_M_mount ∈ lw_gd := List.mem_filter.mpr ⟨List.mem_append_right _ (List.mem_of_getElem? (i := 273) (by decide +kernel)), rfl⟩
theorem kw_274 : Cond.instanceMethod y_M_mount ∈ lw_gd := List.mem_filter.mpr ⟨List.mem_append_right _ (List.mem_of_getElem? (i := 274) (by decide +kernel)), rfl⟩
theorem kw_275 : Cond.selects R_M y_M_mount y_M_mount ∈ lw_gd := List.mem_filter.mpr ⟨List.mem_append_right _ (List.mem_of_getElem? (i := 275) (by decide +kernel)), rfl⟩
abbrev c_M_mount : Cond := .code y_M_mount b_M_mount 1 (some .int)
theorem kw_276 : c_M_mount ∈ lw_gd := List.mem_filter.mpr ⟨List.mem_append_right _ (List.mem_of_getElem? (i := 276) rfl), rfl⟩
theorem kw_277 : Cond.methodLink R_law 85 y_M_fail ∈ lw_gd := List.mem_filter.mpr ⟨List.mem_append_right _ (List.mem_of_getElem? (i := 277) (by decide +kernel)), rfl⟩
theorem kw_278 : Cond.instanceMethod y_M_fail ∈ lw_gd := List.mem_filter.mpr ⟨List.mem_append_right _ (List.mem_of_getElem? (i := 278) (by decide +kernel)), rfl⟩
theorem kw_279 : Cond.selects R_M y_M_fail y_M_fail ∈ lw_gd := List.mem_filter.mpr ⟨List.mem_append_right _ (List.mem_of_getElem? (i := 279) (by decide +kernel)), rfl⟩
abbrev c_M_fail : Cond := .code y_M_fail b_M_fail 2 (some .int)
theorem kw_280 : c_M_fail ∈ lw_gd := List.mem_filter.mpr ⟨List.mem_append_right _ (List.mem_of_getElem? (i := 280) rfl), rfl⟩
theorem kw_281 : Cond.methodLink R_M 41 y_M_members ∈ lw_gd := List.mem_filter.mpr ⟨List.mem_append_right _ (List.mem_of_getElem? (i := 281) (by decide +kernel)), rfl⟩
theorem kw_282 : Cond.methodLink R_law 89 y_M_replace ∈ lw_gd := List.mem_filter.mpr ⟨List.mem_append_right _ (List.mem_of_getElem? (i := 282) (by decide +kernel)), rfl⟩
theorem kw_283 : Cond.instanceMethod y_M_replace ∈ lw_gd := List.mem_filter.mpr ⟨List.mem_append_right _ (List.mem_of_getElem? (i := 283) (by decide +kernel)), rfl⟩
theorem kw_284 : Cond.selects R_M y_M_replace y_M_replace ∈ lw_gd := List.mem_filter.mpr ⟨List.mem_append_right _ (List.mem_of_getElem? (i := 284) (by decide +kernel)), rfl⟩
abbrev c_M_replace : Cond := .code y_M_replace b_M_replace 2 (some .int)
theorem kw_285 : c_M_replace ∈ lw_gd := List.mem_filter.mpr ⟨List.mem_append_right _ (List.mem_of_getElem? (i := 285) rfl), rfl⟩
theorem kw_286 : Cond.methodLink R_law 93 y_M_scrub ∈ lw_gd := List.mem_filter.mpr ⟨List.mem_append_right _ (List.mem_of_getElem? (i := 286) (by decide +kernel)), rfl⟩
theorem kw_287 : Cond.instanceMethod y_M_scrub ∈ lw_gd := List.mem_filter.mpr ⟨List.mem_append_right _ (List.mem_of_getElem? (i := 287) (by decide +kernel)), rfl⟩
theorem kw_288 : Cond.selects R_M y_M_scrub y_M_scrub ∈ lw_gd := List.mem_filter.mpr ⟨List.mem_append_right _ (List.mem_of_getElem? (i := 288) (by decide +kernel)), rfl⟩
abbrev c_M_scrub : Cond := .code y_M_scrub b_M_scrub 1 (some .int)
theorem kw_289 : c_M_scrub ∈ lw_gd := List.mem_filter.mpr ⟨List.mem_append_right _ (List.mem_of_getElem? (i := 289) rfl), rfl⟩
theorem ks_0 : Cond.selects R_X y_X_isBlock y_X_isBlock ∈ lw_gd := List.mem_filter.mpr ⟨List.mem_append_left _ (List.mem_of_getElem? (i := 0) (by decide +kernel)), rfl⟩
theorem ks_1 : Cond.selects R_X y_X_fetch y_X_fetch ∈ lw_gd := List.mem_filter.mpr ⟨List.mem_append_left _ (List.mem_of_getElem? (i := 1) (by decide +kernel)), rfl⟩
theorem ks_2 : Cond.selects R_X y_X_blockIsWide y_X_blockIsWide ∈ lw_gd := List.mem_filter.mpr ⟨List.mem_append_left _ (List.mem_of_getElem? (i := 2) (by decide +kernel)), rfl⟩
theorem ks_3 : Cond.selects R_X y_X_fetchFrom y_X_fetchFrom ∈ lw_gd := List.mem_filter.mpr ⟨List.mem_append_left _ (List.mem_of_getElem? (i := 3) (by decide +kernel)), rfl⟩
theorem ks_4 : Cond.selects R_X y_X_others y_X_others ∈ lw_gd := List.mem_filter.mpr ⟨List.mem_append_left _ (List.mem_of_getElem? (i := 4) (by decide +kernel)), rfl⟩
theorem ks_5 : Cond.selects R_X y_X_store y_X_store ∈ lw_gd := List.mem_filter.mpr ⟨List.mem_append_left _ (List.mem_of_getElem? (i := 5) (by decide +kernel)), rfl⟩
theorem ks_6 : Cond.selects R_X y_X_put y_X_put ∈ lw_gd := List.mem_filter.mpr ⟨List.mem_append_left _ (List.mem_of_getElem? (i := 6) (by decide +kernel)), rfl⟩
theorem ks_7 : Cond.selects R_X y_X_moveGroup y_X_moveGroup ∈ lw_gd := List.mem_filter.mpr ⟨List.mem_append_left _ (List.mem_of_getElem? (i := 7) (by decide +kernel)), rfl⟩
theorem ks_8 : Cond.selects R_X y_X_writeWide y_X_writeWide ∈ lw_gd := List.mem_filter.mpr ⟨List.mem_append_left _ (List.mem_of_getElem? (i := 8) (by decide +kernel)), rfl⟩
theorem ks_9 : Cond.selects R_X y_X_finish y_X_finish ∈ lw_gd := List.mem_filter.mpr ⟨List.mem_append_left _ (List.mem_of_getElem? (i := 9) (by decide +kernel)), rfl⟩
theorem ks_10 : Cond.selects R_X y_X_isWide y_X_isWide ∈ lw_gd := List.mem_filter.mpr ⟨List.mem_append_left _ (List.mem_of_getElem? (i := 10) (by decide +kernel)), rfl⟩
theorem ks_11 : Cond.selects R_X y_X_mend y_X_mend ∈ lw_gd := List.mem_filter.mpr ⟨List.mem_append_left _ (List.mem_of_getElem? (i := 11) (by decide +kernel)), rfl⟩
theorem ks_12 : Cond.selects R_X y_X_takeBack y_X_takeBack ∈ lw_gd := List.mem_filter.mpr ⟨List.mem_append_left _ (List.mem_of_getElem? (i := 12) (by decide +kernel)), rfl⟩
theorem ks_13 : Cond.selects R_X y_X_inUse y_X_inUse ∈ lw_gd := List.mem_filter.mpr ⟨List.mem_append_left _ (List.mem_of_getElem? (i := 13) (by decide +kernel)), rfl⟩
theorem ks_14 : Cond.selects R_M y_M_noBlock y_M_noBlock ∈ lw_gd := List.mem_filter.mpr ⟨List.mem_append_left _ (List.mem_of_getElem? (i := 14) (by decide +kernel)), rfl⟩
theorem ks_15 : Cond.selects R_M y_M_move y_M_move ∈ lw_gd := List.mem_filter.mpr ⟨List.mem_append_left _ (List.mem_of_getElem? (i := 15) (by decide +kernel)), rfl⟩
theorem gw_all : ∀ w ∈ lw_gd, goodWord w = true := fun w h => (List.mem_filter.mp h).2
theorem gw_v {own C : String} {idx : Nat} {y : MethodName} {cd : Cond} (h1 : Cond.methodLink own idx y ∈ lw_gd) (h2 : Cond.instanceMethod y ∈ lw_gd) (h3 : Cond.selects C y y ∈ lw_gd) (h4 : Cond.initialized C ∈ lw_gd) (h5 : cd ∈ lw_gd) : GoodIn lw_gd (wsV own idx C y (cd :: lw_gd)) := by
  have all : ∀ w ∈ wsV own idx C y (cd :: lw_gd), w ∈ lw_gd := by
    intro w hw
    simp only [wsV, List.mem_append, List.mem_cons, List.not_mem_nil, or_false] at hw
    rcases hw with (rfl | rfl | rfl | rfl) | rfl | h
    · exact h1
    · exact h2
    · exact h3
    · exact h4
    · exact h5
    · exact h
  exact fun w hw => ⟨all w hw, good_of_word (gw_all w (all w hw))⟩
theorem gw_s {own : String} {idx : Nat} {y : MethodName} {cd : Cond} (h1 : Cond.methodLink own idx y ∈ lw_gd) (h2 : Cond.static y ∈ lw_gd) (h4 : Cond.initialized own ∈ lw_gd) (h5 : cd ∈ lw_gd) : GoodIn lw_gd (wsS own idx y (cd :: lw_gd)) := by
  have all : ∀ w ∈ wsS own idx y (cd :: lw_gd), w ∈ lw_gd := by
    intro w hw
    simp only [wsS, List.mem_append, List.mem_cons, List.not_mem_nil, or_false] at hw
    rcases hw with (rfl | rfl | rfl) | rfl | h
    · exact h1
    · exact h2
    · exact h4
    · exact h5
    · exact h
  exact fun w hw => ⟨all w hw, good_of_word (gw_all w (all w hw))⟩
theorem gw_i {cd : Cond} (h5 : cd ∈ lw_gd) : GoodIn lw_gd (cd :: lw_gd) := by
  have all : ∀ w ∈ cd :: lw_gd, w ∈ lw_gd := by
    intro w hw
    rcases List.mem_cons.mp hw with rfl | h
    · exact h5
    · exact h
  exact fun w hw => ⟨all w hw, good_of_word (gw_all w (all w hw))⟩
theorem gc_law_13 : GoodIn lw_gd (wsV R_law 13 R_X y_X_up (c_X_up :: lw_gd)) := gw_v kw_37 kw_38 kw_39 kw_1 kw_40
theorem gc_law_18 : GoodIn lw_gd (wsV R_law 18 R_X y_X_size (c_X_size :: lw_gd)) := gw_v kw_41 kw_42 kw_43 kw_1 kw_44
theorem gc_law_22 : GoodIn lw_gd (wsV R_law 22 R_X y_X_members (c_X_members :: lw_gd)) := gw_v kw_45 kw_46 kw_47 kw_1 kw_48
theorem gc_law_26 : GoodIn lw_gd (wsV R_law 26 R_X y_X_failed (c_X_failed :: lw_gd)) := gw_v kw_49 kw_50 kw_51 kw_1 kw_52
theorem gc_law_30 : GoodIn lw_gd (wsV R_law 30 R_X y_X_growth (c_X_growth :: lw_gd)) := gw_v kw_53 kw_54 kw_55 kw_1 kw_56
theorem gc_law_34 : GoodIn lw_gd (wsV R_law 34 R_X y_X_groups (c_X_groups :: lw_gd)) := gw_v kw_57 kw_58 kw_59 kw_1 kw_60
theorem gc_law_38 : GoodIn lw_gd (wsV R_law 38 R_X y_X_read (c_X_read :: lw_gd)) := gw_v kw_61 kw_62 kw_63 kw_1 kw_64
theorem gc_X_33 : GoodIn lw_gd (wsV R_X 33 R_X y_X_isBlock (c_X_isBlock :: lw_gd)) := gw_v kw_65 kw_67 ks_0 kw_1 kw_68
theorem gc_X_41 : GoodIn lw_gd (wsV R_X 41 R_X y_X_size (c_X_size :: lw_gd)) := gw_v kw_69 kw_42 kw_43 kw_1 kw_44
theorem gc_X_37 : GoodIn lw_gd (wsV R_X 37 R_X y_X_fetch (c_X_fetch :: lw_gd)) := gw_v kw_70 kw_72 ks_1 kw_1 kw_73
theorem gc_X_87 : GoodIn lw_gd (wsV R_X 87 R_X y_X_blockIsWide (c_X_blockIsWide :: lw_gd)) := gw_v kw_74 kw_76 ks_2 kw_1 kw_77
theorem gc_X_90 : GoodIn lw_gd (wsV R_X 90 R_X y_X_fetchFrom (c_X_fetchFrom :: lw_gd)) := gw_v kw_78 kw_80 ks_3 kw_1 kw_81
theorem gc_X_93 : GoodIn lw_gd (wsS R_X 93 y_X_rowOf (c_X_rowOf :: lw_gd)) := gw_s kw_82 kw_83 kw_1 kw_84
theorem gc_X_96 : GoodIn lw_gd (wsS R_X 96 y_X_memberOf (c_X_memberOf :: lw_gd)) := gw_s kw_85 kw_86 kw_1 kw_87
theorem gc_X_80 : GoodIn lw_gd (wsV R_X 80 R_X y_X_others (c_X_others :: lw_gd)) := gw_v kw_88 kw_90 ks_4 kw_1 kw_91
theorem gc_law_43 : GoodIn lw_gd (wsV R_law 43 R_X y_X_sum (c_X_sum :: lw_gd)) := gw_v kw_92 kw_93 kw_94 kw_1 kw_95
theorem gc_law_47 : GoodIn lw_gd (wsV R_law 47 R_X y_X_write (c_X_write :: lw_gd)) := gw_v kw_96 kw_97 kw_98 kw_1 kw_99
theorem gc_X_45 : GoodIn lw_gd (wsV R_X 45 R_X y_X_store (c_X_store :: lw_gd)) := gw_v kw_100 kw_102 ks_5 kw_1 kw_103
theorem gc_X_56 : GoodIn lw_gd (wsS R_X 56 y_X_parityOf (c_X_parityOf :: lw_gd)) := gw_s kw_104 kw_105 kw_1 kw_106
theorem gc_X_84 : GoodIn lw_gd (wsV R_X 84 R_X y_X_put (c_X_put :: lw_gd)) := gw_v kw_107 kw_109 ks_6 kw_1 kw_110
theorem gc_law_52 : GoodIn lw_gd (wsV R_law 52 R_X y_X_fill (c_X_fill :: lw_gd)) := gw_v kw_111 kw_112 kw_113 kw_1 kw_114
theorem gc_law_57 : GoodIn lw_gd (wsV R_law 57 R_X y_X_writeCrash (c_X_writeCrash :: lw_gd)) := gw_v kw_115 kw_116 kw_117 kw_1 kw_118
theorem gc_law_62 : GoodIn lw_gd (wsV R_law 62 R_X y_X_begin (c_X_begin :: lw_gd)) := gw_v kw_119 kw_120 kw_121 kw_1 kw_122
theorem gc_law_66 : GoodIn lw_gd (wsV R_law 66 R_X y_X_step (c_X_step :: lw_gd)) := gw_v kw_123 kw_124 kw_125 kw_1 kw_126
theorem gc_X_49 : GoodIn lw_gd (wsV R_X 49 R_X y_X_moveGroup (c_X_moveGroup :: lw_gd)) := gw_v kw_127 kw_129 ks_7 kw_1 kw_130
theorem gc_X_99 : GoodIn lw_gd (wsV R_X 99 R_X y_X_writeWide (c_X_writeWide :: lw_gd)) := gw_v kw_131 kw_133 ks_8 kw_1 kw_134
theorem gc_X_70 : GoodIn lw_gd (wsV R_X 70 R_X y_X_finish (c_X_finish :: lw_gd)) := gw_v kw_135 kw_137 ks_9 kw_1 kw_138
theorem gc_law_70 : GoodIn lw_gd (wsV R_law 70 R_X y_X_stepCrash (c_X_stepCrash :: lw_gd)) := gw_v kw_139 kw_140 kw_141 kw_1 kw_142
theorem gc_law_74 : GoodIn lw_gd (wsV R_law 74 R_X y_X_crash (c_X_crash :: lw_gd)) := gw_v kw_143 kw_144 kw_145 kw_1 kw_146
theorem gc_law_78 : GoodIn lw_gd (wsV R_law 78 R_X y_X_mount (c_X_mount :: lw_gd)) := gw_v kw_147 kw_148 kw_149 kw_1 kw_150
theorem gc_X_53 : GoodIn lw_gd (wsV R_X 53 R_X y_X_isWide (c_X_isWide :: lw_gd)) := gw_v kw_151 kw_153 ks_10 kw_1 kw_154
theorem gc_X_60 : GoodIn lw_gd (wsV R_X 60 R_X y_X_mend (c_X_mend :: lw_gd)) := gw_v kw_155 kw_157 ks_11 kw_1 kw_158
theorem gc_X_67 : GoodIn lw_gd (wsV R_X 67 R_X y_X_takeBack (c_X_takeBack :: lw_gd)) := gw_v kw_159 kw_161 ks_12 kw_1 kw_162
theorem gc_law_82 : GoodIn lw_gd (wsV R_law 82 R_X y_X_fail (c_X_fail :: lw_gd)) := gw_v kw_163 kw_164 kw_165 kw_1 kw_166
theorem gc_X_73 : GoodIn lw_gd (wsV R_X 73 R_X y_X_members (c_X_members :: lw_gd)) := gw_v kw_167 kw_46 kw_47 kw_1 kw_48
theorem gc_law_86 : GoodIn lw_gd (wsV R_law 86 R_X y_X_replace (c_X_replace :: lw_gd)) := gw_v kw_169 kw_170 kw_171 kw_1 kw_172
theorem gc_X_77 : GoodIn lw_gd (wsV R_X 77 R_X y_X_inUse (c_X_inUse :: lw_gd)) := gw_v kw_173 kw_175 ks_13 kw_1 kw_176
theorem gc_law_90 : GoodIn lw_gd (wsV R_law 90 R_X y_X_scrub (c_X_scrub :: lw_gd)) := gw_v kw_177 kw_178 kw_179 kw_1 kw_180
theorem gc_law_17 : GoodIn lw_gd (wsV R_law 17 R_M y_M_up (c_M_up :: lw_gd)) := gw_v kw_203 kw_204 kw_205 kw_2 kw_206
theorem gc_law_21 : GoodIn lw_gd (wsV R_law 21 R_M y_M_size (c_M_size :: lw_gd)) := gw_v kw_207 kw_208 kw_209 kw_2 kw_210
theorem gc_law_25 : GoodIn lw_gd (wsV R_law 25 R_M y_M_members (c_M_members :: lw_gd)) := gw_v kw_211 kw_212 kw_213 kw_2 kw_214
theorem gc_law_29 : GoodIn lw_gd (wsV R_law 29 R_M y_M_failed (c_M_failed :: lw_gd)) := gw_v kw_215 kw_216 kw_217 kw_2 kw_218
theorem gc_law_33 : GoodIn lw_gd (wsV R_law 33 R_M y_M_growth (c_M_growth :: lw_gd)) := gw_v kw_219 kw_220 kw_221 kw_2 kw_222
theorem gc_law_37 : GoodIn lw_gd (wsV R_law 37 R_M y_M_groups (c_M_groups :: lw_gd)) := gw_v kw_223 kw_224 kw_225 kw_2 kw_226
theorem gc_law_42 : GoodIn lw_gd (wsV R_law 42 R_M y_M_read (c_M_read :: lw_gd)) := gw_v kw_227 kw_228 kw_229 kw_2 kw_230
theorem gc_M_31 : GoodIn lw_gd (wsV R_M 31 R_M y_M_noBlock (c_M_noBlock :: lw_gd)) := gw_v kw_231 kw_233 ks_14 kw_2 kw_234
theorem gc_M_27 : GoodIn lw_gd (wsV R_M 27 R_M y_M_size (c_M_size :: lw_gd)) := gw_v kw_235 kw_208 kw_209 kw_2 kw_210
theorem gc_law_46 : GoodIn lw_gd (wsV R_law 46 R_M y_M_sum (c_M_sum :: lw_gd)) := gw_v kw_236 kw_237 kw_238 kw_2 kw_239
theorem gc_law_51 : GoodIn lw_gd (wsV R_law 51 R_M y_M_write (c_M_write :: lw_gd)) := gw_v kw_240 kw_241 kw_242 kw_2 kw_243
theorem gc_law_56 : GoodIn lw_gd (wsV R_law 56 R_M y_M_fill (c_M_fill :: lw_gd)) := gw_v kw_244 kw_245 kw_246 kw_2 kw_247
theorem gc_law_61 : GoodIn lw_gd (wsV R_law 61 R_M y_M_writeCrash (c_M_writeCrash :: lw_gd)) := gw_v kw_248 kw_249 kw_250 kw_2 kw_251
theorem gc_law_65 : GoodIn lw_gd (wsV R_law 65 R_M y_M_begin (c_M_begin :: lw_gd)) := gw_v kw_252 kw_253 kw_254 kw_2 kw_255
theorem gc_law_69 : GoodIn lw_gd (wsV R_law 69 R_M y_M_step (c_M_step :: lw_gd)) := gw_v kw_256 kw_257 kw_258 kw_2 kw_259
theorem gc_M_35 : GoodIn lw_gd (wsV R_M 35 R_M y_M_growth (c_M_growth :: lw_gd)) := gw_v kw_260 kw_220 kw_221 kw_2 kw_222
theorem gc_M_38 : GoodIn lw_gd (wsV R_M 38 R_M y_M_move (c_M_move :: lw_gd)) := gw_v kw_261 kw_263 ks_15 kw_2 kw_264
theorem gc_law_73 : GoodIn lw_gd (wsV R_law 73 R_M y_M_stepCrash (c_M_stepCrash :: lw_gd)) := gw_v kw_265 kw_266 kw_267 kw_2 kw_268
theorem gc_law_77 : GoodIn lw_gd (wsV R_law 77 R_M y_M_crash (c_M_crash :: lw_gd)) := gw_v kw_269 kw_270 kw_271 kw_2 kw_272
theorem gc_law_81 : GoodIn lw_gd (wsV R_law 81 R_M y_M_mount (c_M_mount :: lw_gd)) := gw_v kw_273 kw_274 kw_275 kw_2 kw_276
theorem gc_law_85 : GoodIn lw_gd (wsV R_law 85 R_M y_M_fail (c_M_fail :: lw_gd)) := gw_v kw_277 kw_278 kw_279 kw_2 kw_280
theorem gc_M_41 : GoodIn lw_gd (wsV R_M 41 R_M y_M_members (c_M_members :: lw_gd)) := gw_v kw_281 kw_212 kw_213 kw_2 kw_214
theorem gc_law_89 : GoodIn lw_gd (wsV R_law 89 R_M y_M_replace (c_M_replace :: lw_gd)) := gw_v kw_282 kw_283 kw_284 kw_2 kw_285
theorem gc_law_93 : GoodIn lw_gd (wsV R_law 93 R_M y_M_scrub (c_M_scrub :: lw_gd)) := gw_v kw_286 kw_287 kw_288 kw_2 kw_289
end
section
theorem dx_law_law_0 : decode code 0 = .ok (.new 7, 3) := by decide +kernel
theorem dx_law_law_3 : decode code 3 = .ok (.dup, 1) := by decide +kernel
theorem dx_law_law_4 : decode code 4 = .ok (.invokespecial 9, 3) := by decide +kernel
theorem dx_law_law_7 : decode code 7 = .ok (.astore_n 1, 1) := by decide +kernel
theorem dx_law_law_8 : decode code 8 = .ok (.new 10, 3) := by decide +kernel
theorem dx_law_law_11 : decode code 11 = .ok (.dup, 1) := by decide +kernel
theorem dx_law_law_12 : decode code 12 = .ok (.invokespecial 12, 3) := by decide +kernel
theorem dx_law_law_15 : decode code 15 = .ok (.astore_n 2, 1) := by decide +kernel
theorem dx_law_law_16 : decode code 16 = .ok (.iconst 0, 1) := by decide +kernel
theorem dx_law_law_17 : decode code 17 = .ok (.istore_n 3, 1) := by decide +kernel
theorem dx_law_law_18 : decode code 18 = .ok (.iload_n 3, 1) := by decide +kernel
theorem dx_law_law_19 : decode code 19 = .ok (.aload_n 0, 1) := by decide +kernel
theorem dx_law_law_20 : decode code 20 = .ok (.arraylength, 1) := by decide +kernel
theorem dx_law_law_21 : decode code 21 = .ok (.iconst 5, 1) := by decide +kernel
theorem dx_law_law_22 : decode code 22 = .ok (.isub, 1) := by decide +kernel
theorem dx_law_law_23 : decode code 23 = .ok (.if_icmp .gt 474, 3) := by decide +kernel
theorem dx_law_law_26 : decode code 26 = .ok (.aload_n 0, 1) := by decide +kernel
theorem dx_law_law_27 : decode code 27 = .ok (.iload_n 3, 1) := by decide +kernel
theorem dx_law_law_28 : decode code 28 = .ok (.iaload, 1) := by decide +kernel
theorem dx_law_law_29 : decode code 29 = .ok (.bipush 31, 2) := by decide +kernel
theorem dx_law_law_31 : decode code 31 = .ok (.iand, 1) := by decide +kernel
theorem dx_law_law_32 : decode code 32 = .ok (.tableswitch 459 0 18 #[92, 105, 118, 131, 144, 157, 170, 193, 206, 239, 292, 335, 348, 361, 384, 397, 410, 433, 446], 92) := by decide +kernel
theorem dx_law_law_124 : decode code 124 = .ok (.aload_n 1, 1) := by decide +kernel
theorem dx_law_law_125 : decode code 125 = .ok (.invokevirtual 13, 3) := by decide +kernel
theorem dx_law_law_128 : decode code 128 = .ok (.aload_n 2, 1) := by decide +kernel
theorem dx_law_law_129 : decode code 129 = .ok (.invokevirtual 17, 3) := by decide +kernel
theorem dx_law_law_132 : decode code 132 = .ok (.if_icmp .eq 359, 3) := by decide +kernel
theorem dx_law_law_135 : decode code 135 = .ok (.iconst 0, 1) := by decide +kernel
theorem dx_law_law_136 : decode code 136 = .ok (.ireturn, 1) := by decide +kernel
theorem dx_law_law_137 : decode code 137 = .ok (.aload_n 1, 1) := by decide +kernel
theorem dx_law_law_138 : decode code 138 = .ok (.invokevirtual 18, 3) := by decide +kernel
theorem dx_law_law_141 : decode code 141 = .ok (.aload_n 2, 1) := by decide +kernel
theorem dx_law_law_142 : decode code 142 = .ok (.invokevirtual 21, 3) := by decide +kernel
theorem dx_law_law_145 : decode code 145 = .ok (.if_icmp .eq 346, 3) := by decide +kernel
theorem dx_law_law_148 : decode code 148 = .ok (.iconst 0, 1) := by decide +kernel
theorem dx_law_law_149 : decode code 149 = .ok (.ireturn, 1) := by decide +kernel
theorem dx_law_law_150 : decode code 150 = .ok (.aload_n 1, 1) := by decide +kernel
theorem dx_law_law_151 : decode code 151 = .ok (.invokevirtual 22, 3) := by decide +kernel
theorem dx_law_law_154 : decode code 154 = .ok (.aload_n 2, 1) := by decide +kernel
theorem dx_law_law_155 : decode code 155 = .ok (.invokevirtual 25, 3) := by decide +kernel
theorem dx_law_law_158 : decode code 158 = .ok (.if_icmp .eq 333, 3) := by decide +kernel
theorem dx_law_law_161 : decode code 161 = .ok (.iconst 0, 1) := by decide +kernel
theorem dx_law_law_162 : decode code 162 = .ok (.ireturn, 1) := by decide +kernel
theorem dx_law_law_163 : decode code 163 = .ok (.aload_n 1, 1) := by decide +kernel
theorem dx_law_law_164 : decode code 164 = .ok (.invokevirtual 26, 3) := by decide +kernel
theorem dx_law_law_167 : decode code 167 = .ok (.aload_n 2, 1) := by decide +kernel
theorem dx_law_law_168 : decode code 168 = .ok (.invokevirtual 29, 3) := by decide +kernel
theorem dx_law_law_171 : decode code 171 = .ok (.if_icmp .eq 320, 3) := by decide +kernel
theorem dx_law_law_174 : decode code 174 = .ok (.iconst 0, 1) := by decide +kernel
theorem dx_law_law_175 : decode code 175 = .ok (.ireturn, 1) := by decide +kernel
theorem dx_law_law_176 : decode code 176 = .ok (.aload_n 1, 1) := by decide +kernel
theorem dx_law_law_177 : decode code 177 = .ok (.invokevirtual 30, 3) := by decide +kernel
theorem dx_law_law_180 : decode code 180 = .ok (.aload_n 2, 1) := by decide +kernel
theorem dx_law_law_181 : decode code 181 = .ok (.invokevirtual 33, 3) := by decide +kernel
theorem dx_law_law_184 : decode code 184 = .ok (.if_icmp .eq 307, 3) := by decide +kernel
theorem dx_law_law_187 : decode code 187 = .ok (.iconst 0, 1) := by decide +kernel
theorem dx_law_law_188 : decode code 188 = .ok (.ireturn, 1) := by decide +kernel
theorem dx_law_law_189 : decode code 189 = .ok (.aload_n 1, 1) := by decide +kernel
theorem dx_law_law_190 : decode code 190 = .ok (.invokevirtual 34, 3) := by decide +kernel
theorem dx_law_law_193 : decode code 193 = .ok (.aload_n 2, 1) := by decide +kernel
theorem dx_law_law_194 : decode code 194 = .ok (.invokevirtual 37, 3) := by decide +kernel
theorem dx_law_law_197 : decode code 197 = .ok (.if_icmp .eq 294, 3) := by decide +kernel
theorem dx_law_law_200 : decode code 200 = .ok (.iconst 0, 1) := by decide +kernel
theorem dx_law_law_201 : decode code 201 = .ok (.ireturn, 1) := by decide +kernel
theorem dx_law_law_202 : decode code 202 = .ok (.aload_n 1, 1) := by decide +kernel
theorem dx_law_law_203 : decode code 203 = .ok (.aload_n 0, 1) := by decide +kernel
theorem dx_law_law_204 : decode code 204 = .ok (.iload_n 3, 1) := by decide +kernel
theorem dx_law_law_205 : decode code 205 = .ok (.iconst 1, 1) := by decide +kernel
theorem dx_law_law_206 : decode code 206 = .ok (.iadd, 1) := by decide +kernel
theorem dx_law_law_207 : decode code 207 = .ok (.iaload, 1) := by decide +kernel
theorem dx_law_law_208 : decode code 208 = .ok (.invokevirtual 38, 3) := by decide +kernel
theorem dx_law_law_211 : decode code 211 = .ok (.aload_n 2, 1) := by decide +kernel
theorem dx_law_law_212 : decode code 212 = .ok (.aload_n 0, 1) := by decide +kernel
theorem dx_law_law_213 : decode code 213 = .ok (.iload_n 3, 1) := by decide +kernel
theorem dx_law_law_214 : decode code 214 = .ok (.iconst 1, 1) := by decide +kernel
theorem dx_law_law_215 : decode code 215 = .ok (.iadd, 1) := by decide +kernel
theorem dx_law_law_216 : decode code 216 = .ok (.iaload, 1) := by decide +kernel
theorem dx_law_law_217 : decode code 217 = .ok (.invokevirtual 42, 3) := by decide +kernel
theorem dx_law_law_220 : decode code 220 = .ok (.if_icmp .eq 271, 3) := by decide +kernel
theorem dx_law_law_223 : decode code 223 = .ok (.iconst 0, 1) := by decide +kernel
theorem dx_law_law_224 : decode code 224 = .ok (.ireturn, 1) := by decide +kernel
theorem dx_law_law_225 : decode code 225 = .ok (.aload_n 1, 1) := by decide +kernel
theorem dx_law_law_226 : decode code 226 = .ok (.invokevirtual 43, 3) := by decide +kernel
theorem dx_law_law_229 : decode code 229 = .ok (.aload_n 2, 1) := by decide +kernel
theorem dx_law_law_230 : decode code 230 = .ok (.invokevirtual 46, 3) := by decide +kernel
theorem dx_law_law_233 : decode code 233 = .ok (.if_icmp .eq 258, 3) := by decide +kernel
theorem dx_law_law_236 : decode code 236 = .ok (.iconst 0, 1) := by decide +kernel
theorem dx_law_law_237 : decode code 237 = .ok (.ireturn, 1) := by decide +kernel
theorem dx_law_law_238 : decode code 238 = .ok (.aload_n 1, 1) := by decide +kernel
theorem dx_law_law_239 : decode code 239 = .ok (.aload_n 0, 1) := by decide +kernel
theorem dx_law_law_240 : decode code 240 = .ok (.iload_n 3, 1) := by decide +kernel
theorem dx_law_law_241 : decode code 241 = .ok (.iconst 1, 1) := by decide +kernel
theorem dx_law_law_242 : decode code 242 = .ok (.iadd, 1) := by decide +kernel
theorem dx_law_law_243 : decode code 243 = .ok (.iaload, 1) := by decide +kernel
theorem dx_law_law_244 : decode code 244 = .ok (.aload_n 0, 1) := by decide +kernel
theorem dx_law_law_245 : decode code 245 = .ok (.iload_n 3, 1) := by decide +kernel
theorem dx_law_law_246 : decode code 246 = .ok (.iconst 2, 1) := by decide +kernel
theorem dx_law_law_247 : decode code 247 = .ok (.iadd, 1) := by decide +kernel
theorem dx_law_law_248 : decode code 248 = .ok (.iaload, 1) := by decide +kernel
theorem dx_law_law_249 : decode code 249 = .ok (.invokevirtual 47, 3) := by decide +kernel
end
section
theorem dx_law_law_252 : decode code 252 = .ok (.aload_n 2, 1) := by decide +kernel
theorem dx_law_law_253 : decode code 253 = .ok (.aload_n 0, 1) := by decide +kernel
theorem dx_law_law_254 : decode code 254 = .ok (.iload_n 3, 1) := by decide +kernel
theorem dx_law_law_255 : decode code 255 = .ok (.iconst 1, 1) := by decide +kernel
theorem dx_law_law_256 : decode code 256 = .ok (.iadd, 1) := by decide +kernel
theorem dx_law_law_257 : decode code 257 = .ok (.iaload, 1) := by decide +kernel
theorem dx_law_law_258 : decode code 258 = .ok (.aload_n 0, 1) := by decide +kernel
theorem dx_law_law_259 : decode code 259 = .ok (.iload_n 3, 1) := by decide +kernel
theorem dx_law_law_260 : decode code 260 = .ok (.iconst 2, 1) := by decide +kernel
theorem dx_law_law_261 : decode code 261 = .ok (.iadd, 1) := by decide +kernel
theorem dx_law_law_262 : decode code 262 = .ok (.iaload, 1) := by decide +kernel
theorem dx_law_law_263 : decode code 263 = .ok (.invokevirtual 51, 3) := by decide +kernel
theorem dx_law_law_266 : decode code 266 = .ok (.if_icmp .eq 225, 3) := by decide +kernel
theorem dx_law_law_269 : decode code 269 = .ok (.iconst 0, 1) := by decide +kernel
theorem dx_law_law_270 : decode code 270 = .ok (.ireturn, 1) := by decide +kernel
theorem dx_law_law_271 : decode code 271 = .ok (.aload_n 1, 1) := by decide +kernel
theorem dx_law_law_272 : decode code 272 = .ok (.aload_n 0, 1) := by decide +kernel
theorem dx_law_law_273 : decode code 273 = .ok (.iload_n 3, 1) := by decide +kernel
theorem dx_law_law_274 : decode code 274 = .ok (.iconst 1, 1) := by decide +kernel
theorem dx_law_law_275 : decode code 275 = .ok (.iadd, 1) := by decide +kernel
theorem dx_law_law_276 : decode code 276 = .ok (.iaload, 1) := by decide +kernel
theorem dx_law_law_277 : decode code 277 = .ok (.aload_n 0, 1) := by decide +kernel
theorem dx_law_law_278 : decode code 278 = .ok (.iload_n 3, 1) := by decide +kernel
theorem dx_law_law_279 : decode code 279 = .ok (.iconst 2, 1) := by decide +kernel
theorem dx_law_law_280 : decode code 280 = .ok (.iadd, 1) := by decide +kernel
theorem dx_law_law_281 : decode code 281 = .ok (.iaload, 1) := by decide +kernel
theorem dx_law_law_282 : decode code 282 = .ok (.aload_n 0, 1) := by decide +kernel
theorem dx_law_law_283 : decode code 283 = .ok (.iload_n 3, 1) := by decide +kernel
theorem dx_law_law_284 : decode code 284 = .ok (.iconst 3, 1) := by decide +kernel
theorem dx_law_law_285 : decode code 285 = .ok (.iadd, 1) := by decide +kernel
theorem dx_law_law_286 : decode code 286 = .ok (.iaload, 1) := by decide +kernel
theorem dx_law_law_287 : decode code 287 = .ok (.aload_n 0, 1) := by decide +kernel
theorem dx_law_law_288 : decode code 288 = .ok (.iload_n 3, 1) := by decide +kernel
theorem dx_law_law_289 : decode code 289 = .ok (.iconst 4, 1) := by decide +kernel
theorem dx_law_law_290 : decode code 290 = .ok (.iadd, 1) := by decide +kernel
theorem dx_law_law_291 : decode code 291 = .ok (.iaload, 1) := by decide +kernel
theorem dx_law_law_292 : decode code 292 = .ok (.invokevirtual 52, 3) := by decide +kernel
theorem dx_law_law_295 : decode code 295 = .ok (.aload_n 2, 1) := by decide +kernel
theorem dx_law_law_296 : decode code 296 = .ok (.aload_n 0, 1) := by decide +kernel
theorem dx_law_law_297 : decode code 297 = .ok (.iload_n 3, 1) := by decide +kernel
theorem dx_law_law_298 : decode code 298 = .ok (.iconst 1, 1) := by decide +kernel
theorem dx_law_law_299 : decode code 299 = .ok (.iadd, 1) := by decide +kernel
theorem dx_law_law_300 : decode code 300 = .ok (.iaload, 1) := by decide +kernel
theorem dx_law_law_301 : decode code 301 = .ok (.aload_n 0, 1) := by decide +kernel
theorem dx_law_law_302 : decode code 302 = .ok (.iload_n 3, 1) := by decide +kernel
theorem dx_law_law_303 : decode code 303 = .ok (.iconst 2, 1) := by decide +kernel
theorem dx_law_law_304 : decode code 304 = .ok (.iadd, 1) := by decide +kernel
theorem dx_law_law_305 : decode code 305 = .ok (.iaload, 1) := by decide +kernel
theorem dx_law_law_306 : decode code 306 = .ok (.aload_n 0, 1) := by decide +kernel
theorem dx_law_law_307 : decode code 307 = .ok (.iload_n 3, 1) := by decide +kernel
theorem dx_law_law_308 : decode code 308 = .ok (.iconst 3, 1) := by decide +kernel
theorem dx_law_law_309 : decode code 309 = .ok (.iadd, 1) := by decide +kernel
theorem dx_law_law_310 : decode code 310 = .ok (.iaload, 1) := by decide +kernel
theorem dx_law_law_311 : decode code 311 = .ok (.aload_n 0, 1) := by decide +kernel
theorem dx_law_law_312 : decode code 312 = .ok (.iload_n 3, 1) := by decide +kernel
theorem dx_law_law_313 : decode code 313 = .ok (.iconst 4, 1) := by decide +kernel
theorem dx_law_law_314 : decode code 314 = .ok (.iadd, 1) := by decide +kernel
theorem dx_law_law_315 : decode code 315 = .ok (.iaload, 1) := by decide +kernel
theorem dx_law_law_316 : decode code 316 = .ok (.invokevirtual 56, 3) := by decide +kernel
theorem dx_law_law_319 : decode code 319 = .ok (.if_icmp .eq 172, 3) := by decide +kernel
theorem dx_law_law_322 : decode code 322 = .ok (.iconst 0, 1) := by decide +kernel
theorem dx_law_law_323 : decode code 323 = .ok (.ireturn, 1) := by decide +kernel
theorem dx_law_law_324 : decode code 324 = .ok (.aload_n 1, 1) := by decide +kernel
theorem dx_law_law_325 : decode code 325 = .ok (.aload_n 0, 1) := by decide +kernel
theorem dx_law_law_326 : decode code 326 = .ok (.iload_n 3, 1) := by decide +kernel
theorem dx_law_law_327 : decode code 327 = .ok (.iconst 1, 1) := by decide +kernel
theorem dx_law_law_328 : decode code 328 = .ok (.iadd, 1) := by decide +kernel
theorem dx_law_law_329 : decode code 329 = .ok (.iaload, 1) := by decide +kernel
theorem dx_law_law_330 : decode code 330 = .ok (.aload_n 0, 1) := by decide +kernel
theorem dx_law_law_331 : decode code 331 = .ok (.iload_n 3, 1) := by decide +kernel
theorem dx_law_law_332 : decode code 332 = .ok (.iconst 2, 1) := by decide +kernel
theorem dx_law_law_333 : decode code 333 = .ok (.iadd, 1) := by decide +kernel
theorem dx_law_law_334 : decode code 334 = .ok (.iaload, 1) := by decide +kernel
theorem dx_law_law_335 : decode code 335 = .ok (.aload_n 0, 1) := by decide +kernel
theorem dx_law_law_336 : decode code 336 = .ok (.iload_n 3, 1) := by decide +kernel
theorem dx_law_law_337 : decode code 337 = .ok (.iconst 3, 1) := by decide +kernel
theorem dx_law_law_338 : decode code 338 = .ok (.iadd, 1) := by decide +kernel
theorem dx_law_law_339 : decode code 339 = .ok (.iaload, 1) := by decide +kernel
theorem dx_law_law_340 : decode code 340 = .ok (.invokevirtual 57, 3) := by decide +kernel
theorem dx_law_law_343 : decode code 343 = .ok (.aload_n 2, 1) := by decide +kernel
theorem dx_law_law_344 : decode code 344 = .ok (.aload_n 0, 1) := by decide +kernel
theorem dx_law_law_345 : decode code 345 = .ok (.iload_n 3, 1) := by decide +kernel
theorem dx_law_law_346 : decode code 346 = .ok (.iconst 1, 1) := by decide +kernel
theorem dx_law_law_347 : decode code 347 = .ok (.iadd, 1) := by decide +kernel
theorem dx_law_law_348 : decode code 348 = .ok (.iaload, 1) := by decide +kernel
theorem dx_law_law_349 : decode code 349 = .ok (.aload_n 0, 1) := by decide +kernel
theorem dx_law_law_350 : decode code 350 = .ok (.iload_n 3, 1) := by decide +kernel
theorem dx_law_law_351 : decode code 351 = .ok (.iconst 2, 1) := by decide +kernel
theorem dx_law_law_352 : decode code 352 = .ok (.iadd, 1) := by decide +kernel
theorem dx_law_law_353 : decode code 353 = .ok (.iaload, 1) := by decide +kernel
theorem dx_law_law_354 : decode code 354 = .ok (.aload_n 0, 1) := by decide +kernel
theorem dx_law_law_355 : decode code 355 = .ok (.iload_n 3, 1) := by decide +kernel
theorem dx_law_law_356 : decode code 356 = .ok (.iconst 3, 1) := by decide +kernel
theorem dx_law_law_357 : decode code 357 = .ok (.iadd, 1) := by decide +kernel
theorem dx_law_law_358 : decode code 358 = .ok (.iaload, 1) := by decide +kernel
theorem dx_law_law_359 : decode code 359 = .ok (.invokevirtual 61, 3) := by decide +kernel
theorem dx_law_law_362 : decode code 362 = .ok (.if_icmp .eq 129, 3) := by decide +kernel
theorem dx_law_law_365 : decode code 365 = .ok (.iconst 0, 1) := by decide +kernel
theorem dx_law_law_366 : decode code 366 = .ok (.ireturn, 1) := by decide +kernel
theorem dx_law_law_367 : decode code 367 = .ok (.aload_n 1, 1) := by decide +kernel
end
section
theorem dx_law_law_368 : decode code 368 = .ok (.invokevirtual 62, 3) := by decide +kernel
theorem dx_law_law_371 : decode code 371 = .ok (.aload_n 2, 1) := by decide +kernel
theorem dx_law_law_372 : decode code 372 = .ok (.invokevirtual 65, 3) := by decide +kernel
theorem dx_law_law_375 : decode code 375 = .ok (.if_icmp .eq 116, 3) := by decide +kernel
theorem dx_law_law_378 : decode code 378 = .ok (.iconst 0, 1) := by decide +kernel
theorem dx_law_law_379 : decode code 379 = .ok (.ireturn, 1) := by decide +kernel
theorem dx_law_law_380 : decode code 380 = .ok (.aload_n 1, 1) := by decide +kernel
theorem dx_law_law_381 : decode code 381 = .ok (.invokevirtual 66, 3) := by decide +kernel
theorem dx_law_law_384 : decode code 384 = .ok (.aload_n 2, 1) := by decide +kernel
theorem dx_law_law_385 : decode code 385 = .ok (.invokevirtual 69, 3) := by decide +kernel
theorem dx_law_law_388 : decode code 388 = .ok (.if_icmp .eq 103, 3) := by decide +kernel
theorem dx_law_law_391 : decode code 391 = .ok (.iconst 0, 1) := by decide +kernel
theorem dx_law_law_392 : decode code 392 = .ok (.ireturn, 1) := by decide +kernel
theorem dx_law_law_393 : decode code 393 = .ok (.aload_n 1, 1) := by decide +kernel
theorem dx_law_law_394 : decode code 394 = .ok (.aload_n 0, 1) := by decide +kernel
theorem dx_law_law_395 : decode code 395 = .ok (.iload_n 3, 1) := by decide +kernel
theorem dx_law_law_396 : decode code 396 = .ok (.iconst 1, 1) := by decide +kernel
theorem dx_law_law_397 : decode code 397 = .ok (.iadd, 1) := by decide +kernel
theorem dx_law_law_398 : decode code 398 = .ok (.iaload, 1) := by decide +kernel
theorem dx_law_law_399 : decode code 399 = .ok (.invokevirtual 70, 3) := by decide +kernel
theorem dx_law_law_402 : decode code 402 = .ok (.aload_n 2, 1) := by decide +kernel
theorem dx_law_law_403 : decode code 403 = .ok (.aload_n 0, 1) := by decide +kernel
theorem dx_law_law_404 : decode code 404 = .ok (.iload_n 3, 1) := by decide +kernel
theorem dx_law_law_405 : decode code 405 = .ok (.iconst 1, 1) := by decide +kernel
theorem dx_law_law_406 : decode code 406 = .ok (.iadd, 1) := by decide +kernel
theorem dx_law_law_407 : decode code 407 = .ok (.iaload, 1) := by decide +kernel
theorem dx_law_law_408 : decode code 408 = .ok (.invokevirtual 73, 3) := by decide +kernel
theorem dx_law_law_411 : decode code 411 = .ok (.if_icmp .eq 80, 3) := by decide +kernel
theorem dx_law_law_414 : decode code 414 = .ok (.iconst 0, 1) := by decide +kernel
theorem dx_law_law_415 : decode code 415 = .ok (.ireturn, 1) := by decide +kernel
theorem dx_law_law_416 : decode code 416 = .ok (.aload_n 1, 1) := by decide +kernel
theorem dx_law_law_417 : decode code 417 = .ok (.invokevirtual 74, 3) := by decide +kernel
theorem dx_law_law_420 : decode code 420 = .ok (.aload_n 2, 1) := by decide +kernel
theorem dx_law_law_421 : decode code 421 = .ok (.invokevirtual 77, 3) := by decide +kernel
theorem dx_law_law_424 : decode code 424 = .ok (.if_icmp .eq 67, 3) := by decide +kernel
theorem dx_law_law_427 : decode code 427 = .ok (.iconst 0, 1) := by decide +kernel
theorem dx_law_law_428 : decode code 428 = .ok (.ireturn, 1) := by decide +kernel
theorem dx_law_law_429 : decode code 429 = .ok (.aload_n 1, 1) := by decide +kernel
theorem dx_law_law_430 : decode code 430 = .ok (.invokevirtual 78, 3) := by decide +kernel
theorem dx_law_law_433 : decode code 433 = .ok (.aload_n 2, 1) := by decide +kernel
theorem dx_law_law_434 : decode code 434 = .ok (.invokevirtual 81, 3) := by decide +kernel
theorem dx_law_law_437 : decode code 437 = .ok (.if_icmp .eq 54, 3) := by decide +kernel
theorem dx_law_law_440 : decode code 440 = .ok (.iconst 0, 1) := by decide +kernel
theorem dx_law_law_441 : decode code 441 = .ok (.ireturn, 1) := by decide +kernel
theorem dx_law_law_442 : decode code 442 = .ok (.aload_n 1, 1) := by decide +kernel
theorem dx_law_law_443 : decode code 443 = .ok (.aload_n 0, 1) := by decide +kernel
theorem dx_law_law_444 : decode code 444 = .ok (.iload_n 3, 1) := by decide +kernel
theorem dx_law_law_445 : decode code 445 = .ok (.iconst 1, 1) := by decide +kernel
theorem dx_law_law_446 : decode code 446 = .ok (.iadd, 1) := by decide +kernel
theorem dx_law_law_447 : decode code 447 = .ok (.iaload, 1) := by decide +kernel
theorem dx_law_law_448 : decode code 448 = .ok (.invokevirtual 82, 3) := by decide +kernel
theorem dx_law_law_451 : decode code 451 = .ok (.aload_n 2, 1) := by decide +kernel
theorem dx_law_law_452 : decode code 452 = .ok (.aload_n 0, 1) := by decide +kernel
theorem dx_law_law_453 : decode code 453 = .ok (.iload_n 3, 1) := by decide +kernel
theorem dx_law_law_454 : decode code 454 = .ok (.iconst 1, 1) := by decide +kernel
theorem dx_law_law_455 : decode code 455 = .ok (.iadd, 1) := by decide +kernel
theorem dx_law_law_456 : decode code 456 = .ok (.iaload, 1) := by decide +kernel
theorem dx_law_law_457 : decode code 457 = .ok (.invokevirtual 85, 3) := by decide +kernel
theorem dx_law_law_460 : decode code 460 = .ok (.if_icmp .eq 31, 3) := by decide +kernel
theorem dx_law_law_463 : decode code 463 = .ok (.iconst 0, 1) := by decide +kernel
theorem dx_law_law_464 : decode code 464 = .ok (.ireturn, 1) := by decide +kernel
theorem dx_law_law_465 : decode code 465 = .ok (.aload_n 1, 1) := by decide +kernel
theorem dx_law_law_466 : decode code 466 = .ok (.invokevirtual 86, 3) := by decide +kernel
theorem dx_law_law_469 : decode code 469 = .ok (.aload_n 2, 1) := by decide +kernel
theorem dx_law_law_470 : decode code 470 = .ok (.invokevirtual 89, 3) := by decide +kernel
theorem dx_law_law_473 : decode code 473 = .ok (.if_icmp .eq 18, 3) := by decide +kernel
theorem dx_law_law_476 : decode code 476 = .ok (.iconst 0, 1) := by decide +kernel
theorem dx_law_law_477 : decode code 477 = .ok (.ireturn, 1) := by decide +kernel
theorem dx_law_law_478 : decode code 478 = .ok (.aload_n 1, 1) := by decide +kernel
theorem dx_law_law_479 : decode code 479 = .ok (.invokevirtual 90, 3) := by decide +kernel
theorem dx_law_law_482 : decode code 482 = .ok (.aload_n 2, 1) := by decide +kernel
theorem dx_law_law_483 : decode code 483 = .ok (.invokevirtual 93, 3) := by decide +kernel
theorem dx_law_law_486 : decode code 486 = .ok (.if_icmp .eq 5, 3) := by decide +kernel
theorem dx_law_law_489 : decode code 489 = .ok (.iconst 0, 1) := by decide +kernel
theorem dx_law_law_490 : decode code 490 = .ok (.ireturn, 1) := by decide +kernel
theorem dx_law_law_491 : decode code 491 = .ok (.iinc 3 5, 3) := by decide +kernel
theorem dx_law_law_494 : decode code 494 = .ok (.goto (-476), 3) := by decide +kernel
theorem dx_law_law_497 : decode code 497 = .ok (.iconst 1, 1) := by decide +kernel
theorem dx_law_law_498 : decode code 498 = .ok (.ireturn, 1) := by decide +kernel
end
section
theorem dx_M_init_0 : decode b_M_init 0 = .ok (.aload_n 0, 1) := by decide +kernel
theorem dx_M_init_1 : decode b_M_init 1 = .ok (.invokespecial 1, 3) := by decide +kernel
theorem dx_M_init_4 : decode b_M_init 4 = .ok (.aload_n 0, 1) := by decide +kernel
theorem dx_M_init_5 : decode b_M_init 5 = .ok (.bipush 48, 2) := by decide +kernel
theorem dx_M_init_7 : decode b_M_init 7 = .ok (.newarray .int, 2) := by decide +kernel
theorem dx_M_init_9 : decode b_M_init 9 = .ok (.putfield 7, 3) := by decide +kernel
theorem dx_M_init_12 : decode b_M_init 12 = .ok (.aload_n 0, 1) := by decide +kernel
theorem dx_M_init_13 : decode b_M_init 13 = .ok (.iconst (-1), 1) := by decide +kernel
theorem dx_M_init_14 : decode b_M_init 14 = .ok (.putfield 13, 3) := by decide +kernel
theorem dx_M_init_17 : decode b_M_init 17 = .ok (.return_, 1) := by decide +kernel
theorem dx_M_up_0 : decode b_M_up 0 = .ok (.aload_n 0, 1) := by decide +kernel
theorem dx_M_up_1 : decode b_M_up 1 = .ok (.getfield 17, 3) := by decide +kernel
theorem dx_M_up_4 : decode b_M_up 4 = .ok (.ifCond .eq 7, 3) := by decide +kernel
theorem dx_M_up_7 : decode b_M_up 7 = .ok (.iconst 0, 1) := by decide +kernel
theorem dx_M_up_8 : decode b_M_up 8 = .ok (.goto 4, 3) := by decide +kernel
theorem dx_M_up_11 : decode b_M_up 11 = .ok (.iconst 1, 1) := by decide +kernel
theorem dx_M_up_12 : decode b_M_up 12 = .ok (.ireturn, 1) := by decide +kernel
theorem dx_M_size_0 : decode b_M_size 0 = .ok (.aload_n 0, 1) := by decide +kernel
theorem dx_M_size_1 : decode b_M_size 1 = .ok (.getfield 21, 3) := by decide +kernel
theorem dx_M_size_4 : decode b_M_size 4 = .ok (.bipush 6, 2) := by decide +kernel
theorem dx_M_size_6 : decode b_M_size 6 = .ok (.if_icmp .ne 8, 3) := by decide +kernel
theorem dx_M_size_9 : decode b_M_size 9 = .ok (.bipush 48, 2) := by decide +kernel
theorem dx_M_size_11 : decode b_M_size 11 = .ok (.goto 5, 3) := by decide +kernel
theorem dx_M_size_14 : decode b_M_size 14 = .ok (.bipush 24, 2) := by decide +kernel
theorem dx_M_size_16 : decode b_M_size 16 = .ok (.ireturn, 1) := by decide +kernel
theorem dx_M_members_0 : decode b_M_members 0 = .ok (.aload_n 0, 1) := by decide +kernel
theorem dx_M_members_1 : decode b_M_members 1 = .ok (.getfield 24, 3) := by decide +kernel
theorem dx_M_members_4 : decode b_M_members 4 = .ok (.ifCond .eq 7, 3) := by decide +kernel
theorem dx_M_members_7 : decode b_M_members 7 = .ok (.iconst 5, 1) := by decide +kernel
theorem dx_M_members_8 : decode b_M_members 8 = .ok (.goto 4, 3) := by decide +kernel
theorem dx_M_members_11 : decode b_M_members 11 = .ok (.iconst 3, 1) := by decide +kernel
theorem dx_M_members_12 : decode b_M_members 12 = .ok (.ireturn, 1) := by decide +kernel
theorem dx_M_failed_0 : decode b_M_failed 0 = .ok (.aload_n 0, 1) := by decide +kernel
theorem dx_M_failed_1 : decode b_M_failed 1 = .ok (.getfield 13, 3) := by decide +kernel
theorem dx_M_failed_4 : decode b_M_failed 4 = .ok (.ireturn, 1) := by decide +kernel
theorem dx_M_growth_0 : decode b_M_growth 0 = .ok (.aload_n 0, 1) := by decide +kernel
theorem dx_M_growth_1 : decode b_M_growth 1 = .ok (.getfield 24, 3) := by decide +kernel
theorem dx_M_growth_4 : decode b_M_growth 4 = .ok (.ifCond .ne 5, 3) := by decide +kernel
theorem dx_M_growth_7 : decode b_M_growth 7 = .ok (.iconst 0, 1) := by decide +kernel
theorem dx_M_growth_8 : decode b_M_growth 8 = .ok (.ireturn, 1) := by decide +kernel
theorem dx_M_growth_9 : decode b_M_growth 9 = .ok (.aload_n 0, 1) := by decide +kernel
theorem dx_M_growth_10 : decode b_M_growth 10 = .ok (.getfield 21, 3) := by decide +kernel
theorem dx_M_growth_13 : decode b_M_growth 13 = .ok (.bipush 6, 2) := by decide +kernel
theorem dx_M_growth_15 : decode b_M_growth 15 = .ok (.if_icmp .ne 7, 3) := by decide +kernel
theorem dx_M_growth_18 : decode b_M_growth 18 = .ok (.iconst 2, 1) := by decide +kernel
theorem dx_M_growth_19 : decode b_M_growth 19 = .ok (.goto 4, 3) := by decide +kernel
theorem dx_M_growth_22 : decode b_M_growth 22 = .ok (.iconst 1, 1) := by decide +kernel
theorem dx_M_growth_23 : decode b_M_growth 23 = .ok (.ireturn, 1) := by decide +kernel
theorem dx_M_groups_0 : decode b_M_groups 0 = .ok (.aload_n 0, 1) := by decide +kernel
theorem dx_M_groups_1 : decode b_M_groups 1 = .ok (.getfield 21, 3) := by decide +kernel
theorem dx_M_groups_4 : decode b_M_groups 4 = .ok (.ireturn, 1) := by decide +kernel
theorem dx_M_noBlock_0 : decode b_M_noBlock 0 = .ok (.iload_n 1, 1) := by decide +kernel
theorem dx_M_noBlock_1 : decode b_M_noBlock 1 = .ok (.ifCond .lt 17, 3) := by decide +kernel
theorem dx_M_noBlock_4 : decode b_M_noBlock 4 = .ok (.iload_n 1, 1) := by decide +kernel
theorem dx_M_noBlock_5 : decode b_M_noBlock 5 = .ok (.aload_n 0, 1) := by decide +kernel
theorem dx_M_noBlock_6 : decode b_M_noBlock 6 = .ok (.invokevirtual 27, 3) := by decide +kernel
theorem dx_M_noBlock_9 : decode b_M_noBlock 9 = .ok (.if_icmp .ge 9, 3) := by decide +kernel
theorem dx_M_noBlock_12 : decode b_M_noBlock 12 = .ok (.iload_n 1, 1) := by decide +kernel
theorem dx_M_noBlock_13 : decode b_M_noBlock 13 = .ok (.bipush 48, 2) := by decide +kernel
theorem dx_M_noBlock_15 : decode b_M_noBlock 15 = .ok (.if_icmp .lt 7, 3) := by decide +kernel
theorem dx_M_noBlock_18 : decode b_M_noBlock 18 = .ok (.iconst 1, 1) := by decide +kernel
theorem dx_M_noBlock_19 : decode b_M_noBlock 19 = .ok (.goto 4, 3) := by decide +kernel
theorem dx_M_noBlock_22 : decode b_M_noBlock 22 = .ok (.iconst 0, 1) := by decide +kernel
theorem dx_M_noBlock_23 : decode b_M_noBlock 23 = .ok (.ireturn, 1) := by decide +kernel
theorem dx_M_read_0 : decode b_M_read 0 = .ok (.aload_n 0, 1) := by decide +kernel
theorem dx_M_read_1 : decode b_M_read 1 = .ok (.getfield 17, 3) := by decide +kernel
theorem dx_M_read_4 : decode b_M_read 4 = .ok (.ifCond .ne 11, 3) := by decide +kernel
theorem dx_M_read_7 : decode b_M_read 7 = .ok (.aload_n 0, 1) := by decide +kernel
theorem dx_M_read_8 : decode b_M_read 8 = .ok (.iload_n 1, 1) := by decide +kernel
theorem dx_M_read_9 : decode b_M_read 9 = .ok (.invokevirtual 31, 3) := by decide +kernel
theorem dx_M_read_12 : decode b_M_read 12 = .ok (.ifCond .eq 5, 3) := by decide +kernel
theorem dx_M_read_15 : decode b_M_read 15 = .ok (.iconst 0, 1) := by decide +kernel
theorem dx_M_read_16 : decode b_M_read 16 = .ok (.ireturn, 1) := by decide +kernel
theorem dx_M_read_17 : decode b_M_read 17 = .ok (.aload_n 0, 1) := by decide +kernel
theorem dx_M_read_18 : decode b_M_read 18 = .ok (.getfield 7, 3) := by decide +kernel
theorem dx_M_read_21 : decode b_M_read 21 = .ok (.iload_n 1, 1) := by decide +kernel
theorem dx_M_read_22 : decode b_M_read 22 = .ok (.iaload, 1) := by decide +kernel
theorem dx_M_read_23 : decode b_M_read 23 = .ok (.ireturn, 1) := by decide +kernel
theorem dx_M_sum_0 : decode b_M_sum 0 = .ok (.aload_n 0, 1) := by decide +kernel
theorem dx_M_sum_1 : decode b_M_sum 1 = .ok (.getfield 17, 3) := by decide +kernel
theorem dx_M_sum_4 : decode b_M_sum 4 = .ok (.ifCond .eq 5, 3) := by decide +kernel
theorem dx_M_sum_7 : decode b_M_sum 7 = .ok (.iconst 0, 1) := by decide +kernel
theorem dx_M_sum_8 : decode b_M_sum 8 = .ok (.ireturn, 1) := by decide +kernel
theorem dx_M_sum_9 : decode b_M_sum 9 = .ok (.iconst 0, 1) := by decide +kernel
theorem dx_M_sum_10 : decode b_M_sum 10 = .ok (.istore_n 1, 1) := by decide +kernel
theorem dx_M_sum_11 : decode b_M_sum 11 = .ok (.iconst 0, 1) := by decide +kernel
theorem dx_M_sum_12 : decode b_M_sum 12 = .ok (.istore_n 2, 1) := by decide +kernel
theorem dx_M_sum_13 : decode b_M_sum 13 = .ok (.iload_n 2, 1) := by decide +kernel
theorem dx_M_sum_14 : decode b_M_sum 14 = .ok (.aload_n 0, 1) := by decide +kernel
theorem dx_M_sum_15 : decode b_M_sum 15 = .ok (.invokevirtual 27, 3) := by decide +kernel
theorem dx_M_sum_18 : decode b_M_sum 18 = .ok (.if_icmp .ge 24, 3) := by decide +kernel
theorem dx_M_sum_21 : decode b_M_sum 21 = .ok (.iload_n 2, 1) := by decide +kernel
theorem dx_M_sum_22 : decode b_M_sum 22 = .ok (.bipush 48, 2) := by decide +kernel
theorem dx_M_sum_24 : decode b_M_sum 24 = .ok (.if_icmp .ge 18, 3) := by decide +kernel
theorem dx_M_sum_27 : decode b_M_sum 27 = .ok (.iload_n 1, 1) := by decide +kernel
theorem dx_M_sum_28 : decode b_M_sum 28 = .ok (.aload_n 0, 1) := by decide +kernel
theorem dx_M_sum_29 : decode b_M_sum 29 = .ok (.getfield 7, 3) := by decide +kernel
theorem dx_M_sum_32 : decode b_M_sum 32 = .ok (.iload_n 2, 1) := by decide +kernel
theorem dx_M_sum_33 : decode b_M_sum 33 = .ok (.iaload, 1) := by decide +kernel
theorem dx_M_sum_34 : decode b_M_sum 34 = .ok (.iadd, 1) := by decide +kernel
theorem dx_M_sum_35 : decode b_M_sum 35 = .ok (.istore_n 1, 1) := by decide +kernel
theorem dx_M_sum_36 : decode b_M_sum 36 = .ok (.iinc 2 1, 3) := by decide +kernel
theorem dx_M_sum_39 : decode b_M_sum 39 = .ok (.goto (-26), 3) := by decide +kernel
theorem dx_M_sum_42 : decode b_M_sum 42 = .ok (.iload_n 1, 1) := by decide +kernel
theorem dx_M_sum_43 : decode b_M_sum 43 = .ok (.ireturn, 1) := by decide +kernel
theorem dx_M_write_0 : decode b_M_write 0 = .ok (.aload_n 0, 1) := by decide +kernel
theorem dx_M_write_1 : decode b_M_write 1 = .ok (.getfield 17, 3) := by decide +kernel
theorem dx_M_write_4 : decode b_M_write 4 = .ok (.ifCond .eq 5, 3) := by decide +kernel
theorem dx_M_write_7 : decode b_M_write 7 = .ok (.iconst (-1), 1) := by decide +kernel
theorem dx_M_write_8 : decode b_M_write 8 = .ok (.ireturn, 1) := by decide +kernel
theorem dx_M_write_9 : decode b_M_write 9 = .ok (.aload_n 0, 1) := by decide +kernel
theorem dx_M_write_10 : decode b_M_write 10 = .ok (.iload_n 1, 1) := by decide +kernel
theorem dx_M_write_11 : decode b_M_write 11 = .ok (.invokevirtual 31, 3) := by decide +kernel
theorem dx_M_write_14 : decode b_M_write 14 = .ok (.ifCond .eq 6, 3) := by decide +kernel
theorem dx_M_write_17 : decode b_M_write 17 = .ok (.bipush (-2), 2) := by decide +kernel
theorem dx_M_write_19 : decode b_M_write 19 = .ok (.ireturn, 1) := by decide +kernel
theorem dx_M_write_20 : decode b_M_write 20 = .ok (.aload_n 0, 1) := by decide +kernel
theorem dx_M_write_21 : decode b_M_write 21 = .ok (.getfield 7, 3) := by decide +kernel
theorem dx_M_write_24 : decode b_M_write 24 = .ok (.iload_n 1, 1) := by decide +kernel
theorem dx_M_write_25 : decode b_M_write 25 = .ok (.iload_n 2, 1) := by decide +kernel
theorem dx_M_write_26 : decode b_M_write 26 = .ok (.iastore, 1) := by decide +kernel
theorem dx_M_write_27 : decode b_M_write 27 = .ok (.iconst 0, 1) := by decide +kernel
theorem dx_M_write_28 : decode b_M_write 28 = .ok (.ireturn, 1) := by decide +kernel
theorem dx_M_fill_0 : decode b_M_fill 0 = .ok (.aload_n 0, 1) := by decide +kernel
theorem dx_M_fill_1 : decode b_M_fill 1 = .ok (.getfield 17, 3) := by decide +kernel
theorem dx_M_fill_4 : decode b_M_fill 4 = .ok (.ifCond .eq 5, 3) := by decide +kernel
theorem dx_M_fill_7 : decode b_M_fill 7 = .ok (.iconst (-1), 1) := by decide +kernel
theorem dx_M_fill_8 : decode b_M_fill 8 = .ok (.ireturn, 1) := by decide +kernel
theorem dx_M_fill_9 : decode b_M_fill 9 = .ok (.iload_n 2, 1) := by decide +kernel
theorem dx_M_fill_10 : decode b_M_fill 10 = .ok (.iconst 1, 1) := by decide +kernel
theorem dx_M_fill_11 : decode b_M_fill 11 = .ok (.if_icmp .lt 9, 3) := by decide +kernel
theorem dx_M_fill_14 : decode b_M_fill 14 = .ok (.iload_n 2, 1) := by decide +kernel
theorem dx_M_fill_15 : decode b_M_fill 15 = .ok (.bipush 24, 2) := by decide +kernel
theorem dx_M_fill_17 : decode b_M_fill 17 = .ok (.if_icmp .le 6, 3) := by decide +kernel
theorem dx_M_fill_20 : decode b_M_fill 20 = .ok (.bipush (-2), 2) := by decide +kernel
theorem dx_M_fill_22 : decode b_M_fill 22 = .ok (.ireturn, 1) := by decide +kernel
theorem dx_M_fill_23 : decode b_M_fill 23 = .ok (.iload_n 1, 1) := by decide +kernel
theorem dx_M_fill_24 : decode b_M_fill 24 = .ok (.ifCond .lt 13, 3) := by decide +kernel
theorem dx_M_fill_27 : decode b_M_fill 27 = .ok (.iload_n 1, 1) := by decide +kernel
theorem dx_M_fill_28 : decode b_M_fill 28 = .ok (.aload_n 0, 1) := by decide +kernel
theorem dx_M_fill_29 : decode b_M_fill 29 = .ok (.invokevirtual 27, 3) := by decide +kernel
theorem dx_M_fill_32 : decode b_M_fill 32 = .ok (.iload_n 2, 1) := by decide +kernel
theorem dx_M_fill_33 : decode b_M_fill 33 = .ok (.isub, 1) := by decide +kernel
theorem dx_M_fill_34 : decode b_M_fill 34 = .ok (.if_icmp .le 6, 3) := by decide +kernel
theorem dx_M_fill_37 : decode b_M_fill 37 = .ok (.bipush (-3), 2) := by decide +kernel
theorem dx_M_fill_39 : decode b_M_fill 39 = .ok (.ireturn, 1) := by decide +kernel
theorem dx_M_fill_40 : decode b_M_fill 40 = .ok (.iconst 0, 1) := by decide +kernel
theorem dx_M_fill_41 : decode b_M_fill 41 = .ok (.istore 5, 2) := by decide +kernel
theorem dx_M_fill_43 : decode b_M_fill 43 = .ok (.iload 5, 2) := by decide +kernel
theorem dx_M_fill_45 : decode b_M_fill 45 = .ok (.bipush 48, 2) := by decide +kernel
theorem dx_M_fill_47 : decode b_M_fill 47 = .ok (.if_icmp .ge 39, 3) := by decide +kernel
theorem dx_M_fill_50 : decode b_M_fill 50 = .ok (.iload 5, 2) := by decide +kernel
theorem dx_M_fill_52 : decode b_M_fill 52 = .ok (.iload_n 1, 1) := by decide +kernel
theorem dx_M_fill_53 : decode b_M_fill 53 = .ok (.if_icmp .lt 27, 3) := by decide +kernel
theorem dx_M_fill_56 : decode b_M_fill 56 = .ok (.iload 5, 2) := by decide +kernel
theorem dx_M_fill_58 : decode b_M_fill 58 = .ok (.iload_n 1, 1) := by decide +kernel
theorem dx_M_fill_59 : decode b_M_fill 59 = .ok (.iload_n 2, 1) := by decide +kernel
theorem dx_M_fill_60 : decode b_M_fill 60 = .ok (.iadd, 1) := by decide +kernel
theorem dx_M_fill_61 : decode b_M_fill 61 = .ok (.if_icmp .ge 19, 3) := by decide +kernel
theorem dx_M_fill_64 : decode b_M_fill 64 = .ok (.aload_n 0, 1) := by decide +kernel
theorem dx_M_fill_65 : decode b_M_fill 65 = .ok (.getfield 7, 3) := by decide +kernel
theorem dx_M_fill_68 : decode b_M_fill 68 = .ok (.iload 5, 2) := by decide +kernel
theorem dx_M_fill_70 : decode b_M_fill 70 = .ok (.iload_n 3, 1) := by decide +kernel
theorem dx_M_fill_71 : decode b_M_fill 71 = .ok (.iload 4, 2) := by decide +kernel
theorem dx_M_fill_73 : decode b_M_fill 73 = .ok (.iload 5, 2) := by decide +kernel
theorem dx_M_fill_75 : decode b_M_fill 75 = .ok (.iload_n 1, 1) := by decide +kernel
theorem dx_M_fill_76 : decode b_M_fill 76 = .ok (.isub, 1) := by decide +kernel
theorem dx_M_fill_77 : decode b_M_fill 77 = .ok (.imul, 1) := by decide +kernel
theorem dx_M_fill_78 : decode b_M_fill 78 = .ok (.iadd, 1) := by decide +kernel
theorem dx_M_fill_79 : decode b_M_fill 79 = .ok (.iastore, 1) := by decide +kernel
theorem dx_M_fill_80 : decode b_M_fill 80 = .ok (.iinc 5 1, 3) := by decide +kernel
theorem dx_M_fill_83 : decode b_M_fill 83 = .ok (.goto (-40), 3) := by decide +kernel
theorem dx_M_fill_86 : decode b_M_fill 86 = .ok (.iconst 0, 1) := by decide +kernel
theorem dx_M_fill_87 : decode b_M_fill 87 = .ok (.ireturn, 1) := by decide +kernel
theorem dx_M_writeCrash_0 : decode b_M_writeCrash 0 = .ok (.aload_n 0, 1) := by decide +kernel
theorem dx_M_writeCrash_1 : decode b_M_writeCrash 1 = .ok (.getfield 17, 3) := by decide +kernel
theorem dx_M_writeCrash_4 : decode b_M_writeCrash 4 = .ok (.ifCond .eq 5, 3) := by decide +kernel
theorem dx_M_writeCrash_7 : decode b_M_writeCrash 7 = .ok (.iconst (-1), 1) := by decide +kernel
theorem dx_M_writeCrash_8 : decode b_M_writeCrash 8 = .ok (.ireturn, 1) := by decide +kernel
theorem dx_M_writeCrash_9 : decode b_M_writeCrash 9 = .ok (.aload_n 0, 1) := by decide +kernel
theorem dx_M_writeCrash_10 : decode b_M_writeCrash 10 = .ok (.iload_n 1, 1) := by decide +kernel
theorem dx_M_writeCrash_11 : decode b_M_writeCrash 11 = .ok (.invokevirtual 31, 3) := by decide +kernel
theorem dx_M_writeCrash_14 : decode b_M_writeCrash 14 = .ok (.ifCond .eq 6, 3) := by decide +kernel
theorem dx_M_writeCrash_17 : decode b_M_writeCrash 17 = .ok (.bipush (-2), 2) := by decide +kernel
theorem dx_M_writeCrash_19 : decode b_M_writeCrash 19 = .ok (.ireturn, 1) := by decide +kernel
theorem dx_M_writeCrash_20 : decode b_M_writeCrash 20 = .ok (.iload_n 3, 1) := by decide +kernel
theorem dx_M_writeCrash_21 : decode b_M_writeCrash 21 = .ok (.ifCond .lt 8, 3) := by decide +kernel
theorem dx_M_writeCrash_24 : decode b_M_writeCrash 24 = .ok (.iload_n 3, 1) := by decide +kernel
theorem dx_M_writeCrash_25 : decode b_M_writeCrash 25 = .ok (.iconst 3, 1) := by decide +kernel
theorem dx_M_writeCrash_26 : decode b_M_writeCrash 26 = .ok (.if_icmp .le 6, 3) := by decide +kernel
theorem dx_M_writeCrash_29 : decode b_M_writeCrash 29 = .ok (.bipush (-3), 2) := by decide +kernel
theorem dx_M_writeCrash_31 : decode b_M_writeCrash 31 = .ok (.ireturn, 1) := by decide +kernel
theorem dx_M_writeCrash_32 : decode b_M_writeCrash 32 = .ok (.aload_n 0, 1) := by decide +kernel
theorem dx_M_writeCrash_33 : decode b_M_writeCrash 33 = .ok (.getfield 13, 3) := by decide +kernel
theorem dx_M_writeCrash_36 : decode b_M_writeCrash 36 = .ok (.ifCond .lt 6, 3) := by decide +kernel
theorem dx_M_writeCrash_39 : decode b_M_writeCrash 39 = .ok (.bipush (-4), 2) := by decide +kernel
theorem dx_M_writeCrash_41 : decode b_M_writeCrash 41 = .ok (.ireturn, 1) := by decide +kernel
theorem dx_M_writeCrash_42 : decode b_M_writeCrash 42 = .ok (.iload_n 3, 1) := by decide +kernel
theorem dx_M_writeCrash_43 : decode b_M_writeCrash 43 = .ok (.ifCond .le 10, 3) := by decide +kernel
theorem dx_M_writeCrash_46 : decode b_M_writeCrash 46 = .ok (.aload_n 0, 1) := by decide +kernel
theorem dx_M_writeCrash_47 : decode b_M_writeCrash 47 = .ok (.getfield 7, 3) := by decide +kernel
theorem dx_M_writeCrash_50 : decode b_M_writeCrash 50 = .ok (.iload_n 1, 1) := by decide +kernel
theorem dx_M_writeCrash_51 : decode b_M_writeCrash 51 = .ok (.iload_n 2, 1) := by decide +kernel
theorem dx_M_writeCrash_52 : decode b_M_writeCrash 52 = .ok (.iastore, 1) := by decide +kernel
theorem dx_M_writeCrash_53 : decode b_M_writeCrash 53 = .ok (.aload_n 0, 1) := by decide +kernel
theorem dx_M_writeCrash_54 : decode b_M_writeCrash 54 = .ok (.iconst 1, 1) := by decide +kernel
theorem dx_M_writeCrash_55 : decode b_M_writeCrash 55 = .ok (.putfield 17, 3) := by decide +kernel
theorem dx_M_writeCrash_58 : decode b_M_writeCrash 58 = .ok (.iconst 0, 1) := by decide +kernel
theorem dx_M_writeCrash_59 : decode b_M_writeCrash 59 = .ok (.ireturn, 1) := by decide +kernel
theorem dx_M_begin_0 : decode b_M_begin 0 = .ok (.aload_n 0, 1) := by decide +kernel
theorem dx_M_begin_1 : decode b_M_begin 1 = .ok (.getfield 17, 3) := by decide +kernel
theorem dx_M_begin_4 : decode b_M_begin 4 = .ok (.ifCond .eq 5, 3) := by decide +kernel
theorem dx_M_begin_7 : decode b_M_begin 7 = .ok (.iconst (-1), 1) := by decide +kernel
theorem dx_M_begin_8 : decode b_M_begin 8 = .ok (.ireturn, 1) := by decide +kernel
theorem dx_M_begin_9 : decode b_M_begin 9 = .ok (.aload_n 0, 1) := by decide +kernel
theorem dx_M_begin_10 : decode b_M_begin 10 = .ok (.getfield 24, 3) := by decide +kernel
theorem dx_M_begin_13 : decode b_M_begin 13 = .ok (.ifCond .eq 6, 3) := by decide +kernel
theorem dx_M_begin_16 : decode b_M_begin 16 = .ok (.bipush (-2), 2) := by decide +kernel
theorem dx_M_begin_18 : decode b_M_begin 18 = .ok (.ireturn, 1) := by decide +kernel
theorem dx_M_begin_19 : decode b_M_begin 19 = .ok (.aload_n 0, 1) := by decide +kernel
theorem dx_M_begin_20 : decode b_M_begin 20 = .ok (.getfield 13, 3) := by decide +kernel
theorem dx_M_begin_23 : decode b_M_begin 23 = .ok (.ifCond .lt 6, 3) := by decide +kernel
theorem dx_M_begin_26 : decode b_M_begin 26 = .ok (.bipush (-3), 2) := by decide +kernel
theorem dx_M_begin_28 : decode b_M_begin 28 = .ok (.ireturn, 1) := by decide +kernel
theorem dx_M_begin_29 : decode b_M_begin 29 = .ok (.aload_n 0, 1) := by decide +kernel
theorem dx_M_begin_30 : decode b_M_begin 30 = .ok (.iconst 1, 1) := by decide +kernel
theorem dx_M_begin_31 : decode b_M_begin 31 = .ok (.putfield 24, 3) := by decide +kernel
theorem dx_M_begin_34 : decode b_M_begin 34 = .ok (.iconst 0, 1) := by decide +kernel
theorem dx_M_begin_35 : decode b_M_begin 35 = .ok (.ireturn, 1) := by decide +kernel
theorem dx_M_move_0 : decode b_M_move 0 = .ok (.aload_n 0, 1) := by decide +kernel
theorem dx_M_move_1 : decode b_M_move 1 = .ok (.dup, 1) := by decide +kernel
theorem dx_M_move_2 : decode b_M_move 2 = .ok (.getfield 21, 3) := by decide +kernel
theorem dx_M_move_5 : decode b_M_move 5 = .ok (.iconst 1, 1) := by decide +kernel
theorem dx_M_move_6 : decode b_M_move 6 = .ok (.iadd, 1) := by decide +kernel
theorem dx_M_move_7 : decode b_M_move 7 = .ok (.putfield 21, 3) := by decide +kernel
theorem dx_M_move_10 : decode b_M_move 10 = .ok (.aload_n 0, 1) := by decide +kernel
theorem dx_M_move_11 : decode b_M_move 11 = .ok (.getfield 21, 3) := by decide +kernel
theorem dx_M_move_14 : decode b_M_move 14 = .ok (.bipush 6, 2) := by decide +kernel
theorem dx_M_move_16 : decode b_M_move 16 = .ok (.if_icmp .ne 25, 3) := by decide +kernel
theorem dx_M_move_19 : decode b_M_move 19 = .ok (.bipush 24, 2) := by decide +kernel
theorem dx_M_move_21 : decode b_M_move 21 = .ok (.istore_n 1, 1) := by decide +kernel
theorem dx_M_move_22 : decode b_M_move 22 = .ok (.iload_n 1, 1) := by decide +kernel
theorem dx_M_move_23 : decode b_M_move 23 = .ok (.bipush 48, 2) := by decide +kernel
theorem dx_M_move_25 : decode b_M_move 25 = .ok (.if_icmp .ge 16, 3) := by decide +kernel
theorem dx_M_move_28 : decode b_M_move 28 = .ok (.aload_n 0, 1) := by decide +kernel
theorem dx_M_move_29 : decode b_M_move 29 = .ok (.getfield 7, 3) := by decide +kernel
theorem dx_M_move_32 : decode b_M_move 32 = .ok (.iload_n 1, 1) := by decide +kernel
theorem dx_M_move_33 : decode b_M_move 33 = .ok (.iconst 0, 1) := by decide +kernel
theorem dx_M_move_34 : decode b_M_move 34 = .ok (.iastore, 1) := by decide +kernel
theorem dx_M_move_35 : decode b_M_move 35 = .ok (.iinc 1 1, 3) := by decide +kernel
theorem dx_M_move_38 : decode b_M_move 38 = .ok (.goto (-16), 3) := by decide +kernel
theorem dx_M_move_41 : decode b_M_move 41 = .ok (.return_, 1) := by decide +kernel
theorem dx_M_step_0 : decode b_M_step 0 = .ok (.aload_n 0, 1) := by decide +kernel
theorem dx_M_step_1 : decode b_M_step 1 = .ok (.getfield 17, 3) := by decide +kernel
theorem dx_M_step_4 : decode b_M_step 4 = .ok (.ifCond .eq 5, 3) := by decide +kernel
theorem dx_M_step_7 : decode b_M_step 7 = .ok (.iconst (-1), 1) := by decide +kernel
theorem dx_M_step_8 : decode b_M_step 8 = .ok (.ireturn, 1) := by decide +kernel
theorem dx_M_step_9 : decode b_M_step 9 = .ok (.aload_n 0, 1) := by decide +kernel
theorem dx_M_step_10 : decode b_M_step 10 = .ok (.invokevirtual 35, 3) := by decide +kernel
theorem dx_M_step_13 : decode b_M_step 13 = .ok (.iconst 1, 1) := by decide +kernel
theorem dx_M_step_14 : decode b_M_step 14 = .ok (.if_icmp .eq 6, 3) := by decide +kernel
theorem dx_M_step_17 : decode b_M_step 17 = .ok (.bipush (-2), 2) := by decide +kernel
theorem dx_M_step_19 : decode b_M_step 19 = .ok (.ireturn, 1) := by decide +kernel
theorem dx_M_step_20 : decode b_M_step 20 = .ok (.aload_n 0, 1) := by decide +kernel
theorem dx_M_step_21 : decode b_M_step 21 = .ok (.invokevirtual 38, 3) := by decide +kernel
theorem dx_M_step_24 : decode b_M_step 24 = .ok (.aload_n 0, 1) := by decide +kernel
theorem dx_M_step_25 : decode b_M_step 25 = .ok (.getfield 21, 3) := by decide +kernel
theorem dx_M_step_28 : decode b_M_step 28 = .ok (.ireturn, 1) := by decide +kernel
theorem dx_M_stepCrash_0 : decode b_M_stepCrash 0 = .ok (.aload_n 0, 1) := by decide +kernel
theorem dx_M_stepCrash_1 : decode b_M_stepCrash 1 = .ok (.getfield 17, 3) := by decide +kernel
theorem dx_M_stepCrash_4 : decode b_M_stepCrash 4 = .ok (.ifCond .eq 5, 3) := by decide +kernel
theorem dx_M_stepCrash_7 : decode b_M_stepCrash 7 = .ok (.iconst (-1), 1) := by decide +kernel
theorem dx_M_stepCrash_8 : decode b_M_stepCrash 8 = .ok (.ireturn, 1) := by decide +kernel
theorem dx_M_stepCrash_9 : decode b_M_stepCrash 9 = .ok (.aload_n 0, 1) := by decide +kernel
theorem dx_M_stepCrash_10 : decode b_M_stepCrash 10 = .ok (.invokevirtual 35, 3) := by decide +kernel
theorem dx_M_stepCrash_13 : decode b_M_stepCrash 13 = .ok (.iconst 1, 1) := by decide +kernel
theorem dx_M_stepCrash_14 : decode b_M_stepCrash 14 = .ok (.if_icmp .eq 6, 3) := by decide +kernel
theorem dx_M_stepCrash_17 : decode b_M_stepCrash 17 = .ok (.bipush (-2), 2) := by decide +kernel
theorem dx_M_stepCrash_19 : decode b_M_stepCrash 19 = .ok (.ireturn, 1) := by decide +kernel
theorem dx_M_stepCrash_20 : decode b_M_stepCrash 20 = .ok (.iload_n 1, 1) := by decide +kernel
theorem dx_M_stepCrash_21 : decode b_M_stepCrash 21 = .ok (.ifCond .lt 8, 3) := by decide +kernel
theorem dx_M_stepCrash_24 : decode b_M_stepCrash 24 = .ok (.iload_n 1, 1) := by decide +kernel
theorem dx_M_stepCrash_25 : decode b_M_stepCrash 25 = .ok (.iconst 4, 1) := by decide +kernel
theorem dx_M_stepCrash_26 : decode b_M_stepCrash 26 = .ok (.if_icmp .le 6, 3) := by decide +kernel
theorem dx_M_stepCrash_29 : decode b_M_stepCrash 29 = .ok (.bipush (-3), 2) := by decide +kernel
theorem dx_M_stepCrash_31 : decode b_M_stepCrash 31 = .ok (.ireturn, 1) := by decide +kernel
theorem dx_M_stepCrash_32 : decode b_M_stepCrash 32 = .ok (.iload_n 1, 1) := by decide +kernel
theorem dx_M_stepCrash_33 : decode b_M_stepCrash 33 = .ok (.iconst 4, 1) := by decide +kernel
theorem dx_M_stepCrash_34 : decode b_M_stepCrash 34 = .ok (.if_icmp .ne 7, 3) := by decide +kernel
theorem dx_M_stepCrash_37 : decode b_M_stepCrash 37 = .ok (.aload_n 0, 1) := by decide +kernel
theorem dx_M_stepCrash_38 : decode b_M_stepCrash 38 = .ok (.invokevirtual 38, 3) := by decide +kernel
theorem dx_M_stepCrash_41 : decode b_M_stepCrash 41 = .ok (.aload_n 0, 1) := by decide +kernel
theorem dx_M_stepCrash_42 : decode b_M_stepCrash 42 = .ok (.iconst 1, 1) := by decide +kernel
theorem dx_M_stepCrash_43 : decode b_M_stepCrash 43 = .ok (.putfield 17, 3) := by decide +kernel
theorem dx_M_stepCrash_46 : decode b_M_stepCrash 46 = .ok (.aload_n 0, 1) := by decide +kernel
theorem dx_M_stepCrash_47 : decode b_M_stepCrash 47 = .ok (.getfield 21, 3) := by decide +kernel
theorem dx_M_stepCrash_50 : decode b_M_stepCrash 50 = .ok (.ireturn, 1) := by decide +kernel
theorem dx_M_crash_0 : decode b_M_crash 0 = .ok (.aload_n 0, 1) := by decide +kernel
theorem dx_M_crash_1 : decode b_M_crash 1 = .ok (.getfield 17, 3) := by decide +kernel
theorem dx_M_crash_4 : decode b_M_crash 4 = .ok (.ifCond .eq 5, 3) := by decide +kernel
theorem dx_M_crash_7 : decode b_M_crash 7 = .ok (.iconst (-1), 1) := by decide +kernel
theorem dx_M_crash_8 : decode b_M_crash 8 = .ok (.ireturn, 1) := by decide +kernel
theorem dx_M_crash_9 : decode b_M_crash 9 = .ok (.aload_n 0, 1) := by decide +kernel
theorem dx_M_crash_10 : decode b_M_crash 10 = .ok (.iconst 1, 1) := by decide +kernel
theorem dx_M_crash_11 : decode b_M_crash 11 = .ok (.putfield 17, 3) := by decide +kernel
theorem dx_M_crash_14 : decode b_M_crash 14 = .ok (.iconst 0, 1) := by decide +kernel
theorem dx_M_crash_15 : decode b_M_crash 15 = .ok (.ireturn, 1) := by decide +kernel
theorem dx_M_mount_0 : decode b_M_mount 0 = .ok (.aload_n 0, 1) := by decide +kernel
theorem dx_M_mount_1 : decode b_M_mount 1 = .ok (.getfield 17, 3) := by decide +kernel
theorem dx_M_mount_4 : decode b_M_mount 4 = .ok (.ifCond .ne 5, 3) := by decide +kernel
theorem dx_M_mount_7 : decode b_M_mount 7 = .ok (.iconst (-1), 1) := by decide +kernel
theorem dx_M_mount_8 : decode b_M_mount 8 = .ok (.ireturn, 1) := by decide +kernel
theorem dx_M_mount_9 : decode b_M_mount 9 = .ok (.aload_n 0, 1) := by decide +kernel
theorem dx_M_mount_10 : decode b_M_mount 10 = .ok (.iconst 0, 1) := by decide +kernel
theorem dx_M_mount_11 : decode b_M_mount 11 = .ok (.putfield 17, 3) := by decide +kernel
theorem dx_M_mount_14 : decode b_M_mount 14 = .ok (.iconst 0, 1) := by decide +kernel
theorem dx_M_mount_15 : decode b_M_mount 15 = .ok (.ireturn, 1) := by decide +kernel
theorem dx_M_fail_0 : decode b_M_fail 0 = .ok (.aload_n 0, 1) := by decide +kernel
theorem dx_M_fail_1 : decode b_M_fail 1 = .ok (.getfield 17, 3) := by decide +kernel
theorem dx_M_fail_4 : decode b_M_fail 4 = .ok (.ifCond .eq 5, 3) := by decide +kernel
theorem dx_M_fail_7 : decode b_M_fail 7 = .ok (.iconst (-1), 1) := by decide +kernel
theorem dx_M_fail_8 : decode b_M_fail 8 = .ok (.ireturn, 1) := by decide +kernel
theorem dx_M_fail_9 : decode b_M_fail 9 = .ok (.iload_n 1, 1) := by decide +kernel
theorem dx_M_fail_10 : decode b_M_fail 10 = .ok (.ifCond .lt 11, 3) := by decide +kernel
theorem dx_M_fail_13 : decode b_M_fail 13 = .ok (.iload_n 1, 1) := by decide +kernel
theorem dx_M_fail_14 : decode b_M_fail 14 = .ok (.aload_n 0, 1) := by decide +kernel
theorem dx_M_fail_15 : decode b_M_fail 15 = .ok (.invokevirtual 41, 3) := by decide +kernel
theorem dx_M_fail_18 : decode b_M_fail 18 = .ok (.if_icmp .lt 6, 3) := by decide +kernel
theorem dx_M_fail_21 : decode b_M_fail 21 = .ok (.bipush (-2), 2) := by decide +kernel
theorem dx_M_fail_23 : decode b_M_fail 23 = .ok (.ireturn, 1) := by decide +kernel
theorem dx_M_fail_24 : decode b_M_fail 24 = .ok (.aload_n 0, 1) := by decide +kernel
theorem dx_M_fail_25 : decode b_M_fail 25 = .ok (.getfield 13, 3) := by decide +kernel
theorem dx_M_fail_28 : decode b_M_fail 28 = .ok (.ifCond .lt 6, 3) := by decide +kernel
theorem dx_M_fail_31 : decode b_M_fail 31 = .ok (.bipush (-3), 2) := by decide +kernel
theorem dx_M_fail_33 : decode b_M_fail 33 = .ok (.ireturn, 1) := by decide +kernel
theorem dx_M_fail_34 : decode b_M_fail 34 = .ok (.aload_n 0, 1) := by decide +kernel
theorem dx_M_fail_35 : decode b_M_fail 35 = .ok (.iload_n 1, 1) := by decide +kernel
theorem dx_M_fail_36 : decode b_M_fail 36 = .ok (.putfield 13, 3) := by decide +kernel
theorem dx_M_fail_39 : decode b_M_fail 39 = .ok (.iconst 0, 1) := by decide +kernel
theorem dx_M_fail_40 : decode b_M_fail 40 = .ok (.ireturn, 1) := by decide +kernel
theorem dx_M_replace_0 : decode b_M_replace 0 = .ok (.aload_n 0, 1) := by decide +kernel
theorem dx_M_replace_1 : decode b_M_replace 1 = .ok (.getfield 17, 3) := by decide +kernel
theorem dx_M_replace_4 : decode b_M_replace 4 = .ok (.ifCond .eq 5, 3) := by decide +kernel
theorem dx_M_replace_7 : decode b_M_replace 7 = .ok (.iconst (-1), 1) := by decide +kernel
theorem dx_M_replace_8 : decode b_M_replace 8 = .ok (.ireturn, 1) := by decide +kernel
theorem dx_M_replace_9 : decode b_M_replace 9 = .ok (.aload_n 0, 1) := by decide +kernel
theorem dx_M_replace_10 : decode b_M_replace 10 = .ok (.getfield 13, 3) := by decide +kernel
theorem dx_M_replace_13 : decode b_M_replace 13 = .ok (.ifCond .ge 6, 3) := by decide +kernel
theorem dx_M_replace_16 : decode b_M_replace 16 = .ok (.bipush (-2), 2) := by decide +kernel
theorem dx_M_replace_18 : decode b_M_replace 18 = .ok (.ireturn, 1) := by decide +kernel
theorem dx_M_replace_19 : decode b_M_replace 19 = .ok (.aload_n 0, 1) := by decide +kernel
theorem dx_M_replace_20 : decode b_M_replace 20 = .ok (.getfield 13, 3) := by decide +kernel
theorem dx_M_replace_23 : decode b_M_replace 23 = .ok (.istore_n 1, 1) := by decide +kernel
theorem dx_M_replace_24 : decode b_M_replace 24 = .ok (.aload_n 0, 1) := by decide +kernel
theorem dx_M_replace_25 : decode b_M_replace 25 = .ok (.iconst (-1), 1) := by decide +kernel
theorem dx_M_replace_26 : decode b_M_replace 26 = .ok (.putfield 13, 3) := by decide +kernel
theorem dx_M_replace_29 : decode b_M_replace 29 = .ok (.iload_n 1, 1) := by decide +kernel
theorem dx_M_replace_30 : decode b_M_replace 30 = .ok (.ireturn, 1) := by decide +kernel
theorem dx_M_scrub_0 : decode b_M_scrub 0 = .ok (.aload_n 0, 1) := by decide +kernel
theorem dx_M_scrub_1 : decode b_M_scrub 1 = .ok (.getfield 17, 3) := by decide +kernel
theorem dx_M_scrub_4 : decode b_M_scrub 4 = .ok (.ifCond .eq 5, 3) := by decide +kernel
theorem dx_M_scrub_7 : decode b_M_scrub 7 = .ok (.iconst (-1), 1) := by decide +kernel
theorem dx_M_scrub_8 : decode b_M_scrub 8 = .ok (.ireturn, 1) := by decide +kernel
theorem dx_M_scrub_9 : decode b_M_scrub 9 = .ok (.aload_n 0, 1) := by decide +kernel
theorem dx_M_scrub_10 : decode b_M_scrub 10 = .ok (.getfield 13, 3) := by decide +kernel
theorem dx_M_scrub_13 : decode b_M_scrub 13 = .ok (.ifCond .lt 6, 3) := by decide +kernel
theorem dx_M_scrub_16 : decode b_M_scrub 16 = .ok (.bipush (-2), 2) := by decide +kernel
theorem dx_M_scrub_18 : decode b_M_scrub 18 = .ok (.ireturn, 1) := by decide +kernel
theorem dx_M_scrub_19 : decode b_M_scrub 19 = .ok (.iconst 0, 1) := by decide +kernel
theorem dx_M_scrub_20 : decode b_M_scrub 20 = .ok (.ireturn, 1) := by decide +kernel
end
section
theorem dx_X_init_0 : decode b_X_init 0 = .ok (.aload_n 0, 1) := by decide +kernel
theorem dx_X_init_1 : decode b_X_init 1 = .ok (.invokespecial 1, 3) := by decide +kernel
theorem dx_X_init_4 : decode b_X_init 4 = .ok (.aload_n 0, 1) := by decide +kernel
theorem dx_X_init_5 : decode b_X_init 5 = .ok (.bipush 80, 2) := by decide +kernel
theorem dx_X_init_7 : decode b_X_init 7 = .ok (.newarray .int, 2) := by decide +kernel
theorem dx_X_init_9 : decode b_X_init 9 = .ok (.putfield 7, 3) := by decide +kernel
theorem dx_X_init_12 : decode b_X_init 12 = .ok (.aload_n 0, 1) := by decide +kernel
theorem dx_X_init_13 : decode b_X_init 13 = .ok (.iconst 4, 1) := by decide +kernel
theorem dx_X_init_14 : decode b_X_init 14 = .ok (.newarray .int, 2) := by decide +kernel
theorem dx_X_init_16 : decode b_X_init 16 = .ok (.putfield 13, 3) := by decide +kernel
theorem dx_X_init_19 : decode b_X_init 19 = .ok (.aload_n 0, 1) := by decide +kernel
theorem dx_X_init_20 : decode b_X_init 20 = .ok (.iconst 1, 1) := by decide +kernel
theorem dx_X_init_21 : decode b_X_init 21 = .ok (.putfield 16, 3) := by decide +kernel
theorem dx_X_init_24 : decode b_X_init 24 = .ok (.aload_n 0, 1) := by decide +kernel
theorem dx_X_init_25 : decode b_X_init 25 = .ok (.iconst (-1), 1) := by decide +kernel
theorem dx_X_init_26 : decode b_X_init 26 = .ok (.putfield 20, 3) := by decide +kernel
theorem dx_X_init_29 : decode b_X_init 29 = .ok (.aload_n 0, 1) := by decide +kernel
theorem dx_X_init_30 : decode b_X_init 30 = .ok (.iconst (-1), 1) := by decide +kernel
theorem dx_X_init_31 : decode b_X_init 31 = .ok (.putfield 24, 3) := by decide +kernel
theorem dx_X_init_34 : decode b_X_init 34 = .ok (.return_, 1) := by decide +kernel
theorem dx_X_up_0 : decode b_X_up 0 = .ok (.aload_n 0, 1) := by decide +kernel
theorem dx_X_up_1 : decode b_X_up 1 = .ok (.getfield 16, 3) := by decide +kernel
theorem dx_X_up_4 : decode b_X_up 4 = .ok (.ifCond .eq 7, 3) := by decide +kernel
theorem dx_X_up_7 : decode b_X_up 7 = .ok (.iconst 1, 1) := by decide +kernel
theorem dx_X_up_8 : decode b_X_up 8 = .ok (.goto 4, 3) := by decide +kernel
theorem dx_X_up_11 : decode b_X_up 11 = .ok (.iconst 0, 1) := by decide +kernel
theorem dx_X_up_12 : decode b_X_up 12 = .ok (.ireturn, 1) := by decide +kernel
theorem dx_X_size_0 : decode b_X_size 0 = .ok (.aload_n 0, 1) := by decide +kernel
theorem dx_X_size_1 : decode b_X_size 1 = .ok (.getfield 27, 3) := by decide +kernel
theorem dx_X_size_4 : decode b_X_size 4 = .ok (.bipush 6, 2) := by decide +kernel
theorem dx_X_size_6 : decode b_X_size 6 = .ok (.if_icmp .ne 8, 3) := by decide +kernel
theorem dx_X_size_9 : decode b_X_size 9 = .ok (.bipush 48, 2) := by decide +kernel
theorem dx_X_size_11 : decode b_X_size 11 = .ok (.goto 5, 3) := by decide +kernel
theorem dx_X_size_14 : decode b_X_size 14 = .ok (.bipush 24, 2) := by decide +kernel
theorem dx_X_size_16 : decode b_X_size 16 = .ok (.ireturn, 1) := by decide +kernel
theorem dx_X_members_0 : decode b_X_members 0 = .ok (.aload_n 0, 1) := by decide +kernel
theorem dx_X_members_1 : decode b_X_members 1 = .ok (.getfield 30, 3) := by decide +kernel
theorem dx_X_members_4 : decode b_X_members 4 = .ok (.ifCond .ne 7, 3) := by decide +kernel
theorem dx_X_members_7 : decode b_X_members 7 = .ok (.iconst 3, 1) := by decide +kernel
theorem dx_X_members_8 : decode b_X_members 8 = .ok (.goto 4, 3) := by decide +kernel
theorem dx_X_members_11 : decode b_X_members 11 = .ok (.iconst 5, 1) := by decide +kernel
theorem dx_X_members_12 : decode b_X_members 12 = .ok (.ireturn, 1) := by decide +kernel
theorem dx_X_failed_0 : decode b_X_failed 0 = .ok (.aload_n 0, 1) := by decide +kernel
theorem dx_X_failed_1 : decode b_X_failed 1 = .ok (.getfield 20, 3) := by decide +kernel
theorem dx_X_failed_4 : decode b_X_failed 4 = .ok (.ireturn, 1) := by decide +kernel
theorem dx_X_growth_0 : decode b_X_growth 0 = .ok (.aload_n 0, 1) := by decide +kernel
theorem dx_X_growth_1 : decode b_X_growth 1 = .ok (.getfield 27, 3) := by decide +kernel
theorem dx_X_growth_4 : decode b_X_growth 4 = .ok (.bipush 6, 2) := by decide +kernel
theorem dx_X_growth_6 : decode b_X_growth 6 = .ok (.if_icmp .ne 7, 3) := by decide +kernel
theorem dx_X_growth_9 : decode b_X_growth 9 = .ok (.iconst 2, 1) := by decide +kernel
theorem dx_X_growth_10 : decode b_X_growth 10 = .ok (.goto 7, 3) := by decide +kernel
theorem dx_X_growth_13 : decode b_X_growth 13 = .ok (.aload_n 0, 1) := by decide +kernel
theorem dx_X_growth_14 : decode b_X_growth 14 = .ok (.getfield 30, 3) := by decide +kernel
theorem dx_X_growth_17 : decode b_X_growth 17 = .ok (.ireturn, 1) := by decide +kernel
theorem dx_X_groups_0 : decode b_X_groups 0 = .ok (.aload_n 0, 1) := by decide +kernel
theorem dx_X_groups_1 : decode b_X_groups 1 = .ok (.getfield 27, 3) := by decide +kernel
theorem dx_X_groups_4 : decode b_X_groups 4 = .ok (.ireturn, 1) := by decide +kernel
theorem dx_X_read_0 : decode b_X_read 0 = .ok (.aload_n 0, 1) := by decide +kernel
theorem dx_X_read_1 : decode b_X_read 1 = .ok (.getfield 16, 3) := by decide +kernel
theorem dx_X_read_4 : decode b_X_read 4 = .ok (.ifCond .eq 11, 3) := by decide +kernel
theorem dx_X_read_7 : decode b_X_read 7 = .ok (.aload_n 0, 1) := by decide +kernel
theorem dx_X_read_8 : decode b_X_read 8 = .ok (.iload_n 1, 1) := by decide +kernel
theorem dx_X_read_9 : decode b_X_read 9 = .ok (.invokevirtual 33, 3) := by decide +kernel
theorem dx_X_read_12 : decode b_X_read 12 = .ok (.ifCond .ne 5, 3) := by decide +kernel
theorem dx_X_read_15 : decode b_X_read 15 = .ok (.iconst 0, 1) := by decide +kernel
theorem dx_X_read_16 : decode b_X_read 16 = .ok (.ireturn, 1) := by decide +kernel
theorem dx_X_read_17 : decode b_X_read 17 = .ok (.aload_n 0, 1) := by decide +kernel
theorem dx_X_read_18 : decode b_X_read 18 = .ok (.iload_n 1, 1) := by decide +kernel
theorem dx_X_read_19 : decode b_X_read 19 = .ok (.invokevirtual 37, 3) := by decide +kernel
theorem dx_X_read_22 : decode b_X_read 22 = .ok (.ireturn, 1) := by decide +kernel
theorem dx_X_sum_0 : decode b_X_sum 0 = .ok (.aload_n 0, 1) := by decide +kernel
theorem dx_X_sum_1 : decode b_X_sum 1 = .ok (.getfield 16, 3) := by decide +kernel
theorem dx_X_sum_4 : decode b_X_sum 4 = .ok (.ifCond .ne 5, 3) := by decide +kernel
theorem dx_X_sum_7 : decode b_X_sum 7 = .ok (.iconst 0, 1) := by decide +kernel
theorem dx_X_sum_8 : decode b_X_sum 8 = .ok (.ireturn, 1) := by decide +kernel
theorem dx_X_sum_9 : decode b_X_sum 9 = .ok (.iconst 0, 1) := by decide +kernel
theorem dx_X_sum_10 : decode b_X_sum 10 = .ok (.istore_n 1, 1) := by decide +kernel
theorem dx_X_sum_11 : decode b_X_sum 11 = .ok (.aload_n 0, 1) := by decide +kernel
theorem dx_X_sum_12 : decode b_X_sum 12 = .ok (.invokevirtual 41, 3) := by decide +kernel
theorem dx_X_sum_15 : decode b_X_sum 15 = .ok (.istore_n 2, 1) := by decide +kernel
theorem dx_X_sum_16 : decode b_X_sum 16 = .ok (.iconst 0, 1) := by decide +kernel
theorem dx_X_sum_17 : decode b_X_sum 17 = .ok (.istore_n 3, 1) := by decide +kernel
theorem dx_X_sum_18 : decode b_X_sum 18 = .ok (.iload_n 3, 1) := by decide +kernel
theorem dx_X_sum_19 : decode b_X_sum 19 = .ok (.iload_n 2, 1) := by decide +kernel
theorem dx_X_sum_20 : decode b_X_sum 20 = .ok (.if_icmp .ge 17, 3) := by decide +kernel
theorem dx_X_sum_23 : decode b_X_sum 23 = .ok (.iload_n 1, 1) := by decide +kernel
theorem dx_X_sum_24 : decode b_X_sum 24 = .ok (.aload_n 0, 1) := by decide +kernel
theorem dx_X_sum_25 : decode b_X_sum 25 = .ok (.iload_n 3, 1) := by decide +kernel
theorem dx_X_sum_26 : decode b_X_sum 26 = .ok (.invokevirtual 37, 3) := by decide +kernel
theorem dx_X_sum_29 : decode b_X_sum 29 = .ok (.iadd, 1) := by decide +kernel
theorem dx_X_sum_30 : decode b_X_sum 30 = .ok (.istore_n 1, 1) := by decide +kernel
theorem dx_X_sum_31 : decode b_X_sum 31 = .ok (.iinc 3 1, 3) := by decide +kernel
theorem dx_X_sum_34 : decode b_X_sum 34 = .ok (.goto (-16), 3) := by decide +kernel
theorem dx_X_sum_37 : decode b_X_sum 37 = .ok (.iload_n 1, 1) := by decide +kernel
theorem dx_X_sum_38 : decode b_X_sum 38 = .ok (.ireturn, 1) := by decide +kernel
theorem dx_X_write_0 : decode b_X_write 0 = .ok (.aload_n 0, 1) := by decide +kernel
theorem dx_X_write_1 : decode b_X_write 1 = .ok (.getfield 16, 3) := by decide +kernel
theorem dx_X_write_4 : decode b_X_write 4 = .ok (.ifCond .ne 5, 3) := by decide +kernel
theorem dx_X_write_7 : decode b_X_write 7 = .ok (.iconst (-1), 1) := by decide +kernel
theorem dx_X_write_8 : decode b_X_write 8 = .ok (.ireturn, 1) := by decide +kernel
theorem dx_X_write_9 : decode b_X_write 9 = .ok (.aload_n 0, 1) := by decide +kernel
theorem dx_X_write_10 : decode b_X_write 10 = .ok (.iload_n 1, 1) := by decide +kernel
theorem dx_X_write_11 : decode b_X_write 11 = .ok (.invokevirtual 33, 3) := by decide +kernel
theorem dx_X_write_14 : decode b_X_write 14 = .ok (.ifCond .ne 6, 3) := by decide +kernel
theorem dx_X_write_17 : decode b_X_write 17 = .ok (.bipush (-2), 2) := by decide +kernel
theorem dx_X_write_19 : decode b_X_write 19 = .ok (.ireturn, 1) := by decide +kernel
theorem dx_X_write_20 : decode b_X_write 20 = .ok (.aload_n 0, 1) := by decide +kernel
theorem dx_X_write_21 : decode b_X_write 21 = .ok (.iload_n 1, 1) := by decide +kernel
theorem dx_X_write_22 : decode b_X_write 22 = .ok (.iload_n 2, 1) := by decide +kernel
theorem dx_X_write_23 : decode b_X_write 23 = .ok (.iconst 3, 1) := by decide +kernel
theorem dx_X_write_24 : decode b_X_write 24 = .ok (.invokevirtual 45, 3) := by decide +kernel
theorem dx_X_write_27 : decode b_X_write 27 = .ok (.iconst 0, 1) := by decide +kernel
theorem dx_X_write_28 : decode b_X_write 28 = .ok (.ireturn, 1) := by decide +kernel
theorem dx_X_fill_0 : decode b_X_fill 0 = .ok (.aload_n 0, 1) := by decide +kernel
theorem dx_X_fill_1 : decode b_X_fill 1 = .ok (.getfield 16, 3) := by decide +kernel
theorem dx_X_fill_4 : decode b_X_fill 4 = .ok (.ifCond .ne 5, 3) := by decide +kernel
theorem dx_X_fill_7 : decode b_X_fill 7 = .ok (.iconst (-1), 1) := by decide +kernel
theorem dx_X_fill_8 : decode b_X_fill 8 = .ok (.ireturn, 1) := by decide +kernel
theorem dx_X_fill_9 : decode b_X_fill 9 = .ok (.iload_n 2, 1) := by decide +kernel
theorem dx_X_fill_10 : decode b_X_fill 10 = .ok (.iconst 1, 1) := by decide +kernel
theorem dx_X_fill_11 : decode b_X_fill 11 = .ok (.if_icmp .lt 9, 3) := by decide +kernel
theorem dx_X_fill_14 : decode b_X_fill 14 = .ok (.iload_n 2, 1) := by decide +kernel
theorem dx_X_fill_15 : decode b_X_fill 15 = .ok (.bipush 24, 2) := by decide +kernel
theorem dx_X_fill_17 : decode b_X_fill 17 = .ok (.if_icmp .le 6, 3) := by decide +kernel
theorem dx_X_fill_20 : decode b_X_fill 20 = .ok (.bipush (-2), 2) := by decide +kernel
theorem dx_X_fill_22 : decode b_X_fill 22 = .ok (.ireturn, 1) := by decide +kernel
theorem dx_X_fill_23 : decode b_X_fill 23 = .ok (.aload_n 0, 1) := by decide +kernel
theorem dx_X_fill_24 : decode b_X_fill 24 = .ok (.invokevirtual 41, 3) := by decide +kernel
theorem dx_X_fill_27 : decode b_X_fill 27 = .ok (.istore 5, 2) := by decide +kernel
theorem dx_X_fill_29 : decode b_X_fill 29 = .ok (.iload_n 1, 1) := by decide +kernel
theorem dx_X_fill_30 : decode b_X_fill 30 = .ok (.ifCond .lt 11, 3) := by decide +kernel
theorem dx_X_fill_33 : decode b_X_fill 33 = .ok (.iload_n 1, 1) := by decide +kernel
theorem dx_X_fill_34 : decode b_X_fill 34 = .ok (.iload 5, 2) := by decide +kernel
theorem dx_X_fill_36 : decode b_X_fill 36 = .ok (.iload_n 2, 1) := by decide +kernel
theorem dx_X_fill_37 : decode b_X_fill 37 = .ok (.isub, 1) := by decide +kernel
theorem dx_X_fill_38 : decode b_X_fill 38 = .ok (.if_icmp .le 6, 3) := by decide +kernel
theorem dx_X_fill_41 : decode b_X_fill 41 = .ok (.bipush (-3), 2) := by decide +kernel
theorem dx_X_fill_43 : decode b_X_fill 43 = .ok (.ireturn, 1) := by decide +kernel
theorem dx_X_fill_44 : decode b_X_fill 44 = .ok (.iconst 0, 1) := by decide +kernel
theorem dx_X_fill_45 : decode b_X_fill 45 = .ok (.istore 6, 2) := by decide +kernel
theorem dx_X_fill_47 : decode b_X_fill 47 = .ok (.iload 6, 2) := by decide +kernel
theorem dx_X_fill_49 : decode b_X_fill 49 = .ok (.iload_n 2, 1) := by decide +kernel
theorem dx_X_fill_50 : decode b_X_fill 50 = .ok (.if_icmp .ge 25, 3) := by decide +kernel
theorem dx_X_fill_53 : decode b_X_fill 53 = .ok (.aload_n 0, 1) := by decide +kernel
theorem dx_X_fill_54 : decode b_X_fill 54 = .ok (.iload_n 1, 1) := by decide +kernel
theorem dx_X_fill_55 : decode b_X_fill 55 = .ok (.iload 6, 2) := by decide +kernel
theorem dx_X_fill_57 : decode b_X_fill 57 = .ok (.iadd, 1) := by decide +kernel
theorem dx_X_fill_58 : decode b_X_fill 58 = .ok (.iload_n 3, 1) := by decide +kernel
theorem dx_X_fill_59 : decode b_X_fill 59 = .ok (.iload 6, 2) := by decide +kernel
theorem dx_X_fill_61 : decode b_X_fill 61 = .ok (.iload 4, 2) := by decide +kernel
theorem dx_X_fill_63 : decode b_X_fill 63 = .ok (.imul, 1) := by decide +kernel
theorem dx_X_fill_64 : decode b_X_fill 64 = .ok (.iadd, 1) := by decide +kernel
theorem dx_X_fill_65 : decode b_X_fill 65 = .ok (.iconst 3, 1) := by decide +kernel
theorem dx_X_fill_66 : decode b_X_fill 66 = .ok (.invokevirtual 45, 3) := by decide +kernel
theorem dx_X_fill_69 : decode b_X_fill 69 = .ok (.iinc 6 1, 3) := by decide +kernel
theorem dx_X_fill_72 : decode b_X_fill 72 = .ok (.goto (-25), 3) := by decide +kernel
theorem dx_X_fill_75 : decode b_X_fill 75 = .ok (.iconst 0, 1) := by decide +kernel
theorem dx_X_fill_76 : decode b_X_fill 76 = .ok (.ireturn, 1) := by decide +kernel
theorem dx_X_writeCrash_0 : decode b_X_writeCrash 0 = .ok (.aload_n 0, 1) := by decide +kernel
theorem dx_X_writeCrash_1 : decode b_X_writeCrash 1 = .ok (.getfield 16, 3) := by decide +kernel
theorem dx_X_writeCrash_4 : decode b_X_writeCrash 4 = .ok (.ifCond .ne 5, 3) := by decide +kernel
theorem dx_X_writeCrash_7 : decode b_X_writeCrash 7 = .ok (.iconst (-1), 1) := by decide +kernel
theorem dx_X_writeCrash_8 : decode b_X_writeCrash 8 = .ok (.ireturn, 1) := by decide +kernel
theorem dx_X_writeCrash_9 : decode b_X_writeCrash 9 = .ok (.aload_n 0, 1) := by decide +kernel
theorem dx_X_writeCrash_10 : decode b_X_writeCrash 10 = .ok (.iload_n 1, 1) := by decide +kernel
theorem dx_X_writeCrash_11 : decode b_X_writeCrash 11 = .ok (.invokevirtual 33, 3) := by decide +kernel
theorem dx_X_writeCrash_14 : decode b_X_writeCrash 14 = .ok (.ifCond .ne 6, 3) := by decide +kernel
theorem dx_X_writeCrash_17 : decode b_X_writeCrash 17 = .ok (.bipush (-2), 2) := by decide +kernel
theorem dx_X_writeCrash_19 : decode b_X_writeCrash 19 = .ok (.ireturn, 1) := by decide +kernel
theorem dx_X_writeCrash_20 : decode b_X_writeCrash 20 = .ok (.iload_n 3, 1) := by decide +kernel
theorem dx_X_writeCrash_21 : decode b_X_writeCrash 21 = .ok (.ifCond .lt 8, 3) := by decide +kernel
theorem dx_X_writeCrash_24 : decode b_X_writeCrash 24 = .ok (.iload_n 3, 1) := by decide +kernel
theorem dx_X_writeCrash_25 : decode b_X_writeCrash 25 = .ok (.iconst 3, 1) := by decide +kernel
theorem dx_X_writeCrash_26 : decode b_X_writeCrash 26 = .ok (.if_icmp .le 6, 3) := by decide +kernel
theorem dx_X_writeCrash_29 : decode b_X_writeCrash 29 = .ok (.bipush (-3), 2) := by decide +kernel
theorem dx_X_writeCrash_31 : decode b_X_writeCrash 31 = .ok (.ireturn, 1) := by decide +kernel
theorem dx_X_writeCrash_32 : decode b_X_writeCrash 32 = .ok (.aload_n 0, 1) := by decide +kernel
theorem dx_X_writeCrash_33 : decode b_X_writeCrash 33 = .ok (.getfield 20, 3) := by decide +kernel
theorem dx_X_writeCrash_36 : decode b_X_writeCrash 36 = .ok (.iconst (-1), 1) := by decide +kernel
theorem dx_X_writeCrash_37 : decode b_X_writeCrash 37 = .ok (.if_icmp .eq 6, 3) := by decide +kernel
theorem dx_X_writeCrash_40 : decode b_X_writeCrash 40 = .ok (.bipush (-4), 2) := by decide +kernel
theorem dx_X_writeCrash_42 : decode b_X_writeCrash 42 = .ok (.ireturn, 1) := by decide +kernel
theorem dx_X_writeCrash_43 : decode b_X_writeCrash 43 = .ok (.aload_n 0, 1) := by decide +kernel
theorem dx_X_writeCrash_44 : decode b_X_writeCrash 44 = .ok (.iload_n 1, 1) := by decide +kernel
theorem dx_X_writeCrash_45 : decode b_X_writeCrash 45 = .ok (.iload_n 2, 1) := by decide +kernel
theorem dx_X_writeCrash_46 : decode b_X_writeCrash 46 = .ok (.iload_n 3, 1) := by decide +kernel
theorem dx_X_writeCrash_47 : decode b_X_writeCrash 47 = .ok (.invokevirtual 45, 3) := by decide +kernel
theorem dx_X_writeCrash_50 : decode b_X_writeCrash 50 = .ok (.aload_n 0, 1) := by decide +kernel
theorem dx_X_writeCrash_51 : decode b_X_writeCrash 51 = .ok (.iconst 0, 1) := by decide +kernel
theorem dx_X_writeCrash_52 : decode b_X_writeCrash 52 = .ok (.putfield 16, 3) := by decide +kernel
theorem dx_X_writeCrash_55 : decode b_X_writeCrash 55 = .ok (.iconst 0, 1) := by decide +kernel
theorem dx_X_writeCrash_56 : decode b_X_writeCrash 56 = .ok (.ireturn, 1) := by decide +kernel
theorem dx_X_begin_0 : decode b_X_begin 0 = .ok (.aload_n 0, 1) := by decide +kernel
theorem dx_X_begin_1 : decode b_X_begin 1 = .ok (.getfield 16, 3) := by decide +kernel
theorem dx_X_begin_4 : decode b_X_begin 4 = .ok (.ifCond .ne 5, 3) := by decide +kernel
theorem dx_X_begin_7 : decode b_X_begin 7 = .ok (.iconst (-1), 1) := by decide +kernel
theorem dx_X_begin_8 : decode b_X_begin 8 = .ok (.ireturn, 1) := by decide +kernel
theorem dx_X_begin_9 : decode b_X_begin 9 = .ok (.aload_n 0, 1) := by decide +kernel
theorem dx_X_begin_10 : decode b_X_begin 10 = .ok (.getfield 30, 3) := by decide +kernel
theorem dx_X_begin_13 : decode b_X_begin 13 = .ok (.ifCond .eq 6, 3) := by decide +kernel
theorem dx_X_begin_16 : decode b_X_begin 16 = .ok (.bipush (-2), 2) := by decide +kernel
theorem dx_X_begin_18 : decode b_X_begin 18 = .ok (.ireturn, 1) := by decide +kernel
theorem dx_X_begin_19 : decode b_X_begin 19 = .ok (.aload_n 0, 1) := by decide +kernel
theorem dx_X_begin_20 : decode b_X_begin 20 = .ok (.getfield 20, 3) := by decide +kernel
theorem dx_X_begin_23 : decode b_X_begin 23 = .ok (.iconst (-1), 1) := by decide +kernel
theorem dx_X_begin_24 : decode b_X_begin 24 = .ok (.if_icmp .eq 6, 3) := by decide +kernel
theorem dx_X_begin_27 : decode b_X_begin 27 = .ok (.bipush (-3), 2) := by decide +kernel
theorem dx_X_begin_29 : decode b_X_begin 29 = .ok (.ireturn, 1) := by decide +kernel
theorem dx_X_begin_30 : decode b_X_begin 30 = .ok (.aload_n 0, 1) := by decide +kernel
theorem dx_X_begin_31 : decode b_X_begin 31 = .ok (.iconst 1, 1) := by decide +kernel
theorem dx_X_begin_32 : decode b_X_begin 32 = .ok (.putfield 30, 3) := by decide +kernel
theorem dx_X_begin_35 : decode b_X_begin 35 = .ok (.aload_n 0, 1) := by decide +kernel
theorem dx_X_begin_36 : decode b_X_begin 36 = .ok (.iconst 0, 1) := by decide +kernel
theorem dx_X_begin_37 : decode b_X_begin 37 = .ok (.putfield 27, 3) := by decide +kernel
theorem dx_X_begin_40 : decode b_X_begin 40 = .ok (.iconst 0, 1) := by decide +kernel
theorem dx_X_begin_41 : decode b_X_begin 41 = .ok (.ireturn, 1) := by decide +kernel
theorem dx_X_step_0 : decode b_X_step 0 = .ok (.aload_n 0, 1) := by decide +kernel
theorem dx_X_step_1 : decode b_X_step 1 = .ok (.getfield 16, 3) := by decide +kernel
theorem dx_X_step_4 : decode b_X_step 4 = .ok (.ifCond .ne 5, 3) := by decide +kernel
theorem dx_X_step_7 : decode b_X_step 7 = .ok (.iconst (-1), 1) := by decide +kernel
theorem dx_X_step_8 : decode b_X_step 8 = .ok (.ireturn, 1) := by decide +kernel
theorem dx_X_step_9 : decode b_X_step 9 = .ok (.aload_n 0, 1) := by decide +kernel
theorem dx_X_step_10 : decode b_X_step 10 = .ok (.getfield 30, 3) := by decide +kernel
theorem dx_X_step_13 : decode b_X_step 13 = .ok (.iconst 1, 1) := by decide +kernel
theorem dx_X_step_14 : decode b_X_step 14 = .ok (.if_icmp .ne 12, 3) := by decide +kernel
theorem dx_X_step_17 : decode b_X_step 17 = .ok (.aload_n 0, 1) := by decide +kernel
theorem dx_X_step_18 : decode b_X_step 18 = .ok (.getfield 27, 3) := by decide +kernel
theorem dx_X_step_21 : decode b_X_step 21 = .ok (.bipush 6, 2) := by decide +kernel
theorem dx_X_step_23 : decode b_X_step 23 = .ok (.if_icmp .ne 6, 3) := by decide +kernel
theorem dx_X_step_26 : decode b_X_step 26 = .ok (.bipush (-2), 2) := by decide +kernel
theorem dx_X_step_28 : decode b_X_step 28 = .ok (.ireturn, 1) := by decide +kernel
theorem dx_X_step_29 : decode b_X_step 29 = .ok (.aload_n 0, 1) := by decide +kernel
theorem dx_X_step_30 : decode b_X_step 30 = .ok (.iconst 5, 1) := by decide +kernel
theorem dx_X_step_31 : decode b_X_step 31 = .ok (.invokevirtual 49, 3) := by decide +kernel
theorem dx_X_step_34 : decode b_X_step 34 = .ok (.aload_n 0, 1) := by decide +kernel
theorem dx_X_step_35 : decode b_X_step 35 = .ok (.getfield 27, 3) := by decide +kernel
theorem dx_X_step_38 : decode b_X_step 38 = .ok (.ireturn, 1) := by decide +kernel
theorem dx_X_stepCrash_0 : decode b_X_stepCrash 0 = .ok (.aload_n 0, 1) := by decide +kernel
theorem dx_X_stepCrash_1 : decode b_X_stepCrash 1 = .ok (.getfield 16, 3) := by decide +kernel
theorem dx_X_stepCrash_4 : decode b_X_stepCrash 4 = .ok (.ifCond .ne 5, 3) := by decide +kernel
theorem dx_X_stepCrash_7 : decode b_X_stepCrash 7 = .ok (.iconst (-1), 1) := by decide +kernel
theorem dx_X_stepCrash_8 : decode b_X_stepCrash 8 = .ok (.ireturn, 1) := by decide +kernel
theorem dx_X_stepCrash_9 : decode b_X_stepCrash 9 = .ok (.aload_n 0, 1) := by decide +kernel
theorem dx_X_stepCrash_10 : decode b_X_stepCrash 10 = .ok (.getfield 30, 3) := by decide +kernel
theorem dx_X_stepCrash_13 : decode b_X_stepCrash 13 = .ok (.iconst 1, 1) := by decide +kernel
theorem dx_X_stepCrash_14 : decode b_X_stepCrash 14 = .ok (.if_icmp .ne 12, 3) := by decide +kernel
theorem dx_X_stepCrash_17 : decode b_X_stepCrash 17 = .ok (.aload_n 0, 1) := by decide +kernel
theorem dx_X_stepCrash_18 : decode b_X_stepCrash 18 = .ok (.getfield 27, 3) := by decide +kernel
theorem dx_X_stepCrash_21 : decode b_X_stepCrash 21 = .ok (.bipush 6, 2) := by decide +kernel
theorem dx_X_stepCrash_23 : decode b_X_stepCrash 23 = .ok (.if_icmp .ne 6, 3) := by decide +kernel
theorem dx_X_stepCrash_26 : decode b_X_stepCrash 26 = .ok (.bipush (-2), 2) := by decide +kernel
theorem dx_X_stepCrash_28 : decode b_X_stepCrash 28 = .ok (.ireturn, 1) := by decide +kernel
theorem dx_X_stepCrash_29 : decode b_X_stepCrash 29 = .ok (.iload_n 1, 1) := by decide +kernel
theorem dx_X_stepCrash_30 : decode b_X_stepCrash 30 = .ok (.ifCond .lt 8, 3) := by decide +kernel
theorem dx_X_stepCrash_33 : decode b_X_stepCrash 33 = .ok (.iload_n 1, 1) := by decide +kernel
theorem dx_X_stepCrash_34 : decode b_X_stepCrash 34 = .ok (.iconst 4, 1) := by decide +kernel
theorem dx_X_stepCrash_35 : decode b_X_stepCrash 35 = .ok (.if_icmp .le 6, 3) := by decide +kernel
theorem dx_X_stepCrash_38 : decode b_X_stepCrash 38 = .ok (.bipush (-3), 2) := by decide +kernel
theorem dx_X_stepCrash_40 : decode b_X_stepCrash 40 = .ok (.ireturn, 1) := by decide +kernel
theorem dx_X_stepCrash_41 : decode b_X_stepCrash 41 = .ok (.aload_n 0, 1) := by decide +kernel
theorem dx_X_stepCrash_42 : decode b_X_stepCrash 42 = .ok (.iload_n 1, 1) := by decide +kernel
theorem dx_X_stepCrash_43 : decode b_X_stepCrash 43 = .ok (.invokevirtual 49, 3) := by decide +kernel
theorem dx_X_stepCrash_46 : decode b_X_stepCrash 46 = .ok (.aload_n 0, 1) := by decide +kernel
theorem dx_X_stepCrash_47 : decode b_X_stepCrash 47 = .ok (.iconst 0, 1) := by decide +kernel
theorem dx_X_stepCrash_48 : decode b_X_stepCrash 48 = .ok (.putfield 16, 3) := by decide +kernel
theorem dx_X_stepCrash_51 : decode b_X_stepCrash 51 = .ok (.aload_n 0, 1) := by decide +kernel
theorem dx_X_stepCrash_52 : decode b_X_stepCrash 52 = .ok (.getfield 27, 3) := by decide +kernel
theorem dx_X_stepCrash_55 : decode b_X_stepCrash 55 = .ok (.ireturn, 1) := by decide +kernel
theorem dx_X_crash_0 : decode b_X_crash 0 = .ok (.aload_n 0, 1) := by decide +kernel
theorem dx_X_crash_1 : decode b_X_crash 1 = .ok (.getfield 16, 3) := by decide +kernel
theorem dx_X_crash_4 : decode b_X_crash 4 = .ok (.ifCond .ne 5, 3) := by decide +kernel
theorem dx_X_crash_7 : decode b_X_crash 7 = .ok (.iconst (-1), 1) := by decide +kernel
theorem dx_X_crash_8 : decode b_X_crash 8 = .ok (.ireturn, 1) := by decide +kernel
theorem dx_X_crash_9 : decode b_X_crash 9 = .ok (.aload_n 0, 1) := by decide +kernel
theorem dx_X_crash_10 : decode b_X_crash 10 = .ok (.iconst 0, 1) := by decide +kernel
theorem dx_X_crash_11 : decode b_X_crash 11 = .ok (.putfield 16, 3) := by decide +kernel
theorem dx_X_crash_14 : decode b_X_crash 14 = .ok (.iconst 0, 1) := by decide +kernel
theorem dx_X_crash_15 : decode b_X_crash 15 = .ok (.ireturn, 1) := by decide +kernel
end
section
theorem dx_X_mount_0 : decode b_X_mount 0 = .ok (.aload_n 0, 1) := by decide +kernel
theorem dx_X_mount_1 : decode b_X_mount 1 = .ok (.getfield 16, 3) := by decide +kernel
theorem dx_X_mount_4 : decode b_X_mount 4 = .ok (.ifCond .eq 5, 3) := by decide +kernel
theorem dx_X_mount_7 : decode b_X_mount 7 = .ok (.iconst (-1), 1) := by decide +kernel
theorem dx_X_mount_8 : decode b_X_mount 8 = .ok (.ireturn, 1) := by decide +kernel
theorem dx_X_mount_9 : decode b_X_mount 9 = .ok (.aload_n 0, 1) := by decide +kernel
theorem dx_X_mount_10 : decode b_X_mount 10 = .ok (.getfield 24, 3) := by decide +kernel
theorem dx_X_mount_13 : decode b_X_mount 13 = .ok (.iconst (-1), 1) := by decide +kernel
theorem dx_X_mount_14 : decode b_X_mount 14 = .ok (.if_icmp .eq 34, 3) := by decide +kernel
theorem dx_X_mount_17 : decode b_X_mount 17 = .ok (.aload_n 0, 1) := by decide +kernel
theorem dx_X_mount_18 : decode b_X_mount 18 = .ok (.aload_n 0, 1) := by decide +kernel
theorem dx_X_mount_19 : decode b_X_mount 19 = .ok (.getfield 24, 3) := by decide +kernel
theorem dx_X_mount_22 : decode b_X_mount 22 = .ok (.invokevirtual 53, 3) := by decide +kernel
theorem dx_X_mount_25 : decode b_X_mount 25 = .ok (.istore_n 1, 1) := by decide +kernel
theorem dx_X_mount_26 : decode b_X_mount 26 = .ok (.aload_n 0, 1) := by decide +kernel
theorem dx_X_mount_27 : decode b_X_mount 27 = .ok (.aload_n 0, 1) := by decide +kernel
theorem dx_X_mount_28 : decode b_X_mount 28 = .ok (.getfield 24, 3) := by decide +kernel
theorem dx_X_mount_31 : decode b_X_mount 31 = .ok (.aload_n 0, 1) := by decide +kernel
theorem dx_X_mount_32 : decode b_X_mount 32 = .ok (.getfield 24, 3) := by decide +kernel
theorem dx_X_mount_35 : decode b_X_mount 35 = .ok (.iload_n 1, 1) := by decide +kernel
theorem dx_X_mount_36 : decode b_X_mount 36 = .ok (.invokestatic 56, 3) := by decide +kernel
theorem dx_X_mount_39 : decode b_X_mount 39 = .ok (.iload_n 1, 1) := by decide +kernel
theorem dx_X_mount_40 : decode b_X_mount 40 = .ok (.invokevirtual 60, 3) := by decide +kernel
theorem dx_X_mount_43 : decode b_X_mount 43 = .ok (.aload_n 0, 1) := by decide +kernel
theorem dx_X_mount_44 : decode b_X_mount 44 = .ok (.iconst (-1), 1) := by decide +kernel
theorem dx_X_mount_45 : decode b_X_mount 45 = .ok (.putfield 24, 3) := by decide +kernel
theorem dx_X_mount_48 : decode b_X_mount 48 = .ok (.aload_n 0, 1) := by decide +kernel
theorem dx_X_mount_49 : decode b_X_mount 49 = .ok (.getfield 64, 3) := by decide +kernel
theorem dx_X_mount_52 : decode b_X_mount 52 = .ok (.ifCond .eq 7, 3) := by decide +kernel
theorem dx_X_mount_55 : decode b_X_mount 55 = .ok (.aload_n 0, 1) := by decide +kernel
theorem dx_X_mount_56 : decode b_X_mount 56 = .ok (.invokevirtual 67, 3) := by decide +kernel
theorem dx_X_mount_59 : decode b_X_mount 59 = .ok (.aload_n 0, 1) := by decide +kernel
theorem dx_X_mount_60 : decode b_X_mount 60 = .ok (.getfield 30, 3) := by decide +kernel
theorem dx_X_mount_63 : decode b_X_mount 63 = .ok (.iconst 1, 1) := by decide +kernel
theorem dx_X_mount_64 : decode b_X_mount 64 = .ok (.if_icmp .ne 16, 3) := by decide +kernel
theorem dx_X_mount_67 : decode b_X_mount 67 = .ok (.aload_n 0, 1) := by decide +kernel
theorem dx_X_mount_68 : decode b_X_mount 68 = .ok (.getfield 27, 3) := by decide +kernel
theorem dx_X_mount_71 : decode b_X_mount 71 = .ok (.bipush 6, 2) := by decide +kernel
theorem dx_X_mount_73 : decode b_X_mount 73 = .ok (.if_icmp .ne 7, 3) := by decide +kernel
theorem dx_X_mount_76 : decode b_X_mount 76 = .ok (.aload_n 0, 1) := by decide +kernel
theorem dx_X_mount_77 : decode b_X_mount 77 = .ok (.invokevirtual 70, 3) := by decide +kernel
theorem dx_X_mount_80 : decode b_X_mount 80 = .ok (.aload_n 0, 1) := by decide +kernel
theorem dx_X_mount_81 : decode b_X_mount 81 = .ok (.iconst 1, 1) := by decide +kernel
theorem dx_X_mount_82 : decode b_X_mount 82 = .ok (.putfield 16, 3) := by decide +kernel
theorem dx_X_mount_85 : decode b_X_mount 85 = .ok (.iconst 0, 1) := by decide +kernel
theorem dx_X_mount_86 : decode b_X_mount 86 = .ok (.ireturn, 1) := by decide +kernel
theorem dx_X_fail_0 : decode b_X_fail 0 = .ok (.aload_n 0, 1) := by decide +kernel
theorem dx_X_fail_1 : decode b_X_fail 1 = .ok (.getfield 16, 3) := by decide +kernel
theorem dx_X_fail_4 : decode b_X_fail 4 = .ok (.ifCond .ne 5, 3) := by decide +kernel
theorem dx_X_fail_7 : decode b_X_fail 7 = .ok (.iconst (-1), 1) := by decide +kernel
theorem dx_X_fail_8 : decode b_X_fail 8 = .ok (.ireturn, 1) := by decide +kernel
theorem dx_X_fail_9 : decode b_X_fail 9 = .ok (.aload_n 0, 1) := by decide +kernel
theorem dx_X_fail_10 : decode b_X_fail 10 = .ok (.invokevirtual 73, 3) := by decide +kernel
theorem dx_X_fail_13 : decode b_X_fail 13 = .ok (.istore_n 2, 1) := by decide +kernel
theorem dx_X_fail_14 : decode b_X_fail 14 = .ok (.iload_n 1, 1) := by decide +kernel
theorem dx_X_fail_15 : decode b_X_fail 15 = .ok (.ifCond .lt 8, 3) := by decide +kernel
theorem dx_X_fail_18 : decode b_X_fail 18 = .ok (.iload_n 1, 1) := by decide +kernel
theorem dx_X_fail_19 : decode b_X_fail 19 = .ok (.iload_n 2, 1) := by decide +kernel
theorem dx_X_fail_20 : decode b_X_fail 20 = .ok (.if_icmp .lt 6, 3) := by decide +kernel
theorem dx_X_fail_23 : decode b_X_fail 23 = .ok (.bipush (-2), 2) := by decide +kernel
theorem dx_X_fail_25 : decode b_X_fail 25 = .ok (.ireturn, 1) := by decide +kernel
theorem dx_X_fail_26 : decode b_X_fail 26 = .ok (.aload_n 0, 1) := by decide +kernel
theorem dx_X_fail_27 : decode b_X_fail 27 = .ok (.getfield 20, 3) := by decide +kernel
theorem dx_X_fail_30 : decode b_X_fail 30 = .ok (.iconst (-1), 1) := by decide +kernel
theorem dx_X_fail_31 : decode b_X_fail 31 = .ok (.if_icmp .eq 6, 3) := by decide +kernel
theorem dx_X_fail_34 : decode b_X_fail 34 = .ok (.bipush (-3), 2) := by decide +kernel
theorem dx_X_fail_36 : decode b_X_fail 36 = .ok (.ireturn, 1) := by decide +kernel
theorem dx_X_fail_37 : decode b_X_fail 37 = .ok (.aload_n 0, 1) := by decide +kernel
theorem dx_X_fail_38 : decode b_X_fail 38 = .ok (.iload_n 1, 1) := by decide +kernel
theorem dx_X_fail_39 : decode b_X_fail 39 = .ok (.putfield 20, 3) := by decide +kernel
theorem dx_X_fail_42 : decode b_X_fail 42 = .ok (.iconst 0, 1) := by decide +kernel
theorem dx_X_fail_43 : decode b_X_fail 43 = .ok (.istore_n 3, 1) := by decide +kernel
theorem dx_X_fail_44 : decode b_X_fail 44 = .ok (.iload_n 3, 1) := by decide +kernel
theorem dx_X_fail_45 : decode b_X_fail 45 = .ok (.bipush 16, 2) := by decide +kernel
theorem dx_X_fail_47 : decode b_X_fail 47 = .ok (.if_icmp .ge 24, 3) := by decide +kernel
theorem dx_X_fail_50 : decode b_X_fail 50 = .ok (.aload_n 0, 1) := by decide +kernel
theorem dx_X_fail_51 : decode b_X_fail 51 = .ok (.getfield 7, 3) := by decide +kernel
theorem dx_X_fail_54 : decode b_X_fail 54 = .ok (.iload_n 1, 1) := by decide +kernel
theorem dx_X_fail_55 : decode b_X_fail 55 = .ok (.bipush 16, 2) := by decide +kernel
theorem dx_X_fail_57 : decode b_X_fail 57 = .ok (.imul, 1) := by decide +kernel
theorem dx_X_fail_58 : decode b_X_fail 58 = .ok (.iload_n 3, 1) := by decide +kernel
theorem dx_X_fail_59 : decode b_X_fail 59 = .ok (.iadd, 1) := by decide +kernel
theorem dx_X_fail_60 : decode b_X_fail 60 = .ok (.ldc 76, 2) := by decide +kernel
theorem dx_X_fail_62 : decode b_X_fail 62 = .ok (.iload_n 3, 1) := by decide +kernel
theorem dx_X_fail_63 : decode b_X_fail 63 = .ok (.ixor, 1) := by decide +kernel
theorem dx_X_fail_64 : decode b_X_fail 64 = .ok (.iastore, 1) := by decide +kernel
theorem dx_X_fail_65 : decode b_X_fail 65 = .ok (.iinc 3 1, 3) := by decide +kernel
theorem dx_X_fail_68 : decode b_X_fail 68 = .ok (.goto (-24), 3) := by decide +kernel
theorem dx_X_fail_71 : decode b_X_fail 71 = .ok (.iconst 0, 1) := by decide +kernel
theorem dx_X_fail_72 : decode b_X_fail 72 = .ok (.ireturn, 1) := by decide +kernel
theorem dx_X_replace_0 : decode b_X_replace 0 = .ok (.aload_n 0, 1) := by decide +kernel
theorem dx_X_replace_1 : decode b_X_replace 1 = .ok (.getfield 16, 3) := by decide +kernel
theorem dx_X_replace_4 : decode b_X_replace 4 = .ok (.ifCond .ne 5, 3) := by decide +kernel
theorem dx_X_replace_7 : decode b_X_replace 7 = .ok (.iconst (-1), 1) := by decide +kernel
theorem dx_X_replace_8 : decode b_X_replace 8 = .ok (.ireturn, 1) := by decide +kernel
theorem dx_X_replace_9 : decode b_X_replace 9 = .ok (.aload_n 0, 1) := by decide +kernel
theorem dx_X_replace_10 : decode b_X_replace 10 = .ok (.getfield 20, 3) := by decide +kernel
theorem dx_X_replace_13 : decode b_X_replace 13 = .ok (.iconst (-1), 1) := by decide +kernel
theorem dx_X_replace_14 : decode b_X_replace 14 = .ok (.if_icmp .ne 6, 3) := by decide +kernel
theorem dx_X_replace_17 : decode b_X_replace 17 = .ok (.bipush (-2), 2) := by decide +kernel
theorem dx_X_replace_19 : decode b_X_replace 19 = .ok (.ireturn, 1) := by decide +kernel
theorem dx_X_replace_20 : decode b_X_replace 20 = .ok (.aload_n 0, 1) := by decide +kernel
theorem dx_X_replace_21 : decode b_X_replace 21 = .ok (.getfield 20, 3) := by decide +kernel
theorem dx_X_replace_24 : decode b_X_replace 24 = .ok (.istore_n 1, 1) := by decide +kernel
theorem dx_X_replace_25 : decode b_X_replace 25 = .ok (.aload_n 0, 1) := by decide +kernel
theorem dx_X_replace_26 : decode b_X_replace 26 = .ok (.iconst (-1), 1) := by decide +kernel
theorem dx_X_replace_27 : decode b_X_replace 27 = .ok (.putfield 20, 3) := by decide +kernel
theorem dx_X_replace_30 : decode b_X_replace 30 = .ok (.iconst 0, 1) := by decide +kernel
theorem dx_X_replace_31 : decode b_X_replace 31 = .ok (.istore_n 2, 1) := by decide +kernel
theorem dx_X_replace_32 : decode b_X_replace 32 = .ok (.iload_n 2, 1) := by decide +kernel
theorem dx_X_replace_33 : decode b_X_replace 33 = .ok (.bipush 16, 2) := by decide +kernel
theorem dx_X_replace_35 : decode b_X_replace 35 = .ok (.if_icmp .ge 21, 3) := by decide +kernel
theorem dx_X_replace_38 : decode b_X_replace 38 = .ok (.aload_n 0, 1) := by decide +kernel
theorem dx_X_replace_39 : decode b_X_replace 39 = .ok (.getfield 7, 3) := by decide +kernel
theorem dx_X_replace_42 : decode b_X_replace 42 = .ok (.iload_n 1, 1) := by decide +kernel
theorem dx_X_replace_43 : decode b_X_replace 43 = .ok (.bipush 16, 2) := by decide +kernel
theorem dx_X_replace_45 : decode b_X_replace 45 = .ok (.imul, 1) := by decide +kernel
theorem dx_X_replace_46 : decode b_X_replace 46 = .ok (.iload_n 2, 1) := by decide +kernel
theorem dx_X_replace_47 : decode b_X_replace 47 = .ok (.iadd, 1) := by decide +kernel
theorem dx_X_replace_48 : decode b_X_replace 48 = .ok (.iconst 0, 1) := by decide +kernel
theorem dx_X_replace_49 : decode b_X_replace 49 = .ok (.iastore, 1) := by decide +kernel
theorem dx_X_replace_50 : decode b_X_replace 50 = .ok (.iinc 2 1, 3) := by decide +kernel
theorem dx_X_replace_53 : decode b_X_replace 53 = .ok (.goto (-21), 3) := by decide +kernel
theorem dx_X_replace_56 : decode b_X_replace 56 = .ok (.iconst 0, 1) := by decide +kernel
theorem dx_X_replace_57 : decode b_X_replace 57 = .ok (.istore_n 2, 1) := by decide +kernel
theorem dx_X_replace_58 : decode b_X_replace 58 = .ok (.iload_n 2, 1) := by decide +kernel
theorem dx_X_replace_59 : decode b_X_replace 59 = .ok (.bipush 12, 2) := by decide +kernel
theorem dx_X_replace_61 : decode b_X_replace 61 = .ok (.if_icmp .ge 39, 3) := by decide +kernel
theorem dx_X_replace_64 : decode b_X_replace 64 = .ok (.aload_n 0, 1) := by decide +kernel
theorem dx_X_replace_65 : decode b_X_replace 65 = .ok (.iload_n 2, 1) := by decide +kernel
theorem dx_X_replace_66 : decode b_X_replace 66 = .ok (.invokevirtual 53, 3) := by decide +kernel
theorem dx_X_replace_69 : decode b_X_replace 69 = .ok (.istore_n 3, 1) := by decide +kernel
theorem dx_X_replace_70 : decode b_X_replace 70 = .ok (.aload_n 0, 1) := by decide +kernel
theorem dx_X_replace_71 : decode b_X_replace 71 = .ok (.iload_n 2, 1) := by decide +kernel
theorem dx_X_replace_72 : decode b_X_replace 72 = .ok (.invokevirtual 77, 3) := by decide +kernel
theorem dx_X_replace_75 : decode b_X_replace 75 = .ok (.ifCond .eq 19, 3) := by decide +kernel
theorem dx_X_replace_78 : decode b_X_replace 78 = .ok (.iload_n 3, 1) := by decide +kernel
theorem dx_X_replace_79 : decode b_X_replace 79 = .ok (.ifCond .ne 8, 3) := by decide +kernel
theorem dx_X_replace_82 : decode b_X_replace 82 = .ok (.iload_n 1, 1) := by decide +kernel
theorem dx_X_replace_83 : decode b_X_replace 83 = .ok (.iconst 3, 1) := by decide +kernel
theorem dx_X_replace_84 : decode b_X_replace 84 = .ok (.if_icmp .ge 10, 3) := by decide +kernel
theorem dx_X_replace_87 : decode b_X_replace 87 = .ok (.aload_n 0, 1) := by decide +kernel
theorem dx_X_replace_88 : decode b_X_replace 88 = .ok (.iload_n 2, 1) := by decide +kernel
theorem dx_X_replace_89 : decode b_X_replace 89 = .ok (.iload_n 1, 1) := by decide +kernel
theorem dx_X_replace_90 : decode b_X_replace 90 = .ok (.iload_n 3, 1) := by decide +kernel
theorem dx_X_replace_91 : decode b_X_replace 91 = .ok (.invokevirtual 60, 3) := by decide +kernel
theorem dx_X_replace_94 : decode b_X_replace 94 = .ok (.iinc 2 1, 3) := by decide +kernel
theorem dx_X_replace_97 : decode b_X_replace 97 = .ok (.goto (-39), 3) := by decide +kernel
theorem dx_X_replace_100 : decode b_X_replace 100 = .ok (.iload_n 1, 1) := by decide +kernel
theorem dx_X_replace_101 : decode b_X_replace 101 = .ok (.ireturn, 1) := by decide +kernel
theorem dx_X_scrub_0 : decode b_X_scrub 0 = .ok (.aload_n 0, 1) := by decide +kernel
theorem dx_X_scrub_1 : decode b_X_scrub 1 = .ok (.getfield 16, 3) := by decide +kernel
theorem dx_X_scrub_4 : decode b_X_scrub 4 = .ok (.ifCond .ne 5, 3) := by decide +kernel
theorem dx_X_scrub_7 : decode b_X_scrub 7 = .ok (.iconst (-1), 1) := by decide +kernel
theorem dx_X_scrub_8 : decode b_X_scrub 8 = .ok (.ireturn, 1) := by decide +kernel
theorem dx_X_scrub_9 : decode b_X_scrub 9 = .ok (.aload_n 0, 1) := by decide +kernel
theorem dx_X_scrub_10 : decode b_X_scrub 10 = .ok (.getfield 20, 3) := by decide +kernel
theorem dx_X_scrub_13 : decode b_X_scrub 13 = .ok (.iconst (-1), 1) := by decide +kernel
theorem dx_X_scrub_14 : decode b_X_scrub 14 = .ok (.if_icmp .eq 6, 3) := by decide +kernel
theorem dx_X_scrub_17 : decode b_X_scrub 17 = .ok (.bipush (-2), 2) := by decide +kernel
theorem dx_X_scrub_19 : decode b_X_scrub 19 = .ok (.ireturn, 1) := by decide +kernel
theorem dx_X_scrub_20 : decode b_X_scrub 20 = .ok (.iconst 0, 1) := by decide +kernel
theorem dx_X_scrub_21 : decode b_X_scrub 21 = .ok (.istore_n 1, 1) := by decide +kernel
theorem dx_X_scrub_22 : decode b_X_scrub 22 = .ok (.iconst 0, 1) := by decide +kernel
theorem dx_X_scrub_23 : decode b_X_scrub 23 = .ok (.istore_n 2, 1) := by decide +kernel
theorem dx_X_scrub_24 : decode b_X_scrub 24 = .ok (.iload_n 2, 1) := by decide +kernel
theorem dx_X_scrub_25 : decode b_X_scrub 25 = .ok (.bipush 12, 2) := by decide +kernel
theorem dx_X_scrub_27 : decode b_X_scrub 27 = .ok (.if_icmp .ge 40, 3) := by decide +kernel
theorem dx_X_scrub_30 : decode b_X_scrub 30 = .ok (.aload_n 0, 1) := by decide +kernel
theorem dx_X_scrub_31 : decode b_X_scrub 31 = .ok (.iload_n 2, 1) := by decide +kernel
theorem dx_X_scrub_32 : decode b_X_scrub 32 = .ok (.invokevirtual 77, 3) := by decide +kernel
theorem dx_X_scrub_35 : decode b_X_scrub 35 = .ok (.ifCond .eq 26, 3) := by decide +kernel
theorem dx_X_scrub_38 : decode b_X_scrub 38 = .ok (.aload_n 0, 1) := by decide +kernel
theorem dx_X_scrub_39 : decode b_X_scrub 39 = .ok (.iload_n 2, 1) := by decide +kernel
theorem dx_X_scrub_40 : decode b_X_scrub 40 = .ok (.invokevirtual 53, 3) := by decide +kernel
theorem dx_X_scrub_43 : decode b_X_scrub 43 = .ok (.istore_n 3, 1) := by decide +kernel
theorem dx_X_scrub_44 : decode b_X_scrub 44 = .ok (.aload_n 0, 1) := by decide +kernel
theorem dx_X_scrub_45 : decode b_X_scrub 45 = .ok (.iload_n 2, 1) := by decide +kernel
theorem dx_X_scrub_46 : decode b_X_scrub 46 = .ok (.iconst (-1), 1) := by decide +kernel
theorem dx_X_scrub_47 : decode b_X_scrub 47 = .ok (.iload_n 3, 1) := by decide +kernel
theorem dx_X_scrub_48 : decode b_X_scrub 48 = .ok (.invokevirtual 80, 3) := by decide +kernel
theorem dx_X_scrub_51 : decode b_X_scrub 51 = .ok (.istore 4, 2) := by decide +kernel
theorem dx_X_scrub_53 : decode b_X_scrub 53 = .ok (.iload 4, 2) := by decide +kernel
theorem dx_X_scrub_55 : decode b_X_scrub 55 = .ok (.ifCond .eq 6, 3) := by decide +kernel
theorem dx_X_scrub_58 : decode b_X_scrub 58 = .ok (.iinc 1 1, 3) := by decide +kernel
theorem dx_X_scrub_61 : decode b_X_scrub 61 = .ok (.iinc 2 1, 3) := by decide +kernel
theorem dx_X_scrub_64 : decode b_X_scrub 64 = .ok (.goto (-40), 3) := by decide +kernel
theorem dx_X_scrub_67 : decode b_X_scrub 67 = .ok (.iload_n 1, 1) := by decide +kernel
theorem dx_X_scrub_68 : decode b_X_scrub 68 = .ok (.ireturn, 1) := by decide +kernel
theorem dx_X_isBlock_0 : decode b_X_isBlock 0 = .ok (.aload_n 0, 1) := by decide +kernel
theorem dx_X_isBlock_1 : decode b_X_isBlock 1 = .ok (.invokevirtual 41, 3) := by decide +kernel
theorem dx_X_isBlock_4 : decode b_X_isBlock 4 = .ok (.istore_n 2, 1) := by decide +kernel
theorem dx_X_isBlock_5 : decode b_X_isBlock 5 = .ok (.iload_n 1, 1) := by decide +kernel
theorem dx_X_isBlock_6 : decode b_X_isBlock 6 = .ok (.ifCond .lt 12, 3) := by decide +kernel
theorem dx_X_isBlock_9 : decode b_X_isBlock 9 = .ok (.iload_n 1, 1) := by decide +kernel
theorem dx_X_isBlock_10 : decode b_X_isBlock 10 = .ok (.iload_n 2, 1) := by decide +kernel
theorem dx_X_isBlock_11 : decode b_X_isBlock 11 = .ok (.if_icmp .ge 7, 3) := by decide +kernel
theorem dx_X_isBlock_14 : decode b_X_isBlock 14 = .ok (.iconst 1, 1) := by decide +kernel
theorem dx_X_isBlock_15 : decode b_X_isBlock 15 = .ok (.goto 4, 3) := by decide +kernel
theorem dx_X_isBlock_18 : decode b_X_isBlock 18 = .ok (.iconst 0, 1) := by decide +kernel
theorem dx_X_isBlock_19 : decode b_X_isBlock 19 = .ok (.ireturn, 1) := by decide +kernel
theorem dx_X_isWide_0 : decode b_X_isWide 0 = .ok (.aload_n 0, 1) := by decide +kernel
theorem dx_X_isWide_1 : decode b_X_isWide 1 = .ok (.getfield 30, 3) := by decide +kernel
theorem dx_X_isWide_4 : decode b_X_isWide 4 = .ok (.iconst 2, 1) := by decide +kernel
theorem dx_X_isWide_5 : decode b_X_isWide 5 = .ok (.if_icmp .eq 19, 3) := by decide +kernel
theorem dx_X_isWide_8 : decode b_X_isWide 8 = .ok (.aload_n 0, 1) := by decide +kernel
theorem dx_X_isWide_9 : decode b_X_isWide 9 = .ok (.getfield 30, 3) := by decide +kernel
theorem dx_X_isWide_12 : decode b_X_isWide 12 = .ok (.iconst 1, 1) := by decide +kernel
theorem dx_X_isWide_13 : decode b_X_isWide 13 = .ok (.if_icmp .ne 15, 3) := by decide +kernel
theorem dx_X_isWide_16 : decode b_X_isWide 16 = .ok (.iload_n 1, 1) := by decide +kernel
theorem dx_X_isWide_17 : decode b_X_isWide 17 = .ok (.aload_n 0, 1) := by decide +kernel
theorem dx_X_isWide_18 : decode b_X_isWide 18 = .ok (.getfield 27, 3) := by decide +kernel
theorem dx_X_isWide_21 : decode b_X_isWide 21 = .ok (.if_icmp .ge 7, 3) := by decide +kernel
theorem dx_X_isWide_24 : decode b_X_isWide 24 = .ok (.iconst 1, 1) := by decide +kernel
theorem dx_X_isWide_25 : decode b_X_isWide 25 = .ok (.goto 4, 3) := by decide +kernel
theorem dx_X_isWide_28 : decode b_X_isWide 28 = .ok (.iconst 0, 1) := by decide +kernel
theorem dx_X_isWide_29 : decode b_X_isWide 29 = .ok (.ireturn, 1) := by decide +kernel
theorem dx_X_inUse_0 : decode b_X_inUse 0 = .ok (.aload_n 0, 1) := by decide +kernel
theorem dx_X_inUse_1 : decode b_X_inUse 1 = .ok (.getfield 30, 3) := by decide +kernel
theorem dx_X_inUse_4 : decode b_X_inUse 4 = .ok (.iconst 1, 1) := by decide +kernel
theorem dx_X_inUse_5 : decode b_X_inUse 5 = .ok (.if_icmp .ne 21, 3) := by decide +kernel
theorem dx_X_inUse_8 : decode b_X_inUse 8 = .ok (.iload_n 1, 1) := by decide +kernel
theorem dx_X_inUse_9 : decode b_X_inUse 9 = .ok (.aload_n 0, 1) := by decide +kernel
theorem dx_X_inUse_10 : decode b_X_inUse 10 = .ok (.getfield 27, 3) := by decide +kernel
theorem dx_X_inUse_13 : decode b_X_inUse 13 = .ok (.if_icmp .lt 13, 3) := by decide +kernel
theorem dx_X_inUse_16 : decode b_X_inUse 16 = .ok (.iload_n 1, 1) := by decide +kernel
theorem dx_X_inUse_17 : decode b_X_inUse 17 = .ok (.iconst 2, 1) := by decide +kernel
theorem dx_X_inUse_18 : decode b_X_inUse 18 = .ok (.aload_n 0, 1) := by decide +kernel
theorem dx_X_inUse_19 : decode b_X_inUse 19 = .ok (.getfield 27, 3) := by decide +kernel
theorem dx_X_inUse_22 : decode b_X_inUse 22 = .ok (.imul, 1) := by decide +kernel
theorem dx_X_inUse_23 : decode b_X_inUse 23 = .ok (.if_icmp .lt 7, 3) := by decide +kernel
theorem dx_X_inUse_26 : decode b_X_inUse 26 = .ok (.iconst 1, 1) := by decide +kernel
theorem dx_X_inUse_27 : decode b_X_inUse 27 = .ok (.goto 4, 3) := by decide +kernel
theorem dx_X_inUse_30 : decode b_X_inUse 30 = .ok (.iconst 0, 1) := by decide +kernel
theorem dx_X_inUse_31 : decode b_X_inUse 31 = .ok (.ireturn, 1) := by decide +kernel
theorem dx_X_blockIsWide_0 : decode b_X_blockIsWide 0 = .ok (.aload_n 0, 1) := by decide +kernel
theorem dx_X_blockIsWide_1 : decode b_X_blockIsWide 1 = .ok (.getfield 30, 3) := by decide +kernel
theorem dx_X_blockIsWide_4 : decode b_X_blockIsWide 4 = .ok (.iconst 2, 1) := by decide +kernel
theorem dx_X_blockIsWide_5 : decode b_X_blockIsWide 5 = .ok (.if_icmp .eq 21, 3) := by decide +kernel
theorem dx_X_blockIsWide_8 : decode b_X_blockIsWide 8 = .ok (.aload_n 0, 1) := by decide +kernel
theorem dx_X_blockIsWide_9 : decode b_X_blockIsWide 9 = .ok (.getfield 30, 3) := by decide +kernel
theorem dx_X_blockIsWide_12 : decode b_X_blockIsWide 12 = .ok (.iconst 1, 1) := by decide +kernel
theorem dx_X_blockIsWide_13 : decode b_X_blockIsWide 13 = .ok (.if_icmp .ne 17, 3) := by decide +kernel
theorem dx_X_blockIsWide_16 : decode b_X_blockIsWide 16 = .ok (.iload_n 1, 1) := by decide +kernel
theorem dx_X_blockIsWide_17 : decode b_X_blockIsWide 17 = .ok (.iconst 4, 1) := by decide +kernel
theorem dx_X_blockIsWide_18 : decode b_X_blockIsWide 18 = .ok (.aload_n 0, 1) := by decide +kernel
theorem dx_X_blockIsWide_19 : decode b_X_blockIsWide 19 = .ok (.getfield 27, 3) := by decide +kernel
theorem dx_X_blockIsWide_22 : decode b_X_blockIsWide 22 = .ok (.imul, 1) := by decide +kernel
theorem dx_X_blockIsWide_23 : decode b_X_blockIsWide 23 = .ok (.if_icmp .ge 7, 3) := by decide +kernel
theorem dx_X_blockIsWide_26 : decode b_X_blockIsWide 26 = .ok (.iconst 1, 1) := by decide +kernel
theorem dx_X_blockIsWide_27 : decode b_X_blockIsWide 27 = .ok (.goto 4, 3) := by decide +kernel
theorem dx_X_blockIsWide_30 : decode b_X_blockIsWide 30 = .ok (.iconst 0, 1) := by decide +kernel
theorem dx_X_blockIsWide_31 : decode b_X_blockIsWide 31 = .ok (.ireturn, 1) := by decide +kernel
theorem dx_X_rowOf_0 : decode b_X_rowOf 0 = .ok (.iload_n 1, 1) := by decide +kernel
theorem dx_X_rowOf_1 : decode b_X_rowOf 1 = .ok (.ifCond .eq 9, 3) := by decide +kernel
theorem dx_X_rowOf_4 : decode b_X_rowOf 4 = .ok (.iload_n 0, 1) := by decide +kernel
theorem dx_X_rowOf_5 : decode b_X_rowOf 5 = .ok (.iconst 2, 1) := by decide +kernel
theorem dx_X_rowOf_6 : decode b_X_rowOf 6 = .ok (.ishr, 1) := by decide +kernel
theorem dx_X_rowOf_7 : decode b_X_rowOf 7 = .ok (.goto 6, 3) := by decide +kernel
theorem dx_X_rowOf_10 : decode b_X_rowOf 10 = .ok (.iload_n 0, 1) := by decide +kernel
theorem dx_X_rowOf_11 : decode b_X_rowOf 11 = .ok (.iconst 1, 1) := by decide +kernel
theorem dx_X_rowOf_12 : decode b_X_rowOf 12 = .ok (.ishr, 1) := by decide +kernel
theorem dx_X_rowOf_13 : decode b_X_rowOf 13 = .ok (.ireturn, 1) := by decide +kernel
theorem dx_X_parityOf_0 : decode b_X_parityOf 0 = .ok (.iload_n 1, 1) := by decide +kernel
theorem dx_X_parityOf_1 : decode b_X_parityOf 1 = .ok (.ifCond .eq 9, 3) := by decide +kernel
theorem dx_X_parityOf_4 : decode b_X_parityOf 4 = .ok (.iload_n 0, 1) := by decide +kernel
theorem dx_X_parityOf_5 : decode b_X_parityOf 5 = .ok (.iconst 5, 1) := by decide +kernel
theorem dx_X_parityOf_6 : decode b_X_parityOf 6 = .ok (.irem, 1) := by decide +kernel
theorem dx_X_parityOf_7 : decode b_X_parityOf 7 = .ok (.goto 6, 3) := by decide +kernel
theorem dx_X_parityOf_10 : decode b_X_parityOf 10 = .ok (.iload_n 0, 1) := by decide +kernel
theorem dx_X_parityOf_11 : decode b_X_parityOf 11 = .ok (.iconst 3, 1) := by decide +kernel
theorem dx_X_parityOf_12 : decode b_X_parityOf 12 = .ok (.irem, 1) := by decide +kernel
theorem dx_X_parityOf_13 : decode b_X_parityOf 13 = .ok (.ireturn, 1) := by decide +kernel
theorem dx_X_memberOf_0 : decode b_X_memberOf 0 = .ok (.iload_n 1, 1) := by decide +kernel
theorem dx_X_memberOf_1 : decode b_X_memberOf 1 = .ok (.ifCond .eq 9, 3) := by decide +kernel
theorem dx_X_memberOf_4 : decode b_X_memberOf 4 = .ok (.iload_n 0, 1) := by decide +kernel
theorem dx_X_memberOf_5 : decode b_X_memberOf 5 = .ok (.iconst 2, 1) := by decide +kernel
theorem dx_X_memberOf_6 : decode b_X_memberOf 6 = .ok (.ishr, 1) := by decide +kernel
theorem dx_X_memberOf_7 : decode b_X_memberOf 7 = .ok (.goto 6, 3) := by decide +kernel
theorem dx_X_memberOf_10 : decode b_X_memberOf 10 = .ok (.iload_n 0, 1) := by decide +kernel
theorem dx_X_memberOf_11 : decode b_X_memberOf 11 = .ok (.iconst 1, 1) := by decide +kernel
theorem dx_X_memberOf_12 : decode b_X_memberOf 12 = .ok (.ishr, 1) := by decide +kernel
theorem dx_X_memberOf_13 : decode b_X_memberOf 13 = .ok (.istore_n 2, 1) := by decide +kernel
theorem dx_X_memberOf_14 : decode b_X_memberOf 14 = .ok (.iload_n 1, 1) := by decide +kernel
theorem dx_X_memberOf_15 : decode b_X_memberOf 15 = .ok (.ifCond .eq 9, 3) := by decide +kernel
theorem dx_X_memberOf_18 : decode b_X_memberOf 18 = .ok (.iload_n 2, 1) := by decide +kernel
theorem dx_X_memberOf_19 : decode b_X_memberOf 19 = .ok (.iconst 5, 1) := by decide +kernel
theorem dx_X_memberOf_20 : decode b_X_memberOf 20 = .ok (.irem, 1) := by decide +kernel
theorem dx_X_memberOf_21 : decode b_X_memberOf 21 = .ok (.goto 6, 3) := by decide +kernel
theorem dx_X_memberOf_24 : decode b_X_memberOf 24 = .ok (.iload_n 2, 1) := by decide +kernel
theorem dx_X_memberOf_25 : decode b_X_memberOf 25 = .ok (.iconst 3, 1) := by decide +kernel
theorem dx_X_memberOf_26 : decode b_X_memberOf 26 = .ok (.irem, 1) := by decide +kernel
theorem dx_X_memberOf_27 : decode b_X_memberOf 27 = .ok (.istore_n 3, 1) := by decide +kernel
theorem dx_X_memberOf_28 : decode b_X_memberOf 28 = .ok (.iload_n 1, 1) := by decide +kernel
theorem dx_X_memberOf_29 : decode b_X_memberOf 29 = .ok (.ifCond .eq 9, 3) := by decide +kernel
theorem dx_X_memberOf_32 : decode b_X_memberOf 32 = .ok (.iload_n 0, 1) := by decide +kernel
theorem dx_X_memberOf_33 : decode b_X_memberOf 33 = .ok (.iconst 3, 1) := by decide +kernel
theorem dx_X_memberOf_34 : decode b_X_memberOf 34 = .ok (.iand, 1) := by decide +kernel
theorem dx_X_memberOf_35 : decode b_X_memberOf 35 = .ok (.goto 6, 3) := by decide +kernel
theorem dx_X_memberOf_38 : decode b_X_memberOf 38 = .ok (.iload_n 0, 1) := by decide +kernel
theorem dx_X_memberOf_39 : decode b_X_memberOf 39 = .ok (.iconst 1, 1) := by decide +kernel
theorem dx_X_memberOf_40 : decode b_X_memberOf 40 = .ok (.iand, 1) := by decide +kernel
theorem dx_X_memberOf_41 : decode b_X_memberOf 41 = .ok (.istore 4, 2) := by decide +kernel
theorem dx_X_memberOf_43 : decode b_X_memberOf 43 = .ok (.iload 4, 2) := by decide +kernel
theorem dx_X_memberOf_45 : decode b_X_memberOf 45 = .ok (.iload_n 3, 1) := by decide +kernel
theorem dx_X_memberOf_46 : decode b_X_memberOf 46 = .ok (.if_icmp .ge 8, 3) := by decide +kernel
theorem dx_X_memberOf_49 : decode b_X_memberOf 49 = .ok (.iload 4, 2) := by decide +kernel
theorem dx_X_memberOf_51 : decode b_X_memberOf 51 = .ok (.goto 7, 3) := by decide +kernel
theorem dx_X_memberOf_54 : decode b_X_memberOf 54 = .ok (.iload 4, 2) := by decide +kernel
theorem dx_X_memberOf_56 : decode b_X_memberOf 56 = .ok (.iconst 1, 1) := by decide +kernel
theorem dx_X_memberOf_57 : decode b_X_memberOf 57 = .ok (.iadd, 1) := by decide +kernel
theorem dx_X_memberOf_58 : decode b_X_memberOf 58 = .ok (.ireturn, 1) := by decide +kernel
theorem dx_X_others_0 : decode b_X_others 0 = .ok (.iconst 0, 1) := by decide +kernel
theorem dx_X_others_1 : decode b_X_others 1 = .ok (.istore 4, 2) := by decide +kernel
theorem dx_X_others_3 : decode b_X_others 3 = .ok (.iload_n 3, 1) := by decide +kernel
theorem dx_X_others_4 : decode b_X_others 4 = .ok (.ifCond .eq 7, 3) := by decide +kernel
theorem dx_X_others_7 : decode b_X_others 7 = .ok (.iconst 5, 1) := by decide +kernel
theorem dx_X_others_8 : decode b_X_others 8 = .ok (.goto 4, 3) := by decide +kernel
theorem dx_X_others_11 : decode b_X_others 11 = .ok (.iconst 3, 1) := by decide +kernel
theorem dx_X_others_12 : decode b_X_others 12 = .ok (.istore 5, 2) := by decide +kernel
theorem dx_X_others_14 : decode b_X_others 14 = .ok (.iconst 0, 1) := by decide +kernel
theorem dx_X_others_15 : decode b_X_others 15 = .ok (.istore 6, 2) := by decide +kernel
theorem dx_X_others_17 : decode b_X_others 17 = .ok (.iload 6, 2) := by decide +kernel
theorem dx_X_others_19 : decode b_X_others 19 = .ok (.iload 5, 2) := by decide +kernel
theorem dx_X_others_21 : decode b_X_others 21 = .ok (.if_icmp .ge 32, 3) := by decide +kernel
theorem dx_X_others_24 : decode b_X_others 24 = .ok (.iload 6, 2) := by decide +kernel
theorem dx_X_others_26 : decode b_X_others 26 = .ok (.iload_n 2, 1) := by decide +kernel
theorem dx_X_others_27 : decode b_X_others 27 = .ok (.if_icmp .eq 20, 3) := by decide +kernel
theorem dx_X_others_30 : decode b_X_others 30 = .ok (.iload 4, 2) := by decide +kernel
theorem dx_X_others_32 : decode b_X_others 32 = .ok (.aload_n 0, 1) := by decide +kernel
theorem dx_X_others_33 : decode b_X_others 33 = .ok (.getfield 7, 3) := by decide +kernel
theorem dx_X_others_36 : decode b_X_others 36 = .ok (.iload 6, 2) := by decide +kernel
theorem dx_X_others_38 : decode b_X_others 38 = .ok (.bipush 16, 2) := by decide +kernel
theorem dx_X_others_40 : decode b_X_others 40 = .ok (.imul, 1) := by decide +kernel
theorem dx_X_others_41 : decode b_X_others 41 = .ok (.iload_n 1, 1) := by decide +kernel
theorem dx_X_others_42 : decode b_X_others 42 = .ok (.iadd, 1) := by decide +kernel
theorem dx_X_others_43 : decode b_X_others 43 = .ok (.iaload, 1) := by decide +kernel
theorem dx_X_others_44 : decode b_X_others 44 = .ok (.ixor, 1) := by decide +kernel
theorem dx_X_others_45 : decode b_X_others 45 = .ok (.istore 4, 2) := by decide +kernel
theorem dx_X_others_47 : decode b_X_others 47 = .ok (.iinc 6 1, 3) := by decide +kernel
theorem dx_X_others_50 : decode b_X_others 50 = .ok (.goto (-33), 3) := by decide +kernel
theorem dx_X_others_53 : decode b_X_others 53 = .ok (.iload 4, 2) := by decide +kernel
theorem dx_X_others_55 : decode b_X_others 55 = .ok (.ireturn, 1) := by decide +kernel
theorem dx_X_mend_0 : decode b_X_mend 0 = .ok (.aload_n 0, 1) := by decide +kernel
theorem dx_X_mend_1 : decode b_X_mend 1 = .ok (.iload_n 1, 1) := by decide +kernel
theorem dx_X_mend_2 : decode b_X_mend 2 = .ok (.iload_n 2, 1) := by decide +kernel
theorem dx_X_mend_3 : decode b_X_mend 3 = .ok (.iload_n 3, 1) := by decide +kernel
theorem dx_X_mend_4 : decode b_X_mend 4 = .ok (.invokevirtual 80, 3) := by decide +kernel
theorem dx_X_mend_7 : decode b_X_mend 7 = .ok (.istore 4, 2) := by decide +kernel
theorem dx_X_mend_9 : decode b_X_mend 9 = .ok (.aload_n 0, 1) := by decide +kernel
theorem dx_X_mend_10 : decode b_X_mend 10 = .ok (.iload_n 2, 1) := by decide +kernel
theorem dx_X_mend_11 : decode b_X_mend 11 = .ok (.iload_n 1, 1) := by decide +kernel
theorem dx_X_mend_12 : decode b_X_mend 12 = .ok (.iload 4, 2) := by decide +kernel
theorem dx_X_mend_14 : decode b_X_mend 14 = .ok (.invokevirtual 84, 3) := by decide +kernel
theorem dx_X_mend_17 : decode b_X_mend 17 = .ok (.return_, 1) := by decide +kernel
theorem dx_X_put_0 : decode b_X_put 0 = .ok (.iload_n 1, 1) := by decide +kernel
theorem dx_X_put_1 : decode b_X_put 1 = .ok (.aload_n 0, 1) := by decide +kernel
theorem dx_X_put_2 : decode b_X_put 2 = .ok (.getfield 20, 3) := by decide +kernel
theorem dx_X_put_5 : decode b_X_put 5 = .ok (.if_icmp .eq 15, 3) := by decide +kernel
theorem dx_X_put_8 : decode b_X_put 8 = .ok (.aload_n 0, 1) := by decide +kernel
theorem dx_X_put_9 : decode b_X_put 9 = .ok (.getfield 7, 3) := by decide +kernel
theorem dx_X_put_12 : decode b_X_put 12 = .ok (.iload_n 1, 1) := by decide +kernel
theorem dx_X_put_13 : decode b_X_put 13 = .ok (.bipush 16, 2) := by decide +kernel
theorem dx_X_put_15 : decode b_X_put 15 = .ok (.imul, 1) := by decide +kernel
theorem dx_X_put_16 : decode b_X_put 16 = .ok (.iload_n 2, 1) := by decide +kernel
theorem dx_X_put_17 : decode b_X_put 17 = .ok (.iadd, 1) := by decide +kernel
theorem dx_X_put_18 : decode b_X_put 18 = .ok (.iload_n 3, 1) := by decide +kernel
theorem dx_X_put_19 : decode b_X_put 19 = .ok (.iastore, 1) := by decide +kernel
theorem dx_X_put_20 : decode b_X_put 20 = .ok (.return_, 1) := by decide +kernel
theorem dx_X_fetch_0 : decode b_X_fetch 0 = .ok (.aload_n 0, 1) := by decide +kernel
theorem dx_X_fetch_1 : decode b_X_fetch 1 = .ok (.iload_n 1, 1) := by decide +kernel
theorem dx_X_fetch_2 : decode b_X_fetch 2 = .ok (.invokevirtual 87, 3) := by decide +kernel
theorem dx_X_fetch_5 : decode b_X_fetch 5 = .ok (.istore_n 2, 1) := by decide +kernel
theorem dx_X_fetch_6 : decode b_X_fetch 6 = .ok (.aload_n 0, 1) := by decide +kernel
theorem dx_X_fetch_7 : decode b_X_fetch 7 = .ok (.iload_n 1, 1) := by decide +kernel
theorem dx_X_fetch_8 : decode b_X_fetch 8 = .ok (.iload_n 2, 1) := by decide +kernel
theorem dx_X_fetch_9 : decode b_X_fetch 9 = .ok (.invokevirtual 90, 3) := by decide +kernel
theorem dx_X_fetch_12 : decode b_X_fetch 12 = .ok (.ireturn, 1) := by decide +kernel
theorem dx_X_fetchFrom_0 : decode b_X_fetchFrom 0 = .ok (.iload_n 1, 1) := by decide +kernel
theorem dx_X_fetchFrom_1 : decode b_X_fetchFrom 1 = .ok (.iload_n 2, 1) := by decide +kernel
theorem dx_X_fetchFrom_2 : decode b_X_fetchFrom 2 = .ok (.invokestatic 93, 3) := by decide +kernel
theorem dx_X_fetchFrom_5 : decode b_X_fetchFrom 5 = .ok (.istore_n 3, 1) := by decide +kernel
theorem dx_X_fetchFrom_6 : decode b_X_fetchFrom 6 = .ok (.iload_n 1, 1) := by decide +kernel
theorem dx_X_fetchFrom_7 : decode b_X_fetchFrom 7 = .ok (.iload_n 2, 1) := by decide +kernel
theorem dx_X_fetchFrom_8 : decode b_X_fetchFrom 8 = .ok (.invokestatic 96, 3) := by decide +kernel
theorem dx_X_fetchFrom_11 : decode b_X_fetchFrom 11 = .ok (.istore 4, 2) := by decide +kernel
theorem dx_X_fetchFrom_13 : decode b_X_fetchFrom 13 = .ok (.iload 4, 2) := by decide +kernel
theorem dx_X_fetchFrom_15 : decode b_X_fetchFrom 15 = .ok (.aload_n 0, 1) := by decide +kernel
theorem dx_X_fetchFrom_16 : decode b_X_fetchFrom 16 = .ok (.getfield 20, 3) := by decide +kernel
theorem dx_X_fetchFrom_19 : decode b_X_fetchFrom 19 = .ok (.if_icmp .ne 14, 3) := by decide +kernel
theorem dx_X_fetchFrom_22 : decode b_X_fetchFrom 22 = .ok (.aload_n 0, 1) := by decide +kernel
theorem dx_X_fetchFrom_23 : decode b_X_fetchFrom 23 = .ok (.iload_n 3, 1) := by decide +kernel
theorem dx_X_fetchFrom_24 : decode b_X_fetchFrom 24 = .ok (.iload 4, 2) := by decide +kernel
theorem dx_X_fetchFrom_26 : decode b_X_fetchFrom 26 = .ok (.iload_n 2, 1) := by decide +kernel
theorem dx_X_fetchFrom_27 : decode b_X_fetchFrom 27 = .ok (.invokevirtual 80, 3) := by decide +kernel
theorem dx_X_fetchFrom_30 : decode b_X_fetchFrom 30 = .ok (.goto 15, 3) := by decide +kernel
theorem dx_X_fetchFrom_33 : decode b_X_fetchFrom 33 = .ok (.aload_n 0, 1) := by decide +kernel
theorem dx_X_fetchFrom_34 : decode b_X_fetchFrom 34 = .ok (.getfield 7, 3) := by decide +kernel
theorem dx_X_fetchFrom_37 : decode b_X_fetchFrom 37 = .ok (.iload 4, 2) := by decide +kernel
theorem dx_X_fetchFrom_39 : decode b_X_fetchFrom 39 = .ok (.bipush 16, 2) := by decide +kernel
theorem dx_X_fetchFrom_41 : decode b_X_fetchFrom 41 = .ok (.imul, 1) := by decide +kernel
theorem dx_X_fetchFrom_42 : decode b_X_fetchFrom 42 = .ok (.iload_n 3, 1) := by decide +kernel
theorem dx_X_fetchFrom_43 : decode b_X_fetchFrom 43 = .ok (.iadd, 1) := by decide +kernel
theorem dx_X_fetchFrom_44 : decode b_X_fetchFrom 44 = .ok (.iaload, 1) := by decide +kernel
theorem dx_X_fetchFrom_45 : decode b_X_fetchFrom 45 = .ok (.ireturn, 1) := by decide +kernel
end
section
theorem dx_X_store_0 : decode b_X_store 0 = .ok (.aload_n 0, 1) := by decide +kernel
theorem dx_X_store_1 : decode b_X_store 1 = .ok (.iload_n 1, 1) := by decide +kernel
theorem dx_X_store_2 : decode b_X_store 2 = .ok (.invokevirtual 87, 3) := by decide +kernel
theorem dx_X_store_5 : decode b_X_store 5 = .ok (.istore 4, 2) := by decide +kernel
theorem dx_X_store_7 : decode b_X_store 7 = .ok (.iload_n 1, 1) := by decide +kernel
theorem dx_X_store_8 : decode b_X_store 8 = .ok (.iload 4, 2) := by decide +kernel
theorem dx_X_store_10 : decode b_X_store 10 = .ok (.invokestatic 93, 3) := by decide +kernel
theorem dx_X_store_13 : decode b_X_store 13 = .ok (.istore 5, 2) := by decide +kernel
theorem dx_X_store_15 : decode b_X_store 15 = .ok (.iload_n 1, 1) := by decide +kernel
theorem dx_X_store_16 : decode b_X_store 16 = .ok (.iload 4, 2) := by decide +kernel
theorem dx_X_store_18 : decode b_X_store 18 = .ok (.invokestatic 96, 3) := by decide +kernel
theorem dx_X_store_21 : decode b_X_store 21 = .ok (.istore 6, 2) := by decide +kernel
theorem dx_X_store_23 : decode b_X_store 23 = .ok (.iload 5, 2) := by decide +kernel
theorem dx_X_store_25 : decode b_X_store 25 = .ok (.iload 4, 2) := by decide +kernel
theorem dx_X_store_27 : decode b_X_store 27 = .ok (.invokestatic 56, 3) := by decide +kernel
theorem dx_X_store_30 : decode b_X_store 30 = .ok (.istore 7, 2) := by decide +kernel
theorem dx_X_store_32 : decode b_X_store 32 = .ok (.aload_n 0, 1) := by decide +kernel
theorem dx_X_store_33 : decode b_X_store 33 = .ok (.iload_n 1, 1) := by decide +kernel
theorem dx_X_store_34 : decode b_X_store 34 = .ok (.iload 4, 2) := by decide +kernel
theorem dx_X_store_36 : decode b_X_store 36 = .ok (.invokevirtual 90, 3) := by decide +kernel
theorem dx_X_store_39 : decode b_X_store 39 = .ok (.istore 8, 2) := by decide +kernel
theorem dx_X_store_41 : decode b_X_store 41 = .ok (.aload_n 0, 1) := by decide +kernel
theorem dx_X_store_42 : decode b_X_store 42 = .ok (.getfield 7, 3) := by decide +kernel
theorem dx_X_store_45 : decode b_X_store 45 = .ok (.iload 7, 2) := by decide +kernel
theorem dx_X_store_47 : decode b_X_store 47 = .ok (.bipush 16, 2) := by decide +kernel
theorem dx_X_store_49 : decode b_X_store 49 = .ok (.imul, 1) := by decide +kernel
theorem dx_X_store_50 : decode b_X_store 50 = .ok (.iload 5, 2) := by decide +kernel
theorem dx_X_store_52 : decode b_X_store 52 = .ok (.iadd, 1) := by decide +kernel
theorem dx_X_store_53 : decode b_X_store 53 = .ok (.iaload, 1) := by decide +kernel
theorem dx_X_store_54 : decode b_X_store 54 = .ok (.iload 8, 2) := by decide +kernel
theorem dx_X_store_56 : decode b_X_store 56 = .ok (.ixor, 1) := by decide +kernel
theorem dx_X_store_57 : decode b_X_store 57 = .ok (.iload_n 2, 1) := by decide +kernel
theorem dx_X_store_58 : decode b_X_store 58 = .ok (.ixor, 1) := by decide +kernel
theorem dx_X_store_59 : decode b_X_store 59 = .ok (.istore 9, 2) := by decide +kernel
theorem dx_X_store_61 : decode b_X_store 61 = .ok (.aload_n 0, 1) := by decide +kernel
theorem dx_X_store_62 : decode b_X_store 62 = .ok (.iload 5, 2) := by decide +kernel
theorem dx_X_store_64 : decode b_X_store 64 = .ok (.putfield 24, 3) := by decide +kernel
theorem dx_X_store_67 : decode b_X_store 67 = .ok (.iload_n 3, 1) := by decide +kernel
theorem dx_X_store_68 : decode b_X_store 68 = .ok (.ifCond .ne 4, 3) := by decide +kernel
theorem dx_X_store_71 : decode b_X_store 71 = .ok (.return_, 1) := by decide +kernel
theorem dx_X_store_72 : decode b_X_store 72 = .ok (.aload_n 0, 1) := by decide +kernel
theorem dx_X_store_73 : decode b_X_store 73 = .ok (.iload 6, 2) := by decide +kernel
theorem dx_X_store_75 : decode b_X_store 75 = .ok (.iload 5, 2) := by decide +kernel
theorem dx_X_store_77 : decode b_X_store 77 = .ok (.iload_n 2, 1) := by decide +kernel
theorem dx_X_store_78 : decode b_X_store 78 = .ok (.invokevirtual 84, 3) := by decide +kernel
theorem dx_X_store_81 : decode b_X_store 81 = .ok (.iload_n 3, 1) := by decide +kernel
theorem dx_X_store_82 : decode b_X_store 82 = .ok (.iconst 1, 1) := by decide +kernel
theorem dx_X_store_83 : decode b_X_store 83 = .ok (.if_icmp .ne 4, 3) := by decide +kernel
theorem dx_X_store_86 : decode b_X_store 86 = .ok (.return_, 1) := by decide +kernel
theorem dx_X_store_87 : decode b_X_store 87 = .ok (.aload_n 0, 1) := by decide +kernel
theorem dx_X_store_88 : decode b_X_store 88 = .ok (.iload 7, 2) := by decide +kernel
theorem dx_X_store_90 : decode b_X_store 90 = .ok (.iload 5, 2) := by decide +kernel
theorem dx_X_store_92 : decode b_X_store 92 = .ok (.iload 9, 2) := by decide +kernel
theorem dx_X_store_94 : decode b_X_store 94 = .ok (.invokevirtual 84, 3) := by decide +kernel
theorem dx_X_store_97 : decode b_X_store 97 = .ok (.iload_n 3, 1) := by decide +kernel
theorem dx_X_store_98 : decode b_X_store 98 = .ok (.iconst 2, 1) := by decide +kernel
theorem dx_X_store_99 : decode b_X_store 99 = .ok (.if_icmp .ne 4, 3) := by decide +kernel
theorem dx_X_store_102 : decode b_X_store 102 = .ok (.return_, 1) := by decide +kernel
theorem dx_X_store_103 : decode b_X_store 103 = .ok (.aload_n 0, 1) := by decide +kernel
theorem dx_X_store_104 : decode b_X_store 104 = .ok (.iconst (-1), 1) := by decide +kernel
theorem dx_X_store_105 : decode b_X_store 105 = .ok (.putfield 24, 3) := by decide +kernel
theorem dx_X_store_108 : decode b_X_store 108 = .ok (.return_, 1) := by decide +kernel
theorem dx_X_moveGroup_0 : decode b_X_moveGroup 0 = .ok (.iconst 0, 1) := by decide +kernel
theorem dx_X_moveGroup_1 : decode b_X_moveGroup 1 = .ok (.istore_n 2, 1) := by decide +kernel
theorem dx_X_moveGroup_2 : decode b_X_moveGroup 2 = .ok (.iload_n 2, 1) := by decide +kernel
theorem dx_X_moveGroup_3 : decode b_X_moveGroup 3 = .ok (.iconst 4, 1) := by decide +kernel
theorem dx_X_moveGroup_4 : decode b_X_moveGroup 4 = .ok (.if_icmp .ge 28, 3) := by decide +kernel
theorem dx_X_moveGroup_7 : decode b_X_moveGroup 7 = .ok (.aload_n 0, 1) := by decide +kernel
theorem dx_X_moveGroup_8 : decode b_X_moveGroup 8 = .ok (.getfield 13, 3) := by decide +kernel
theorem dx_X_moveGroup_11 : decode b_X_moveGroup 11 = .ok (.iload_n 2, 1) := by decide +kernel
theorem dx_X_moveGroup_12 : decode b_X_moveGroup 12 = .ok (.aload_n 0, 1) := by decide +kernel
theorem dx_X_moveGroup_13 : decode b_X_moveGroup 13 = .ok (.iconst 4, 1) := by decide +kernel
theorem dx_X_moveGroup_14 : decode b_X_moveGroup 14 = .ok (.aload_n 0, 1) := by decide +kernel
theorem dx_X_moveGroup_15 : decode b_X_moveGroup 15 = .ok (.getfield 27, 3) := by decide +kernel
theorem dx_X_moveGroup_18 : decode b_X_moveGroup 18 = .ok (.imul, 1) := by decide +kernel
theorem dx_X_moveGroup_19 : decode b_X_moveGroup 19 = .ok (.iload_n 2, 1) := by decide +kernel
theorem dx_X_moveGroup_20 : decode b_X_moveGroup 20 = .ok (.iadd, 1) := by decide +kernel
theorem dx_X_moveGroup_21 : decode b_X_moveGroup 21 = .ok (.iconst 0, 1) := by decide +kernel
theorem dx_X_moveGroup_22 : decode b_X_moveGroup 22 = .ok (.invokevirtual 90, 3) := by decide +kernel
theorem dx_X_moveGroup_25 : decode b_X_moveGroup 25 = .ok (.iastore, 1) := by decide +kernel
theorem dx_X_moveGroup_26 : decode b_X_moveGroup 26 = .ok (.iinc 2 1, 3) := by decide +kernel
theorem dx_X_moveGroup_29 : decode b_X_moveGroup 29 = .ok (.goto (-27), 3) := by decide +kernel
theorem dx_X_moveGroup_32 : decode b_X_moveGroup 32 = .ok (.iload_n 1, 1) := by decide +kernel
theorem dx_X_moveGroup_33 : decode b_X_moveGroup 33 = .ok (.ifCond .ne 4, 3) := by decide +kernel
theorem dx_X_moveGroup_36 : decode b_X_moveGroup 36 = .ok (.return_, 1) := by decide +kernel
theorem dx_X_moveGroup_37 : decode b_X_moveGroup 37 = .ok (.aload_n 0, 1) := by decide +kernel
theorem dx_X_moveGroup_38 : decode b_X_moveGroup 38 = .ok (.getfield 27, 3) := by decide +kernel
theorem dx_X_moveGroup_41 : decode b_X_moveGroup 41 = .ok (.ifCond .ne 51, 3) := by decide +kernel
theorem dx_X_moveGroup_44 : decode b_X_moveGroup 44 = .ok (.iconst 0, 1) := by decide +kernel
theorem dx_X_moveGroup_45 : decode b_X_moveGroup 45 = .ok (.istore_n 2, 1) := by decide +kernel
theorem dx_X_moveGroup_46 : decode b_X_moveGroup 46 = .ok (.iload_n 2, 1) := by decide +kernel
theorem dx_X_moveGroup_47 : decode b_X_moveGroup 47 = .ok (.iconst 4, 1) := by decide +kernel
theorem dx_X_moveGroup_48 : decode b_X_moveGroup 48 = .ok (.if_icmp .ge 39, 3) := by decide +kernel
theorem dx_X_moveGroup_51 : decode b_X_moveGroup 51 = .ok (.aload_n 0, 1) := by decide +kernel
theorem dx_X_moveGroup_52 : decode b_X_moveGroup 52 = .ok (.iconst 3, 1) := by decide +kernel
theorem dx_X_moveGroup_53 : decode b_X_moveGroup 53 = .ok (.bipush 12, 2) := by decide +kernel
theorem dx_X_moveGroup_55 : decode b_X_moveGroup 55 = .ok (.iload_n 2, 1) := by decide +kernel
theorem dx_X_moveGroup_56 : decode b_X_moveGroup 56 = .ok (.iadd, 1) := by decide +kernel
theorem dx_X_moveGroup_57 : decode b_X_moveGroup 57 = .ok (.aload_n 0, 1) := by decide +kernel
theorem dx_X_moveGroup_58 : decode b_X_moveGroup 58 = .ok (.getfield 13, 3) := by decide +kernel
theorem dx_X_moveGroup_61 : decode b_X_moveGroup 61 = .ok (.iload_n 2, 1) := by decide +kernel
theorem dx_X_moveGroup_62 : decode b_X_moveGroup 62 = .ok (.iaload, 1) := by decide +kernel
theorem dx_X_moveGroup_63 : decode b_X_moveGroup 63 = .ok (.invokevirtual 84, 3) := by decide +kernel
theorem dx_X_moveGroup_66 : decode b_X_moveGroup 66 = .ok (.aload_n 0, 1) := by decide +kernel
theorem dx_X_moveGroup_67 : decode b_X_moveGroup 67 = .ok (.iconst 4, 1) := by decide +kernel
theorem dx_X_moveGroup_68 : decode b_X_moveGroup 68 = .ok (.bipush 12, 2) := by decide +kernel
theorem dx_X_moveGroup_70 : decode b_X_moveGroup 70 = .ok (.iload_n 2, 1) := by decide +kernel
theorem dx_X_moveGroup_71 : decode b_X_moveGroup 71 = .ok (.iadd, 1) := by decide +kernel
theorem dx_X_moveGroup_72 : decode b_X_moveGroup 72 = .ok (.aload_n 0, 1) := by decide +kernel
theorem dx_X_moveGroup_73 : decode b_X_moveGroup 73 = .ok (.getfield 13, 3) := by decide +kernel
theorem dx_X_moveGroup_76 : decode b_X_moveGroup 76 = .ok (.iload_n 2, 1) := by decide +kernel
theorem dx_X_moveGroup_77 : decode b_X_moveGroup 77 = .ok (.iaload, 1) := by decide +kernel
theorem dx_X_moveGroup_78 : decode b_X_moveGroup 78 = .ok (.invokevirtual 84, 3) := by decide +kernel
theorem dx_X_moveGroup_81 : decode b_X_moveGroup 81 = .ok (.iinc 2 1, 3) := by decide +kernel
theorem dx_X_moveGroup_84 : decode b_X_moveGroup 84 = .ok (.goto (-38), 3) := by decide +kernel
theorem dx_X_moveGroup_87 : decode b_X_moveGroup 87 = .ok (.aload_n 0, 1) := by decide +kernel
theorem dx_X_moveGroup_88 : decode b_X_moveGroup 88 = .ok (.iconst 1, 1) := by decide +kernel
theorem dx_X_moveGroup_89 : decode b_X_moveGroup 89 = .ok (.putfield 64, 3) := by decide +kernel
theorem dx_X_moveGroup_92 : decode b_X_moveGroup 92 = .ok (.iload_n 1, 1) := by decide +kernel
theorem dx_X_moveGroup_93 : decode b_X_moveGroup 93 = .ok (.iconst 1, 1) := by decide +kernel
theorem dx_X_moveGroup_94 : decode b_X_moveGroup 94 = .ok (.if_icmp .ne 4, 3) := by decide +kernel
theorem dx_X_moveGroup_97 : decode b_X_moveGroup 97 = .ok (.return_, 1) := by decide +kernel
theorem dx_X_moveGroup_98 : decode b_X_moveGroup 98 = .ok (.aload_n 0, 1) := by decide +kernel
theorem dx_X_moveGroup_99 : decode b_X_moveGroup 99 = .ok (.iconst 0, 1) := by decide +kernel
theorem dx_X_moveGroup_100 : decode b_X_moveGroup 100 = .ok (.iconst 2, 1) := by decide +kernel
theorem dx_X_moveGroup_101 : decode b_X_moveGroup 101 = .ok (.invokevirtual 99, 3) := by decide +kernel
theorem dx_X_moveGroup_104 : decode b_X_moveGroup 104 = .ok (.iload_n 1, 1) := by decide +kernel
theorem dx_X_moveGroup_105 : decode b_X_moveGroup 105 = .ok (.iconst 2, 1) := by decide +kernel
theorem dx_X_moveGroup_106 : decode b_X_moveGroup 106 = .ok (.if_icmp .ne 4, 3) := by decide +kernel
theorem dx_X_moveGroup_109 : decode b_X_moveGroup 109 = .ok (.return_, 1) := by decide +kernel
theorem dx_X_moveGroup_110 : decode b_X_moveGroup 110 = .ok (.aload_n 0, 1) := by decide +kernel
theorem dx_X_moveGroup_111 : decode b_X_moveGroup 111 = .ok (.iconst 2, 1) := by decide +kernel
theorem dx_X_moveGroup_112 : decode b_X_moveGroup 112 = .ok (.iconst 4, 1) := by decide +kernel
theorem dx_X_moveGroup_113 : decode b_X_moveGroup 113 = .ok (.invokevirtual 99, 3) := by decide +kernel
theorem dx_X_moveGroup_116 : decode b_X_moveGroup 116 = .ok (.aload_n 0, 1) := by decide +kernel
theorem dx_X_moveGroup_117 : decode b_X_moveGroup 117 = .ok (.aload_n 0, 1) := by decide +kernel
theorem dx_X_moveGroup_118 : decode b_X_moveGroup 118 = .ok (.getfield 27, 3) := by decide +kernel
theorem dx_X_moveGroup_121 : decode b_X_moveGroup 121 = .ok (.iconst 5, 1) := by decide +kernel
theorem dx_X_moveGroup_122 : decode b_X_moveGroup 122 = .ok (.irem, 1) := by decide +kernel
theorem dx_X_moveGroup_123 : decode b_X_moveGroup 123 = .ok (.aload_n 0, 1) := by decide +kernel
theorem dx_X_moveGroup_124 : decode b_X_moveGroup 124 = .ok (.getfield 27, 3) := by decide +kernel
theorem dx_X_moveGroup_127 : decode b_X_moveGroup 127 = .ok (.aload_n 0, 1) := by decide +kernel
theorem dx_X_moveGroup_128 : decode b_X_moveGroup 128 = .ok (.getfield 13, 3) := by decide +kernel
theorem dx_X_moveGroup_131 : decode b_X_moveGroup 131 = .ok (.iconst 0, 1) := by decide +kernel
theorem dx_X_moveGroup_132 : decode b_X_moveGroup 132 = .ok (.iaload, 1) := by decide +kernel
theorem dx_X_moveGroup_133 : decode b_X_moveGroup 133 = .ok (.aload_n 0, 1) := by decide +kernel
theorem dx_X_moveGroup_134 : decode b_X_moveGroup 134 = .ok (.getfield 13, 3) := by decide +kernel
theorem dx_X_moveGroup_137 : decode b_X_moveGroup 137 = .ok (.iconst 1, 1) := by decide +kernel
theorem dx_X_moveGroup_138 : decode b_X_moveGroup 138 = .ok (.iaload, 1) := by decide +kernel
theorem dx_X_moveGroup_139 : decode b_X_moveGroup 139 = .ok (.ixor, 1) := by decide +kernel
theorem dx_X_moveGroup_140 : decode b_X_moveGroup 140 = .ok (.aload_n 0, 1) := by decide +kernel
theorem dx_X_moveGroup_141 : decode b_X_moveGroup 141 = .ok (.getfield 13, 3) := by decide +kernel
theorem dx_X_moveGroup_144 : decode b_X_moveGroup 144 = .ok (.iconst 2, 1) := by decide +kernel
theorem dx_X_moveGroup_145 : decode b_X_moveGroup 145 = .ok (.iaload, 1) := by decide +kernel
theorem dx_X_moveGroup_146 : decode b_X_moveGroup 146 = .ok (.ixor, 1) := by decide +kernel
theorem dx_X_moveGroup_147 : decode b_X_moveGroup 147 = .ok (.aload_n 0, 1) := by decide +kernel
theorem dx_X_moveGroup_148 : decode b_X_moveGroup 148 = .ok (.getfield 13, 3) := by decide +kernel
theorem dx_X_moveGroup_151 : decode b_X_moveGroup 151 = .ok (.iconst 3, 1) := by decide +kernel
theorem dx_X_moveGroup_152 : decode b_X_moveGroup 152 = .ok (.iaload, 1) := by decide +kernel
theorem dx_X_moveGroup_153 : decode b_X_moveGroup 153 = .ok (.ixor, 1) := by decide +kernel
theorem dx_X_moveGroup_154 : decode b_X_moveGroup 154 = .ok (.invokevirtual 84, 3) := by decide +kernel
theorem dx_X_moveGroup_157 : decode b_X_moveGroup 157 = .ok (.iload_n 1, 1) := by decide +kernel
theorem dx_X_moveGroup_158 : decode b_X_moveGroup 158 = .ok (.iconst 3, 1) := by decide +kernel
theorem dx_X_moveGroup_159 : decode b_X_moveGroup 159 = .ok (.if_icmp .ne 4, 3) := by decide +kernel
theorem dx_X_moveGroup_162 : decode b_X_moveGroup 162 = .ok (.return_, 1) := by decide +kernel
theorem dx_X_moveGroup_163 : decode b_X_moveGroup 163 = .ok (.aload_n 0, 1) := by decide +kernel
theorem dx_X_moveGroup_164 : decode b_X_moveGroup 164 = .ok (.dup, 1) := by decide +kernel
theorem dx_X_moveGroup_165 : decode b_X_moveGroup 165 = .ok (.getfield 27, 3) := by decide +kernel
theorem dx_X_moveGroup_168 : decode b_X_moveGroup 168 = .ok (.iconst 1, 1) := by decide +kernel
theorem dx_X_moveGroup_169 : decode b_X_moveGroup 169 = .ok (.iadd, 1) := by decide +kernel
theorem dx_X_moveGroup_170 : decode b_X_moveGroup 170 = .ok (.putfield 27, 3) := by decide +kernel
theorem dx_X_moveGroup_173 : decode b_X_moveGroup 173 = .ok (.aload_n 0, 1) := by decide +kernel
theorem dx_X_moveGroup_174 : decode b_X_moveGroup 174 = .ok (.iconst 0, 1) := by decide +kernel
theorem dx_X_moveGroup_175 : decode b_X_moveGroup 175 = .ok (.putfield 64, 3) := by decide +kernel
theorem dx_X_moveGroup_178 : decode b_X_moveGroup 178 = .ok (.iload_n 1, 1) := by decide +kernel
theorem dx_X_moveGroup_179 : decode b_X_moveGroup 179 = .ok (.iconst 4, 1) := by decide +kernel
theorem dx_X_moveGroup_180 : decode b_X_moveGroup 180 = .ok (.if_icmp .le 16, 3) := by decide +kernel
theorem dx_X_moveGroup_183 : decode b_X_moveGroup 183 = .ok (.aload_n 0, 1) := by decide +kernel
theorem dx_X_moveGroup_184 : decode b_X_moveGroup 184 = .ok (.getfield 27, 3) := by decide +kernel
theorem dx_X_moveGroup_187 : decode b_X_moveGroup 187 = .ok (.bipush 6, 2) := by decide +kernel
theorem dx_X_moveGroup_189 : decode b_X_moveGroup 189 = .ok (.if_icmp .ne 7, 3) := by decide +kernel
theorem dx_X_moveGroup_192 : decode b_X_moveGroup 192 = .ok (.aload_n 0, 1) := by decide +kernel
theorem dx_X_moveGroup_193 : decode b_X_moveGroup 193 = .ok (.invokevirtual 70, 3) := by decide +kernel
theorem dx_X_moveGroup_196 : decode b_X_moveGroup 196 = .ok (.return_, 1) := by decide +kernel
theorem dx_X_writeWide_0 : decode b_X_writeWide 0 = .ok (.iload_n 1, 1) := by decide +kernel
theorem dx_X_writeWide_1 : decode b_X_writeWide 1 = .ok (.istore_n 3, 1) := by decide +kernel
theorem dx_X_writeWide_2 : decode b_X_writeWide 2 = .ok (.iload_n 3, 1) := by decide +kernel
theorem dx_X_writeWide_3 : decode b_X_writeWide 3 = .ok (.iload_n 2, 1) := by decide +kernel
theorem dx_X_writeWide_4 : decode b_X_writeWide 4 = .ok (.if_icmp .ge 39, 3) := by decide +kernel
theorem dx_X_writeWide_7 : decode b_X_writeWide 7 = .ok (.iconst 4, 1) := by decide +kernel
theorem dx_X_writeWide_8 : decode b_X_writeWide 8 = .ok (.aload_n 0, 1) := by decide +kernel
theorem dx_X_writeWide_9 : decode b_X_writeWide 9 = .ok (.getfield 27, 3) := by decide +kernel
theorem dx_X_writeWide_12 : decode b_X_writeWide 12 = .ok (.imul, 1) := by decide +kernel
theorem dx_X_writeWide_13 : decode b_X_writeWide 13 = .ok (.iload_n 3, 1) := by decide +kernel
theorem dx_X_writeWide_14 : decode b_X_writeWide 14 = .ok (.iadd, 1) := by decide +kernel
theorem dx_X_writeWide_15 : decode b_X_writeWide 15 = .ok (.iconst 1, 1) := by decide +kernel
theorem dx_X_writeWide_16 : decode b_X_writeWide 16 = .ok (.invokestatic 96, 3) := by decide +kernel
theorem dx_X_writeWide_19 : decode b_X_writeWide 19 = .ok (.istore 4, 2) := by decide +kernel
theorem dx_X_writeWide_21 : decode b_X_writeWide 21 = .ok (.aload_n 0, 1) := by decide +kernel
theorem dx_X_writeWide_22 : decode b_X_writeWide 22 = .ok (.iload 4, 2) := by decide +kernel
theorem dx_X_writeWide_24 : decode b_X_writeWide 24 = .ok (.aload_n 0, 1) := by decide +kernel
theorem dx_X_writeWide_25 : decode b_X_writeWide 25 = .ok (.getfield 27, 3) := by decide +kernel
theorem dx_X_writeWide_28 : decode b_X_writeWide 28 = .ok (.aload_n 0, 1) := by decide +kernel
theorem dx_X_writeWide_29 : decode b_X_writeWide 29 = .ok (.getfield 13, 3) := by decide +kernel
theorem dx_X_writeWide_32 : decode b_X_writeWide 32 = .ok (.iload_n 3, 1) := by decide +kernel
theorem dx_X_writeWide_33 : decode b_X_writeWide 33 = .ok (.iaload, 1) := by decide +kernel
theorem dx_X_writeWide_34 : decode b_X_writeWide 34 = .ok (.invokevirtual 84, 3) := by decide +kernel
theorem dx_X_writeWide_37 : decode b_X_writeWide 37 = .ok (.iinc 3 1, 3) := by decide +kernel
theorem dx_X_writeWide_40 : decode b_X_writeWide 40 = .ok (.goto (-38), 3) := by decide +kernel
theorem dx_X_writeWide_43 : decode b_X_writeWide 43 = .ok (.return_, 1) := by decide +kernel
theorem dx_X_finish_0 : decode b_X_finish 0 = .ok (.bipush 6, 2) := by decide +kernel
theorem dx_X_finish_2 : decode b_X_finish 2 = .ok (.istore_n 1, 1) := by decide +kernel
theorem dx_X_finish_3 : decode b_X_finish 3 = .ok (.iload_n 1, 1) := by decide +kernel
theorem dx_X_finish_4 : decode b_X_finish 4 = .ok (.bipush 12, 2) := by decide +kernel
theorem dx_X_finish_6 : decode b_X_finish 6 = .ok (.if_icmp .ge 29, 3) := by decide +kernel
theorem dx_X_finish_9 : decode b_X_finish 9 = .ok (.iconst 0, 1) := by decide +kernel
theorem dx_X_finish_10 : decode b_X_finish 10 = .ok (.istore_n 2, 1) := by decide +kernel
theorem dx_X_finish_11 : decode b_X_finish 11 = .ok (.iload_n 2, 1) := by decide +kernel
theorem dx_X_finish_12 : decode b_X_finish 12 = .ok (.iconst 5, 1) := by decide +kernel
theorem dx_X_finish_13 : decode b_X_finish 13 = .ok (.if_icmp .ge 16, 3) := by decide +kernel
theorem dx_X_finish_16 : decode b_X_finish 16 = .ok (.aload_n 0, 1) := by decide +kernel
theorem dx_X_finish_17 : decode b_X_finish 17 = .ok (.iload_n 2, 1) := by decide +kernel
theorem dx_X_finish_18 : decode b_X_finish 18 = .ok (.iload_n 1, 1) := by decide +kernel
theorem dx_X_finish_19 : decode b_X_finish 19 = .ok (.iconst 0, 1) := by decide +kernel
theorem dx_X_finish_20 : decode b_X_finish 20 = .ok (.invokevirtual 84, 3) := by decide +kernel
theorem dx_X_finish_23 : decode b_X_finish 23 = .ok (.iinc 2 1, 3) := by decide +kernel
theorem dx_X_finish_26 : decode b_X_finish 26 = .ok (.goto (-15), 3) := by decide +kernel
theorem dx_X_finish_29 : decode b_X_finish 29 = .ok (.iinc 1 1, 3) := by decide +kernel
theorem dx_X_finish_32 : decode b_X_finish 32 = .ok (.goto (-29), 3) := by decide +kernel
theorem dx_X_finish_35 : decode b_X_finish 35 = .ok (.aload_n 0, 1) := by decide +kernel
theorem dx_X_finish_36 : decode b_X_finish 36 = .ok (.iconst 2, 1) := by decide +kernel
theorem dx_X_finish_37 : decode b_X_finish 37 = .ok (.putfield 30, 3) := by decide +kernel
theorem dx_X_finish_40 : decode b_X_finish 40 = .ok (.return_, 1) := by decide +kernel
theorem dx_X_takeBack_0 : decode b_X_takeBack 0 = .ok (.aload_n 0, 1) := by decide +kernel
theorem dx_X_takeBack_1 : decode b_X_takeBack 1 = .ok (.getfield 20, 3) := by decide +kernel
theorem dx_X_takeBack_4 : decode b_X_takeBack 4 = .ok (.iconst 3, 1) := by decide +kernel
theorem dx_X_takeBack_5 : decode b_X_takeBack 5 = .ok (.if_icmp .ne 7, 3) := by decide +kernel
theorem dx_X_takeBack_8 : decode b_X_takeBack 8 = .ok (.iconst 4, 1) := by decide +kernel
theorem dx_X_takeBack_9 : decode b_X_takeBack 9 = .ok (.goto 4, 3) := by decide +kernel
theorem dx_X_takeBack_12 : decode b_X_takeBack 12 = .ok (.iconst 3, 1) := by decide +kernel
theorem dx_X_takeBack_13 : decode b_X_takeBack 13 = .ok (.istore_n 1, 1) := by decide +kernel
theorem dx_X_takeBack_14 : decode b_X_takeBack 14 = .ok (.iconst 0, 1) := by decide +kernel
theorem dx_X_takeBack_15 : decode b_X_takeBack 15 = .ok (.istore_n 2, 1) := by decide +kernel
theorem dx_X_takeBack_16 : decode b_X_takeBack 16 = .ok (.iload_n 2, 1) := by decide +kernel
theorem dx_X_takeBack_17 : decode b_X_takeBack 17 = .ok (.iconst 4, 1) := by decide +kernel
theorem dx_X_takeBack_18 : decode b_X_takeBack 18 = .ok (.if_icmp .ge 29, 3) := by decide +kernel
theorem dx_X_takeBack_21 : decode b_X_takeBack 21 = .ok (.aload_n 0, 1) := by decide +kernel
theorem dx_X_takeBack_22 : decode b_X_takeBack 22 = .ok (.getfield 13, 3) := by decide +kernel
theorem dx_X_takeBack_25 : decode b_X_takeBack 25 = .ok (.iload_n 2, 1) := by decide +kernel
theorem dx_X_takeBack_26 : decode b_X_takeBack 26 = .ok (.aload_n 0, 1) := by decide +kernel
theorem dx_X_takeBack_27 : decode b_X_takeBack 27 = .ok (.getfield 7, 3) := by decide +kernel
theorem dx_X_takeBack_30 : decode b_X_takeBack 30 = .ok (.iload_n 1, 1) := by decide +kernel
theorem dx_X_takeBack_31 : decode b_X_takeBack 31 = .ok (.bipush 16, 2) := by decide +kernel
theorem dx_X_takeBack_33 : decode b_X_takeBack 33 = .ok (.imul, 1) := by decide +kernel
theorem dx_X_takeBack_34 : decode b_X_takeBack 34 = .ok (.bipush 12, 2) := by decide +kernel
theorem dx_X_takeBack_36 : decode b_X_takeBack 36 = .ok (.iadd, 1) := by decide +kernel
theorem dx_X_takeBack_37 : decode b_X_takeBack 37 = .ok (.iload_n 2, 1) := by decide +kernel
theorem dx_X_takeBack_38 : decode b_X_takeBack 38 = .ok (.iadd, 1) := by decide +kernel
theorem dx_X_takeBack_39 : decode b_X_takeBack 39 = .ok (.iaload, 1) := by decide +kernel
theorem dx_X_takeBack_40 : decode b_X_takeBack 40 = .ok (.iastore, 1) := by decide +kernel
theorem dx_X_takeBack_41 : decode b_X_takeBack 41 = .ok (.iinc 2 1, 3) := by decide +kernel
theorem dx_X_takeBack_44 : decode b_X_takeBack 44 = .ok (.goto (-28), 3) := by decide +kernel
theorem dx_X_takeBack_47 : decode b_X_takeBack 47 = .ok (.iconst 0, 1) := by decide +kernel
theorem dx_X_takeBack_48 : decode b_X_takeBack 48 = .ok (.istore_n 2, 1) := by decide +kernel
theorem dx_X_takeBack_49 : decode b_X_takeBack 49 = .ok (.iload_n 2, 1) := by decide +kernel
theorem dx_X_takeBack_50 : decode b_X_takeBack 50 = .ok (.iconst 4, 1) := by decide +kernel
theorem dx_X_takeBack_51 : decode b_X_takeBack 51 = .ok (.if_icmp .ge 29, 3) := by decide +kernel
theorem dx_X_takeBack_54 : decode b_X_takeBack 54 = .ok (.iload_n 2, 1) := by decide +kernel
theorem dx_X_takeBack_55 : decode b_X_takeBack 55 = .ok (.iconst 0, 1) := by decide +kernel
theorem dx_X_takeBack_56 : decode b_X_takeBack 56 = .ok (.invokestatic 96, 3) := by decide +kernel
theorem dx_X_takeBack_59 : decode b_X_takeBack 59 = .ok (.istore_n 3, 1) := by decide +kernel
theorem dx_X_takeBack_60 : decode b_X_takeBack 60 = .ok (.aload_n 0, 1) := by decide +kernel
theorem dx_X_takeBack_61 : decode b_X_takeBack 61 = .ok (.iload_n 3, 1) := by decide +kernel
theorem dx_X_takeBack_62 : decode b_X_takeBack 62 = .ok (.iload_n 2, 1) := by decide +kernel
theorem dx_X_takeBack_63 : decode b_X_takeBack 63 = .ok (.iconst 1, 1) := by decide +kernel
theorem dx_X_takeBack_64 : decode b_X_takeBack 64 = .ok (.ishr, 1) := by decide +kernel
theorem dx_X_takeBack_65 : decode b_X_takeBack 65 = .ok (.aload_n 0, 1) := by decide +kernel
theorem dx_X_takeBack_66 : decode b_X_takeBack 66 = .ok (.getfield 13, 3) := by decide +kernel
theorem dx_X_takeBack_69 : decode b_X_takeBack 69 = .ok (.iload_n 2, 1) := by decide +kernel
theorem dx_X_takeBack_70 : decode b_X_takeBack 70 = .ok (.iaload, 1) := by decide +kernel
theorem dx_X_takeBack_71 : decode b_X_takeBack 71 = .ok (.invokevirtual 84, 3) := by decide +kernel
theorem dx_X_takeBack_74 : decode b_X_takeBack 74 = .ok (.iinc 2 1, 3) := by decide +kernel
theorem dx_X_takeBack_77 : decode b_X_takeBack 77 = .ok (.goto (-28), 3) := by decide +kernel
theorem dx_X_takeBack_80 : decode b_X_takeBack 80 = .ok (.aload_n 0, 1) := by decide +kernel
theorem dx_X_takeBack_81 : decode b_X_takeBack 81 = .ok (.iconst 0, 1) := by decide +kernel
theorem dx_X_takeBack_82 : decode b_X_takeBack 82 = .ok (.iconst 0, 1) := by decide +kernel
theorem dx_X_takeBack_83 : decode b_X_takeBack 83 = .ok (.aload_n 0, 1) := by decide +kernel
theorem dx_X_takeBack_84 : decode b_X_takeBack 84 = .ok (.getfield 13, 3) := by decide +kernel
theorem dx_X_takeBack_87 : decode b_X_takeBack 87 = .ok (.iconst 0, 1) := by decide +kernel
theorem dx_X_takeBack_88 : decode b_X_takeBack 88 = .ok (.iaload, 1) := by decide +kernel
theorem dx_X_takeBack_89 : decode b_X_takeBack 89 = .ok (.aload_n 0, 1) := by decide +kernel
theorem dx_X_takeBack_90 : decode b_X_takeBack 90 = .ok (.getfield 13, 3) := by decide +kernel
theorem dx_X_takeBack_93 : decode b_X_takeBack 93 = .ok (.iconst 1, 1) := by decide +kernel
theorem dx_X_takeBack_94 : decode b_X_takeBack 94 = .ok (.iaload, 1) := by decide +kernel
theorem dx_X_takeBack_95 : decode b_X_takeBack 95 = .ok (.ixor, 1) := by decide +kernel
theorem dx_X_takeBack_96 : decode b_X_takeBack 96 = .ok (.invokevirtual 84, 3) := by decide +kernel
theorem dx_X_takeBack_99 : decode b_X_takeBack 99 = .ok (.aload_n 0, 1) := by decide +kernel
theorem dx_X_takeBack_100 : decode b_X_takeBack 100 = .ok (.iconst 1, 1) := by decide +kernel
theorem dx_X_takeBack_101 : decode b_X_takeBack 101 = .ok (.iconst 1, 1) := by decide +kernel
theorem dx_X_takeBack_102 : decode b_X_takeBack 102 = .ok (.aload_n 0, 1) := by decide +kernel
theorem dx_X_takeBack_103 : decode b_X_takeBack 103 = .ok (.getfield 13, 3) := by decide +kernel
theorem dx_X_takeBack_106 : decode b_X_takeBack 106 = .ok (.iconst 2, 1) := by decide +kernel
theorem dx_X_takeBack_107 : decode b_X_takeBack 107 = .ok (.iaload, 1) := by decide +kernel
theorem dx_X_takeBack_108 : decode b_X_takeBack 108 = .ok (.aload_n 0, 1) := by decide +kernel
theorem dx_X_takeBack_109 : decode b_X_takeBack 109 = .ok (.getfield 13, 3) := by decide +kernel
theorem dx_X_takeBack_112 : decode b_X_takeBack 112 = .ok (.iconst 3, 1) := by decide +kernel
theorem dx_X_takeBack_113 : decode b_X_takeBack 113 = .ok (.iaload, 1) := by decide +kernel
theorem dx_X_takeBack_114 : decode b_X_takeBack 114 = .ok (.ixor, 1) := by decide +kernel
theorem dx_X_takeBack_115 : decode b_X_takeBack 115 = .ok (.invokevirtual 84, 3) := by decide +kernel
theorem dx_X_takeBack_118 : decode b_X_takeBack 118 = .ok (.aload_n 0, 1) := by decide +kernel
theorem dx_X_takeBack_119 : decode b_X_takeBack 119 = .ok (.iconst 0, 1) := by decide +kernel
theorem dx_X_takeBack_120 : decode b_X_takeBack 120 = .ok (.putfield 64, 3) := by decide +kernel
theorem dx_X_takeBack_123 : decode b_X_takeBack 123 = .ok (.return_, 1) := by decide +kernel
end
section
/-! the worlds: X's object with its two arrays, M's object with its array; a state is a tuple of plain values -/
abbrev XS : Type := (Nat → Int32) × (Nat → Int32) × Int32 × Int32 × Int32 × Int32 × Int32 × Int32
abbrev XK : Type := Nat × Nat × Nat × ClassId × ClassId
def xw (K : XK) (u : XS) : va_W := [(K.1, .inr (0, [.ref K.2.1, .ref K.2.2.1, .int u.2.2.1, .int u.2.2.2.1, .int u.2.2.2.2.1, .int u.2.2.2.2.2.1, .int u.2.2.2.2.2.2.1, .int u.2.2.2.2.2.2.2])), (K.2.1, .inl (K.2.2.2.1, 80, .inl u.1)), (K.2.2.1, .inl (K.2.2.2.2, 4, .inl u.2.1))]
def xt (K : XK) : List (ClassId × FieldType) := [(K.2.2.2.1, .int), (K.2.2.2.2, .int)]
abbrev MS : Type := (Nat → Int32) × Int32 × Int32 × Int32 × Int32
abbrev MK : Type := Nat × Nat × ClassId
def mw (J : MK) (v : MS) : va_W := [(J.1, .inr (1, [.ref J.2.1, .int v.2.1, .int v.2.2.1, .int v.2.2.2.1, .int v.2.2.2.2])), (J.2.1, .inl (J.2.2, 48, .inl v.1))]
def mt (J : MK) : List (ClassId × FieldType) := [(J.2.2, .int)]
/-- the machine holds the world wf u, nothing outside A has changed since the method's start -/
def gG {σ : Type} (D : va_G) (A : Nat → Prop) (s : State) (wf : σ → va_W) (ty : List (ClassId × FieldType)) (u : σ) (H : Heap) (locs : List Loc) : Prop :=
  va_P D classes (wf u) H ∧ va_D A (wf u) ∧ va_K D classes ty s ∧ va_S A s.heap H locs ∧ ∀ q : Nat, s.heap.size ≤ q → A q
def gPre {σ : Type} (D : va_G) (wf : σ → va_W) (ty : List (ClassId × FieldType)) (u : σ) (sz : Nat) (U : State) : Prop := U.heap.size = sz ∧ va_P D classes (wf u) U.heap ∧ va_K D classes ty U ∧ va_D (fun _ => True) (wf u)
def gAt {σ : Type} (D : va_G) (wf : σ → va_W) (ty : List (ClassId × FieldType)) (A : Nat → Prop) (u : σ) (t : State) : Prop := va_P D classes (wf u) t.heap ∧ va_K D classes ty t ∧ va_D A (wf u)
def gQi {σ : Type} (D : va_G) (wf : σ → va_W) (ty : List (ClassId × FieldType)) (A : Nat → Prop) (r : Int32) (u' : σ) : Array Value → State → Outcome → State → Prop := va_Qi (fun (r9 : Int32) (u9 : σ) => r9 = r ∧ u9 = u') (gAt D wf ty A) A
def gQv {σ : Type} (D : va_G) (wf : σ → va_W) (ty : List (ClassId × FieldType)) (A : Nat → Prop) (u' : σ) : Array Value → State → Outcome → State → Prop := va_Qv (fun (u9 : σ) => u9 = u') (gAt D wf ty A) A
/-- a contract: on the object at o, with the arguments as, from the state u: answers r, leaves u' -/
def gMi {σ : Type} (l : Launch) (y : MethodName) (ws : List Cond) (rm : Room) (o : Nat) (as : List Value) (wf : σ → va_W) (ty : List (ClassId × FieldType)) (u : σ) (r : Int32) (u' : σ) : Prop :=
  ∀ (D : va_G) (sz : Nat), Met l y ws rm (va_Pc (.ref o :: as) (gPre D wf ty u sz)) (gQi D wf ty (va_A (wf u) sz) r u') 0 0 (va_A (wf u) sz)
def gMv {σ : Type} (l : Launch) (y : MethodName) (ws : List Cond) (rm : Room) (o : Nat) (as : List Value) (wf : σ → va_W) (ty : List (ClassId × FieldType)) (u : σ) (u' : σ) : Prop :=
  ∀ (D : va_G) (sz : Nat), Met l y ws rm (va_Pc (.ref o :: as) (gPre D wf ty u sz)) (gQv D wf ty (va_A (wf u) sz) u') 0 0 (va_A (wf u) sz)
def xMi (l : Launch) (y : MethodName) (cd : Cond) (rm : Room) (as : List Value) (u : XS) (r : Int32) (u' : XS) : Prop := ∀ K : XK, gMi l y (cd :: lw_gd) rm K.1 as (xw K) (xt K) u r u'
def xMv (l : Launch) (y : MethodName) (cd : Cond) (rm : Room) (as : List Value) (u : XS) (u' : XS) : Prop := ∀ K : XK, gMv l y (cd :: lw_gd) rm K.1 as (xw K) (xt K) u u'
def mMi (l : Launch) (y : MethodName) (cd : Cond) (rm : Room) (as : List Value) (u : MS) (r : Int32) (u' : MS) : Prop := ∀ K : MK, gMi l y (cd :: lw_gd) rm K.1 as (mw K) (mt K) u r u'
def mMv (l : Launch) (y : MethodName) (cd : Cond) (rm : Room) (as : List Value) (u : MS) (u' : MS) : Prop := ∀ K : MK, gMv l y (cd :: lw_gd) rm K.1 as (mw K) (mt K) u u'
def sMi (l : Launch) (y : MethodName) (cd : Cond) (rm : Room) (as : List Value) (r : Int32) : Prop := Met l y (cd :: lw_gd) rm (fun v _ => v = as.toArray) (QcRead r) 0 0 (fun _ => False)
def rm_n (n : Nat) : Room := { frames := n, cells := 0, slots := 0, locals := 30 * n }
theorem gG_free {σ : Type} {D : va_G} {A : Nat → Prop} {s : State} {wf : σ → va_W} {ty : List (ClassId × FieldType)} {u : σ} {H : Heap} {locs : List Loc} (hG : gG D A s wf ty u H locs) : ∀ q, va_A (wf u) H.size q → A q := by
  intro q hq
  obtain ⟨hP, hD, hK, hS, hA⟩ := hG
  rcases hq with ⟨k, e, hk⟩ | h
  · exact hD.2 k _ hk
  · exact hA q (Nat.le_trans hS.1 h)
section RG
variable {p : Program} {l : Launch} {e : Env} {R : Room} {s : State} {m : MethodId} {args : Array Value} {below : List Frame} {meth : Method} {c : Code} {H : Heap} {locs : List Loc} {Q : State → Prop} {σ : Type}
variable {cc : ByteArray} {nL pc : Nat} {ls : Array Slot} {rest : List Value} {D : va_G} {A : Nat → Prop} {own : String}
theorem rg_top {x y : Int32} {cells slots : Nat} (h : x = y) (kk : W p l e R s m args below meth c H locs cells slots Q (F0 m pc ls (.int y :: rest))) : W p l e R s m args below meth c H locs cells slots Q (F0 m pc ls (.int x :: rest)) := h ▸ kk
theorem rg_ri {wf : σ → va_W} {ty : List (ClassId × FieldType)} {v r : Int32} {u9 u' : σ} (S : CallFix p m c cc nL s args lw_gd own) (hr : meth.sig.returnType = some .int) (hlk : meth.locks = false) (hG : gG D A s wf ty u9 H locs) (hdg : decode cc pc = .ok (.ireturn, 1)) (hp : v = r ∧ u9 = u') :
    W p l e R s m args below meth c H locs 0 0 (MQ below (gQi D wf ty A r u') args s 0 0 A) (F0 m pc ls [.int v]) := by
  obtain ⟨hP, hD, hK, hS, hA⟩ := hG
  exact W.iret (v := v) S.1 S.2.1 hr (fun t ht hW => ⟨⟨v, u9, rfl, hp, by rw [ht]; exact hP, va_K.moved hW.alike hK, hD⟩, hS.F ht⟩) hS.2.2 hdg (hlocks := hlk)
theorem rg_rz {wf : σ → va_W} {ty : List (ClassId × FieldType)} {v r : Int32} {u9 u' : σ} (S : CallFix p m c cc nL s args lw_gd own) (hr : meth.sig.returnType = some .boolean) (hlk : meth.locks = false) (hG : gG D A s wf ty u9 H locs) (hdg : decode cc pc = .ok (.ireturn, 1)) (hz : narrow .boolean (.int v) = .int v) (hp : v = r ∧ u9 = u') :
    W p l e R s m args below meth c H locs 0 0 (MQ below (gQi D wf ty A r u') args s 0 0 A) (F0 m pc ls [.int v]) := by
  obtain ⟨hP, hD, hK, hS, hA⟩ := hG
  exact W.zret (v := v) S.1 S.2.1 hr hz (fun t ht hW => ⟨⟨v, u9, rfl, hp, by rw [ht]; exact hP, va_K.moved hW.alike hK, hD⟩, hS.F ht⟩) hS.2.2 hdg (hlocks := hlk)
theorem rg_rv {wf : σ → va_W} {ty : List (ClassId × FieldType)} {u9 u' : σ} (S : CallFix p m c cc nL s args lw_gd own) (hr : meth.sig.returnType = none) (hlk : meth.locks = false) (hG : gG D A s wf ty u9 H locs) (hdg : decode cc pc = .ok (.return_, 1)) (hp : u9 = u') :
    W p l e R s m args below meth c H locs 0 0 (MQ below (gQv D wf ty A u') args s 0 0 A) (F0 m pc ls []) := by
  obtain ⟨hP, hD, hK, hS, hA⟩ := hG
  exact W.vret S.1 S.2.1 hr (fun t ht hW => ⟨⟨u9, rfl, hp, by rw [ht]; exact hP, va_K.moved hW.alike hK, hD⟩, hS.F ht⟩) hS.2.2 hdg (hlocks := hlk)
theorem rs_ri {v r : Int32} (S : CallFix p m c cc nL s args lw_gd own) (hr : meth.sig.returnType = some .int) (hlk : meth.locks = false) (hdg : decode cc pc = .ok (.ireturn, 1)) (hp : v = r) :
    W p l e R s m args below meth c s.heap [] 0 0 (MQ below (QcRead r) args s 0 0 (fun _ => False)) (F0 m pc ls [.int v]) := by
  subst hp
  exact W.iret (v := v) S.1 S.2.1 hr (fun t ht hW => ⟨rfl, ht⟩) (fun q h => by cases h) hdg (hlocks := hlk)
theorem rg_ci {wf : σ → va_W} {ty : List (ClassId × FieldType)} {y : MethodName} {bytes : ByteArray} {maxL n idx o : Nat} {ret : Option FieldType} {rm : Room} {as st0 : List Value} {C : String} {u u' : σ} {r : Int32}
    (S : CallFix p m c cc nL s args lw_gd own) (hM : gMi l y (.code y bytes maxL ret :: lw_gd) rm o as wf ty u r u') (hg : GoodIn lw_gd (wsV own idx C y (.code y bytes maxL ret :: lw_gd))) (hd : y.cls = C ∧ y.cls ≠ "java/lang/invoke/MethodHandle" ∧ y.cls ≠ "java/lang/invoke/VarHandle" ∧ (parseMethodDescriptor y.desc).map (fun d => d.parameters.length) = some n)
    (hrc : rm.cells = 0 ∧ rm.slots = 0) (hR : rm.frames + 1 ≤ R.frames ∧ 8 + (maxL + 11) + rm.locals ≤ R.locals) (hn : as.length = n) (hrv : ∃ cellB : Cell, H[o]? = some cellB ∧ cellB.vm.isStatics = false ∧ s.vm.findClass C = some cellB.cls)
    (hG : gG D A s wf ty u H locs) (hls : ls.size = nL) (hst : st0 = as.reverse ++ .ref o :: rest) (hW : (rest.map fun v => v.category).sum ≤ 8) (hdg : decode cc pc = .ok (.invokevirtual idx, 3))
    (kk : ∀ (H1 : Heap) (locs1 : List Loc), gG D A s wf ty u' H1 locs1 → W p l e R s m args below meth c H1 locs1 0 0 Q (F0 m (pc + 3) ls (.int r :: rest))) : W p l e R s m args below meth c H locs 0 0 Q (F0 m pc ls st0) := by
  have hF := gG_free hG
  obtain ⟨hP, hD, hK, hS, hA⟩ := hG
  refine va_calli (va_runV (As := as) (rest := rest) S (hM D H.size) (cwV n S.2.2.2.2 hg rfl hrc.1 hrc.2 hd hR) ⟨fun a U g mk q => ?_, hrv, fun U hU hW => ⟨rfl, by rw [hU], by rw [hU]; exact hP, va_K.moved hW.alike hK, hD.weaken (fun _ _ _ _ => trivial)⟩⟩ rfl hn hls hst (lv_room hW) hdg ⟨Nat.zero_le _, Nat.zero_le _⟩) hS (fun q _ h => hF q h) hF (fun r9 u9 t H1 locs1 ht hvm hw hB hz1 hk1 hS => ?_)
  · obtain ⟨q0, q1, qP, qK, qD⟩ := q
    exact ⟨q0, q1, qP, va_K.moved (u := U) (U := U.calling g mk a) (Vm.Alike.refl U.vm) qK, qD⟩
  · obtain ⟨e1, e2⟩ := hw
    subst e1 e2
    obtain ⟨hP1, hK1, hD1⟩ := hB
    rw [ht] at hP1
    exact kk H1 locs1 ⟨hP1, hD1.weaken (fun k q _ h => hF _ h), hK, hS, hA⟩
theorem rg_cv {wf : σ → va_W} {ty : List (ClassId × FieldType)} {y : MethodName} {bytes : ByteArray} {maxL n idx o : Nat} {ret : Option FieldType} {rm : Room} {as st0 : List Value} {C : String} {u u' : σ}
    (S : CallFix p m c cc nL s args lw_gd own) (hM : gMv l y (.code y bytes maxL ret :: lw_gd) rm o as wf ty u u') (hg : GoodIn lw_gd (wsV own idx C y (.code y bytes maxL ret :: lw_gd))) (hd : y.cls = C ∧ y.cls ≠ "java/lang/invoke/MethodHandle" ∧ y.cls ≠ "java/lang/invoke/VarHandle" ∧ (parseMethodDescriptor y.desc).map (fun d => d.parameters.length) = some n)
    (hrc : rm.cells = 0 ∧ rm.slots = 0) (hR : rm.frames + 1 ≤ R.frames ∧ 8 + (maxL + 11) + rm.locals ≤ R.locals) (hn : as.length = n) (hrv : ∃ cellB : Cell, H[o]? = some cellB ∧ cellB.vm.isStatics = false ∧ s.vm.findClass C = some cellB.cls)
    (hG : gG D A s wf ty u H locs) (hls : ls.size = nL) (hst : st0 = as.reverse ++ .ref o :: rest) (hW : (rest.map fun v => v.category).sum ≤ 8) (hdg : decode cc pc = .ok (.invokevirtual idx, 3))
    (kk : ∀ (H1 : Heap) (locs1 : List Loc), gG D A s wf ty u' H1 locs1 → W p l e R s m args below meth c H1 locs1 0 0 Q (F0 m (pc + 3) ls rest)) : W p l e R s m args below meth c H locs 0 0 Q (F0 m pc ls st0) := by
  have hF := gG_free hG
  obtain ⟨hP, hD, hK, hS, hA⟩ := hG
  refine va_callv (va_runV (As := as) (rest := rest) S (hM D H.size) (cwV n S.2.2.2.2 hg rfl hrc.1 hrc.2 hd hR) ⟨fun a U g mk q => ?_, hrv, fun U hU hW => ⟨rfl, by rw [hU], by rw [hU]; exact hP, va_K.moved hW.alike hK, hD.weaken (fun _ _ _ _ => trivial)⟩⟩ rfl hn hls hst (lv_room hW) hdg ⟨Nat.zero_le _, Nat.zero_le _⟩) hS (fun q _ h => hF q h) hF (fun u9 t H1 locs1 ht hvm hw hB hz1 hk1 hS => ?_)
  · obtain ⟨q0, q1, qP, qK, qD⟩ := q
    exact ⟨q0, q1, qP, va_K.moved (u := U) (U := U.calling g mk a) (Vm.Alike.refl U.vm) qK, qD⟩
  · have e2 : u9 = u' := hw
    subst e2
    obtain ⟨hP1, hK1, hD1⟩ := hB
    rw [ht] at hP1
    exact kk H1 locs1 ⟨hP1, hD1.weaken (fun k q _ h => hF _ h), hK, hS, hA⟩
theorem rs_ci {y : MethodName} {bytes : ByteArray} {maxL n idx : Nat} {ret : Option FieldType} {rm : Room} {as st0 : List Value} {r : Int32}
    (S : CallFix p m c cc nL s args lw_gd own) (hM : sMi l y (.code y bytes maxL ret) rm as r) (hg : GoodIn lw_gd (wsS own idx y (.code y bytes maxL ret :: lw_gd))) (hd : y.cls = own ∧ y.cls ≠ "java/lang/invoke/MethodHandle" ∧ y.cls ≠ "java/lang/invoke/VarHandle" ∧ (parseMethodDescriptor y.desc).map (fun d => d.parameters.length) = some n)
    (hrc : rm.cells = 0 ∧ rm.slots = 0) (hR : rm.frames + 1 ≤ R.frames ∧ 8 + (maxL + 11) + rm.locals ≤ R.locals) (hn : as.length = n)
    (hls : ls.size = nL) (hst : st0 = as.reverse ++ rest) (hW : (rest.map fun v => v.category).sum ≤ 8) (hdg : decode cc pc = .ok (.invokestatic idx, 3))
    (kk : W p l e R s m args below meth c H locs 0 0 Q (F0 m (pc + 3) ls (.int r :: rest))) : W p l e R s m args below meth c H locs 0 0 Q (F0 m pc ls st0) :=
  W.callR (W.runS (As := as) (rest := rest) S hM (cwS n S.2.2.2.2 hg rfl hrc.1 hrc.2 hd hR) preEq rfl hn hls hst (lv_room hW) hdg ⟨Nat.zero_le _, Nat.zero_le _⟩) kk
end RG
/-- a contract out of the walk of the body -/
theorem gMi_of {σ : Type} {l : Launch} {y : MethodName} {cc : ByteArray} {nL o : Nat} {rt : Option FieldType} {rm : Room} {as : List Value} {wf : σ → va_W} {ty : List (ClassId × FieldType)} {u u' : σ} {r : Int32} {own : String} (hy : plainName y.cls = true) (hc : y.cls = own) (hlen : (lg_sl (.ref o :: as)).length ≤ nL)
    (body : ∀ (p : Program) (e : Env) (s : State) (m : MethodId) (args : Array Value) (below : List Frame) (meth : Method) (c : Code) (D : va_G) (A : Nat → Prop), CallFix p m c cc nL s args lw_gd own → meth.sig.returnType = rt → meth.locks = false → gG D A s wf ty u s.heap [] → ∀ ls : Array Slot, lv_has ls nL (lv_args 0 (.ref o :: as)) → W p l e rm s m args below meth c s.heap [] 0 0 (MQ below (gQi D wf ty A r u') args s 0 0 A) (F0 m 0 ls [])) :
    gMi l y (.code y cc nL rt :: lw_gd) rm o as wf ty u r u' := by
  intro D sz
  refine Met.ofW (cc := cc) (maxL := nL) (ret := rt) hy rfl ?_
  intro p e s m args below meth c s₁ B hml hv
  obtain ⟨hargs, hsz, hP, hK, hD0⟩ := hv
  have hts := atoms_spec (ws := (.code y cc nL rt :: lw_gd)) B.pre
  have hown : s.vm.findClass y.cls = some m.cls := findClass_of_methodNamed B.named
  subst hsz
  have hl := lv_entry (.ref o :: as) hlen
  have key := body p e s m args below meth c D (va_A (wf u) s.heap.size) ⟨B.exec, B.bytes, hml, hc ▸ hown, fun w h => hts w (List.mem_cons_of_mem _ h)⟩ B.returns B.notSynchronized ⟨hP, hD0.self, hK, va_S.rf, fun q h => Or.inr h⟩ _ hl
  subst hargs
  rw [lg_entry_eq]
  exact key
theorem gMv_of {σ : Type} {l : Launch} {y : MethodName} {cc : ByteArray} {nL o : Nat} {rt : Option FieldType} {rm : Room} {as : List Value} {wf : σ → va_W} {ty : List (ClassId × FieldType)} {u u' : σ} {own : String} (hy : plainName y.cls = true) (hc : y.cls = own) (hlen : (lg_sl (.ref o :: as)).length ≤ nL)
    (body : ∀ (p : Program) (e : Env) (s : State) (m : MethodId) (args : Array Value) (below : List Frame) (meth : Method) (c : Code) (D : va_G) (A : Nat → Prop), CallFix p m c cc nL s args lw_gd own → meth.sig.returnType = rt → meth.locks = false → gG D A s wf ty u s.heap [] → ∀ ls : Array Slot, lv_has ls nL (lv_args 0 (.ref o :: as)) → W p l e rm s m args below meth c s.heap [] 0 0 (MQ below (gQv D wf ty A u') args s 0 0 A) (F0 m 0 ls [])) :
    gMv l y (.code y cc nL rt :: lw_gd) rm o as wf ty u u' := by
  intro D sz
  refine Met.ofW (cc := cc) (maxL := nL) (ret := rt) hy rfl ?_
  intro p e s m args below meth c s₁ B hml hv
  obtain ⟨hargs, hsz, hP, hK, hD0⟩ := hv
  have hts := atoms_spec (ws := (.code y cc nL rt :: lw_gd)) B.pre
  have hown : s.vm.findClass y.cls = some m.cls := findClass_of_methodNamed B.named
  subst hsz
  have hl := lv_entry (.ref o :: as) hlen
  have key := body p e s m args below meth c D (va_A (wf u) s.heap.size) ⟨B.exec, B.bytes, hml, hc ▸ hown, fun w h => hts w (List.mem_cons_of_mem _ h)⟩ B.returns B.notSynchronized ⟨hP, hD0.self, hK, va_S.rf, fun q h => Or.inr h⟩ _ hl
  subst hargs
  rw [lg_entry_eq]
  exact key
theorem sMi_of {l : Launch} {y : MethodName} {cc : ByteArray} {nL : Nat} {rt : Option FieldType} {rm : Room} {as : List Value} {r : Int32} {own : String} (hy : plainName y.cls = true) (hc : y.cls = own) (hlen : (lg_sl as).length ≤ nL)
    (body : ∀ (p : Program) (e : Env) (s : State) (m : MethodId) (args : Array Value) (below : List Frame) (meth : Method) (c : Code), CallFix p m c cc nL s args lw_gd own → meth.sig.returnType = rt → meth.locks = false → ∀ ls : Array Slot, lv_has ls nL (lv_args 0 as) → W p l e rm s m args below meth c s.heap [] 0 0 (MQ below (QcRead r) args s 0 0 (fun _ => False)) (F0 m 0 ls [])) :
    sMi l y (.code y cc nL rt) rm as r := by
  refine Met.ofW (cc := cc) (maxL := nL) (ret := rt) hy rfl ?_
  intro p e s m args below meth c s₁ B hml hargs
  have hts := atoms_spec (ws := (.code y cc nL rt :: lw_gd)) B.pre
  have hown : s.vm.findClass y.cls = some m.cls := findClass_of_methodNamed B.named
  have hl := lv_entry as hlen
  have key := body p e s m args below meth c ⟨B.exec, B.bytes, hml, hc ▸ hown, fun w h => hts w (List.mem_cons_of_mem _ h)⟩ B.returns B.notSynchronized _ hl
  subst hargs
  rw [lg_entry_eq]
  exact key
section RX
variable {p : Program} {l : Launch} {e : Env} {R : Room} {s : State} {m : MethodId} {args : Array Value} {below : List Frame} {meth : Method} {c : Code} {H : Heap} {locs : List Loc} {Q : State → Prop}
variable {cc : ByteArray} {nL pc : Nat} {ls : Array Slot} {rest : List Value} {D : va_G} {A : Nat → Prop}
variable {K : XK} {d g : Nat → Int32} {ru fm st mv cp op : Int32} {cells slots : Nat}
theorem rx_g0 (S : CallFix p m c cc nL s args lw_gd R_X) (hG : gG D A s (xw K) (xt K) (d, g, ru, fm, st, mv, cp, op) H locs) (hdg : decode cc pc = .ok (.getfield 7, 3)) (kk : W p l e R s m args below meth c H locs cells slots Q (F0 m (pc + 3) ls (.ref K.2.1 :: rest))) : W p l e R s m args below meth c H locs cells slots Q (F0 m pc ls (.ref K.1 :: rest)) :=
  va_get (D := D) (ci := 0) (v := .ref K.2.1) (C := R_X) (T := F_X) (N := 8) S.1 S.2.1 S.2.2.2.2 i_X S.2.2.2.1 hG.2.2.1 hG.1 0 rfl rfl 0 (by decide) (S.2.2.2.2 _ kw_11) (fun _ h9 => h9) rfl hdg kk
theorem rx_g1 (S : CallFix p m c cc nL s args lw_gd R_X) (hG : gG D A s (xw K) (xt K) (d, g, ru, fm, st, mv, cp, op) H locs) (hdg : decode cc pc = .ok (.getfield 13, 3)) (kk : W p l e R s m args below meth c H locs cells slots Q (F0 m (pc + 3) ls (.ref K.2.2.1 :: rest))) : W p l e R s m args below meth c H locs cells slots Q (F0 m pc ls (.ref K.1 :: rest)) :=
  va_get (D := D) (ci := 0) (v := .ref K.2.2.1) (C := R_X) (T := F_X) (N := 8) S.1 S.2.1 S.2.2.2.2 i_X S.2.2.2.1 hG.2.2.1 hG.1 0 rfl rfl 1 (by decide) (S.2.2.2.2 _ kw_12) (fun _ h9 => h9) rfl hdg kk
theorem rx_g2 (S : CallFix p m c cc nL s args lw_gd R_X) (hG : gG D A s (xw K) (xt K) (d, g, ru, fm, st, mv, cp, op) H locs) (hdg : decode cc pc = .ok (.getfield 16, 3)) (kk : W p l e R s m args below meth c H locs cells slots Q (F0 m (pc + 3) ls (.int ru :: rest))) : W p l e R s m args below meth c H locs cells slots Q (F0 m pc ls (.ref K.1 :: rest)) :=
  va_get (D := D) (ci := 0) (v := .int ru) (C := R_X) (T := F_X) (N := 8) S.1 S.2.1 S.2.2.2.2 i_X S.2.2.2.1 hG.2.2.1 hG.1 0 rfl rfl 2 (by decide) (S.2.2.2.2 _ kw_13) (fun _ h9 => h9) rfl hdg kk
theorem rx_p2 {v : Int32} (S : CallFix p m c cc nL s args lw_gd R_X) (hG : gG D A s (xw K) (xt K) (d, g, ru, fm, st, mv, cp, op) H locs) (hdg : decode cc pc = .ok (.putfield 16, 3)) (hz : narrow .boolean (.int v) = .int v) (hz2 : fits .boolean (.int v) = true) (kk : ∀ (H1 : Heap) (locs1 : List Loc), gG D A s (xw K) (xt K) (d, g, v, fm, st, mv, cp, op) H1 locs1 → W p l e R s m args below meth c H1 locs1 cells slots Q (F0 m (pc + 3) ls rest)) : W p l e R s m args below meth c H locs cells slots Q (F0 m pc ls (.int v :: .ref K.1 :: rest)) :=
  va_put (D := D) (ci := 0) (v := .int v) (ty := .boolean) (C := R_X) (T := F_X) (N := 8) S.1 S.2.1 S.2.2.2.2 i_X t_X t_X_ok n_X S.2.2.2.1 hG.2.2.1 hG.1 hG.2.1 hG.2.2.2.1 0 rfl rfl 2 (by decide) (S.2.2.2.2 _ kw_13) (fun _ h9 => h9) rfl (by decide +kernel) hz hz2 (Nat.le_of_ble_eq_true rfl) hdg (fun H1 l1 a b c => kk H1 l1 ⟨a, b, hG.2.2.1, c, hG.2.2.2.2⟩)
theorem rx_g3 (S : CallFix p m c cc nL s args lw_gd R_X) (hG : gG D A s (xw K) (xt K) (d, g, ru, fm, st, mv, cp, op) H locs) (hdg : decode cc pc = .ok (.getfield 20, 3)) (kk : W p l e R s m args below meth c H locs cells slots Q (F0 m (pc + 3) ls (.int fm :: rest))) : W p l e R s m args below meth c H locs cells slots Q (F0 m pc ls (.ref K.1 :: rest)) :=
  va_get (D := D) (ci := 0) (v := .int fm) (C := R_X) (T := F_X) (N := 8) S.1 S.2.1 S.2.2.2.2 i_X S.2.2.2.1 hG.2.2.1 hG.1 0 rfl rfl 3 (by decide) (S.2.2.2.2 _ kw_14) (fun _ h9 => h9) rfl hdg kk
theorem rx_p3 {v : Int32} (S : CallFix p m c cc nL s args lw_gd R_X) (hG : gG D A s (xw K) (xt K) (d, g, ru, fm, st, mv, cp, op) H locs) (hdg : decode cc pc = .ok (.putfield 20, 3)) (kk : ∀ (H1 : Heap) (locs1 : List Loc), gG D A s (xw K) (xt K) (d, g, ru, v, st, mv, cp, op) H1 locs1 → W p l e R s m args below meth c H1 locs1 cells slots Q (F0 m (pc + 3) ls rest)) : W p l e R s m args below meth c H locs cells slots Q (F0 m pc ls (.int v :: .ref K.1 :: rest)) :=
  va_put (D := D) (ci := 0) (v := .int v) (ty := .int) (C := R_X) (T := F_X) (N := 8) S.1 S.2.1 S.2.2.2.2 i_X t_X t_X_ok n_X S.2.2.2.1 hG.2.2.1 hG.1 hG.2.1 hG.2.2.2.1 0 rfl rfl 3 (by decide) (S.2.2.2.2 _ kw_14) (fun _ h9 => h9) rfl (by decide +kernel) rfl rfl (Nat.le_of_ble_eq_true rfl) hdg (fun H1 l1 a b c => kk H1 l1 ⟨a, b, hG.2.2.1, c, hG.2.2.2.2⟩)
theorem rx_g4 (S : CallFix p m c cc nL s args lw_gd R_X) (hG : gG D A s (xw K) (xt K) (d, g, ru, fm, st, mv, cp, op) H locs) (hdg : decode cc pc = .ok (.getfield 30, 3)) (kk : W p l e R s m args below meth c H locs cells slots Q (F0 m (pc + 3) ls (.int st :: rest))) : W p l e R s m args below meth c H locs cells slots Q (F0 m pc ls (.ref K.1 :: rest)) :=
  va_get (D := D) (ci := 0) (v := .int st) (C := R_X) (T := F_X) (N := 8) S.1 S.2.1 S.2.2.2.2 i_X S.2.2.2.1 hG.2.2.1 hG.1 0 rfl rfl 4 (by decide) (S.2.2.2.2 _ kw_15) (fun _ h9 => h9) rfl hdg kk
theorem rx_p4 {v : Int32} (S : CallFix p m c cc nL s args lw_gd R_X) (hG : gG D A s (xw K) (xt K) (d, g, ru, fm, st, mv, cp, op) H locs) (hdg : decode cc pc = .ok (.putfield 30, 3)) (kk : ∀ (H1 : Heap) (locs1 : List Loc), gG D A s (xw K) (xt K) (d, g, ru, fm, v, mv, cp, op) H1 locs1 → W p l e R s m args below meth c H1 locs1 cells slots Q (F0 m (pc + 3) ls rest)) : W p l e R s m args below meth c H locs cells slots Q (F0 m pc ls (.int v :: .ref K.1 :: rest)) :=
  va_put (D := D) (ci := 0) (v := .int v) (ty := .int) (C := R_X) (T := F_X) (N := 8) S.1 S.2.1 S.2.2.2.2 i_X t_X t_X_ok n_X S.2.2.2.1 hG.2.2.1 hG.1 hG.2.1 hG.2.2.2.1 0 rfl rfl 4 (by decide) (S.2.2.2.2 _ kw_15) (fun _ h9 => h9) rfl (by decide +kernel) rfl rfl (Nat.le_of_ble_eq_true rfl) hdg (fun H1 l1 a b c => kk H1 l1 ⟨a, b, hG.2.2.1, c, hG.2.2.2.2⟩)
theorem rx_g5 (S : CallFix p m c cc nL s args lw_gd R_X) (hG : gG D A s (xw K) (xt K) (d, g, ru, fm, st, mv, cp, op) H locs) (hdg : decode cc pc = .ok (.getfield 27, 3)) (kk : W p l e R s m args below meth c H locs cells slots Q (F0 m (pc + 3) ls (.int mv :: rest))) : W p l e R s m args below meth c H locs cells slots Q (F0 m pc ls (.ref K.1 :: rest)) :=
  va_get (D := D) (ci := 0) (v := .int mv) (C := R_X) (T := F_X) (N := 8) S.1 S.2.1 S.2.2.2.2 i_X S.2.2.2.1 hG.2.2.1 hG.1 0 rfl rfl 5 (by decide) (S.2.2.2.2 _ kw_16) (fun _ h9 => h9) rfl hdg kk
theorem rx_p5 {v : Int32} (S : CallFix p m c cc nL s args lw_gd R_X) (hG : gG D A s (xw K) (xt K) (d, g, ru, fm, st, mv, cp, op) H locs) (hdg : decode cc pc = .ok (.putfield 27, 3)) (kk : ∀ (H1 : Heap) (locs1 : List Loc), gG D A s (xw K) (xt K) (d, g, ru, fm, st, v, cp, op) H1 locs1 → W p l e R s m args below meth c H1 locs1 cells slots Q (F0 m (pc + 3) ls rest)) : W p l e R s m args below meth c H locs cells slots Q (F0 m pc ls (.int v :: .ref K.1 :: rest)) :=
  va_put (D := D) (ci := 0) (v := .int v) (ty := .int) (C := R_X) (T := F_X) (N := 8) S.1 S.2.1 S.2.2.2.2 i_X t_X t_X_ok n_X S.2.2.2.1 hG.2.2.1 hG.1 hG.2.1 hG.2.2.2.1 0 rfl rfl 5 (by decide) (S.2.2.2.2 _ kw_16) (fun _ h9 => h9) rfl (by decide +kernel) rfl rfl (Nat.le_of_ble_eq_true rfl) hdg (fun H1 l1 a b c => kk H1 l1 ⟨a, b, hG.2.2.1, c, hG.2.2.2.2⟩)
theorem rx_g6 (S : CallFix p m c cc nL s args lw_gd R_X) (hG : gG D A s (xw K) (xt K) (d, g, ru, fm, st, mv, cp, op) H locs) (hdg : decode cc pc = .ok (.getfield 64, 3)) (kk : W p l e R s m args below meth c H locs cells slots Q (F0 m (pc + 3) ls (.int cp :: rest))) : W p l e R s m args below meth c H locs cells slots Q (F0 m pc ls (.ref K.1 :: rest)) :=
  va_get (D := D) (ci := 0) (v := .int cp) (C := R_X) (T := F_X) (N := 8) S.1 S.2.1 S.2.2.2.2 i_X S.2.2.2.1 hG.2.2.1 hG.1 0 rfl rfl 6 (by decide) (S.2.2.2.2 _ kw_17) (fun _ h9 => h9) rfl hdg kk
theorem rx_p6 {v : Int32} (S : CallFix p m c cc nL s args lw_gd R_X) (hG : gG D A s (xw K) (xt K) (d, g, ru, fm, st, mv, cp, op) H locs) (hdg : decode cc pc = .ok (.putfield 64, 3)) (hz : narrow .boolean (.int v) = .int v) (hz2 : fits .boolean (.int v) = true) (kk : ∀ (H1 : Heap) (locs1 : List Loc), gG D A s (xw K) (xt K) (d, g, ru, fm, st, mv, v, op) H1 locs1 → W p l e R s m args below meth c H1 locs1 cells slots Q (F0 m (pc + 3) ls rest)) : W p l e R s m args below meth c H locs cells slots Q (F0 m pc ls (.int v :: .ref K.1 :: rest)) :=
  va_put (D := D) (ci := 0) (v := .int v) (ty := .boolean) (C := R_X) (T := F_X) (N := 8) S.1 S.2.1 S.2.2.2.2 i_X t_X t_X_ok n_X S.2.2.2.1 hG.2.2.1 hG.1 hG.2.1 hG.2.2.2.1 0 rfl rfl 6 (by decide) (S.2.2.2.2 _ kw_17) (fun _ h9 => h9) rfl (by decide +kernel) hz hz2 (Nat.le_of_ble_eq_true rfl) hdg (fun H1 l1 a b c => kk H1 l1 ⟨a, b, hG.2.2.1, c, hG.2.2.2.2⟩)
theorem rx_g7 (S : CallFix p m c cc nL s args lw_gd R_X) (hG : gG D A s (xw K) (xt K) (d, g, ru, fm, st, mv, cp, op) H locs) (hdg : decode cc pc = .ok (.getfield 24, 3)) (kk : W p l e R s m args below meth c H locs cells slots Q (F0 m (pc + 3) ls (.int op :: rest))) : W p l e R s m args below meth c H locs cells slots Q (F0 m pc ls (.ref K.1 :: rest)) :=
  va_get (D := D) (ci := 0) (v := .int op) (C := R_X) (T := F_X) (N := 8) S.1 S.2.1 S.2.2.2.2 i_X S.2.2.2.1 hG.2.2.1 hG.1 0 rfl rfl 7 (by decide) (S.2.2.2.2 _ kw_18) (fun _ h9 => h9) rfl hdg kk
theorem rx_p7 {v : Int32} (S : CallFix p m c cc nL s args lw_gd R_X) (hG : gG D A s (xw K) (xt K) (d, g, ru, fm, st, mv, cp, op) H locs) (hdg : decode cc pc = .ok (.putfield 24, 3)) (kk : ∀ (H1 : Heap) (locs1 : List Loc), gG D A s (xw K) (xt K) (d, g, ru, fm, st, mv, cp, v) H1 locs1 → W p l e R s m args below meth c H1 locs1 cells slots Q (F0 m (pc + 3) ls rest)) : W p l e R s m args below meth c H locs cells slots Q (F0 m pc ls (.int v :: .ref K.1 :: rest)) :=
  va_put (D := D) (ci := 0) (v := .int v) (ty := .int) (C := R_X) (T := F_X) (N := 8) S.1 S.2.1 S.2.2.2.2 i_X t_X t_X_ok n_X S.2.2.2.1 hG.2.2.1 hG.1 hG.2.1 hG.2.2.2.1 0 rfl rfl 7 (by decide) (S.2.2.2.2 _ kw_18) (fun _ h9 => h9) rfl (by decide +kernel) rfl rfl (Nat.le_of_ble_eq_true rfl) hdg (fun H1 l1 a b c => kk H1 l1 ⟨a, b, hG.2.2.1, c, hG.2.2.2.2⟩)
variable {own : String}
theorem rx_dl {i : Nat} (hi : i < 80) (S : CallFix p m c cc nL s args lw_gd own) (hG : gG D A s (xw K) (xt K) (d, g, ru, fm, st, mv, cp, op) H locs) (hdg : decode cc pc = .ok (.iaload, 1)) (kk : W p l e R s m args below meth c H locs cells slots Q (F0 m (pc + 1) ls (.int (d i) :: rest))) : W p l e R s m args below meth c H locs cells slots Q (F0 m pc ls (.int (nI i) :: .ref K.2.1 :: rest)) :=
  va_iald (D := D) S.1 S.2.1 hG.2.2.1 hG.1 1 0 (cA := K.2.2.2.1) (n := 80) (f := d) rfl rfl (i := nI i) (vp_in_nI hi (by decide)) hdg (by rw [nI_clamp (by omega)]; exact kk)
theorem rx_ds {i : Nat} {v : Int32} (hi : i < 80) (S : CallFix p m c cc nL s args lw_gd own) (hG : gG D A s (xw K) (xt K) (d, g, ru, fm, st, mv, cp, op) H locs) (hdg : decode cc pc = .ok (.iastore, 1)) (kk : ∀ (H1 : Heap) (locs1 : List Loc), gG D A s (xw K) (xt K) (upd d i v, g, ru, fm, st, mv, cp, op) H1 locs1 → W p l e R s m args below meth c H1 locs1 cells slots Q (F0 m (pc + 1) ls rest)) : W p l e R s m args below meth c H locs cells slots Q (F0 m pc ls (.int v :: .int (nI i) :: .ref K.2.1 :: rest)) :=
  va_iast (D := D) S.1 S.2.1 hG.2.2.1 hG.1 hG.2.1 hG.2.2.2.1 1 0 (cA := K.2.2.2.1) (n := 80) (f := d) rfl rfl (i := nI i) (x := v) (vp_in_nI hi (by decide)) hdg (by rw [nI_clamp (by omega)]; exact fun H1 l1 a b c => kk H1 l1 ⟨a, b, hG.2.2.1, c, hG.2.2.2.2⟩)
theorem rx_rl {i : Nat} (hi : i < 4) (S : CallFix p m c cc nL s args lw_gd own) (hG : gG D A s (xw K) (xt K) (d, g, ru, fm, st, mv, cp, op) H locs) (hdg : decode cc pc = .ok (.iaload, 1)) (kk : W p l e R s m args below meth c H locs cells slots Q (F0 m (pc + 1) ls (.int (g i) :: rest))) : W p l e R s m args below meth c H locs cells slots Q (F0 m pc ls (.int (nI i) :: .ref K.2.2.1 :: rest)) :=
  va_iald (D := D) S.1 S.2.1 hG.2.2.1 hG.1 2 1 (cA := K.2.2.2.2) (n := 4) (f := g) rfl rfl (i := nI i) (vp_in_nI hi (by decide)) hdg (by rw [nI_clamp (by omega)]; exact kk)
theorem rx_rs {i : Nat} {v : Int32} (hi : i < 4) (S : CallFix p m c cc nL s args lw_gd own) (hG : gG D A s (xw K) (xt K) (d, g, ru, fm, st, mv, cp, op) H locs) (hdg : decode cc pc = .ok (.iastore, 1)) (kk : ∀ (H1 : Heap) (locs1 : List Loc), gG D A s (xw K) (xt K) (d, upd g i v, ru, fm, st, mv, cp, op) H1 locs1 → W p l e R s m args below meth c H1 locs1 cells slots Q (F0 m (pc + 1) ls rest)) : W p l e R s m args below meth c H locs cells slots Q (F0 m pc ls (.int v :: .int (nI i) :: .ref K.2.2.1 :: rest)) :=
  va_iast (D := D) S.1 S.2.1 hG.2.2.1 hG.1 hG.2.1 hG.2.2.2.1 2 1 (cA := K.2.2.2.2) (n := 4) (f := g) rfl rfl (i := nI i) (x := v) (vp_in_nI hi (by decide)) hdg (by rw [nI_clamp (by omega)]; exact fun H1 l1 a b c => kk H1 l1 ⟨a, b, hG.2.2.1, c, hG.2.2.2.2⟩)
theorem rx_ci {y : MethodName} {bytes : ByteArray} {maxL n idx : Nat} {ret : Option FieldType} {rm : Room} {as st0 : List Value} {u u' : XS} {r : Int32}
    (S : CallFix p m c cc nL s args lw_gd own) (hM : xMi l y (.code y bytes maxL ret) rm as u r u') (hg : GoodIn lw_gd (wsV own idx R_X y (.code y bytes maxL ret :: lw_gd))) (hd : y.cls = R_X ∧ y.cls ≠ "java/lang/invoke/MethodHandle" ∧ y.cls ≠ "java/lang/invoke/VarHandle" ∧ (parseMethodDescriptor y.desc).map (fun d => d.parameters.length) = some n)
    (hrc : rm.cells = 0 ∧ rm.slots = 0) (hR : rm.frames + 1 ≤ R.frames ∧ 8 + (maxL + 11) + rm.locals ≤ R.locals) (hn : as.length = n)
    (hG : gG D A s (xw K) (xt K) u H locs) (hls : ls.size = nL) (hst : st0 = as.reverse ++ .ref K.1 :: rest) (hW : (rest.map fun v => v.category).sum ≤ 8) (hdg : decode cc pc = .ok (.invokevirtual idx, 3))
    (kk : ∀ (H1 : Heap) (locs1 : List Loc), gG D A s (xw K) (xt K) u' H1 locs1 → W p l e R s m args below meth c H1 locs1 0 0 Q (F0 m (pc + 3) ls (.int r :: rest))) : W p l e R s m args below meth c H locs 0 0 Q (F0 m pc ls st0) :=
  rg_ci S (hM K) hg hd hrc hR hn (va_recv hG.2.2.1 hG.1 (ci := 0) (q0 := 0) rfl rfl) hG hls hst hW hdg kk
theorem rx_cv {y : MethodName} {bytes : ByteArray} {maxL n idx : Nat} {ret : Option FieldType} {rm : Room} {as st0 : List Value} {u u' : XS}
    (S : CallFix p m c cc nL s args lw_gd own) (hM : xMv l y (.code y bytes maxL ret) rm as u u') (hg : GoodIn lw_gd (wsV own idx R_X y (.code y bytes maxL ret :: lw_gd))) (hd : y.cls = R_X ∧ y.cls ≠ "java/lang/invoke/MethodHandle" ∧ y.cls ≠ "java/lang/invoke/VarHandle" ∧ (parseMethodDescriptor y.desc).map (fun d => d.parameters.length) = some n)
    (hrc : rm.cells = 0 ∧ rm.slots = 0) (hR : rm.frames + 1 ≤ R.frames ∧ 8 + (maxL + 11) + rm.locals ≤ R.locals) (hn : as.length = n)
    (hG : gG D A s (xw K) (xt K) u H locs) (hls : ls.size = nL) (hst : st0 = as.reverse ++ .ref K.1 :: rest) (hW : (rest.map fun v => v.category).sum ≤ 8) (hdg : decode cc pc = .ok (.invokevirtual idx, 3))
    (kk : ∀ (H1 : Heap) (locs1 : List Loc), gG D A s (xw K) (xt K) u' H1 locs1 → W p l e R s m args below meth c H1 locs1 0 0 Q (F0 m (pc + 3) ls rest)) : W p l e R s m args below meth c H locs 0 0 Q (F0 m pc ls st0) :=
  rg_cv S (hM K) hg hd hrc hR hn (va_recv hG.2.2.1 hG.1 (ci := 0) (q0 := 0) rfl rfl) hG hls hst hW hdg kk
end RX
section RMM
variable {p : Program} {l : Launch} {e : Env} {R : Room} {s : State} {m : MethodId} {args : Array Value} {below : List Frame} {meth : Method} {c : Code} {H : Heap} {locs : List Loc} {Q : State → Prop}
variable {cc : ByteArray} {nL pc : Nat} {ls : Array Slot} {rest : List Value} {D : va_G} {A : Nat → Prop}
variable {K : MK} {bl : Nat → Int32} {dn bg mv lo : Int32} {cells slots : Nat}
theorem rm_g0 (S : CallFix p m c cc nL s args lw_gd R_M) (hG : gG D A s (mw K) (mt K) (bl, dn, bg, mv, lo) H locs) (hdg : decode cc pc = .ok (.getfield 7, 3)) (kk : W p l e R s m args below meth c H locs cells slots Q (F0 m (pc + 3) ls (.ref K.2.1 :: rest))) : W p l e R s m args below meth c H locs cells slots Q (F0 m pc ls (.ref K.1 :: rest)) :=
  va_get (D := D) (ci := 1) (v := .ref K.2.1) (C := R_M) (T := F_M) (N := 5) S.1 S.2.1 S.2.2.2.2 i_M S.2.2.2.1 hG.2.2.1 hG.1 0 rfl rfl 0 (by decide) (S.2.2.2.2 _ kw_187) (fun _ h9 => h9) rfl hdg kk
theorem rm_g1 (S : CallFix p m c cc nL s args lw_gd R_M) (hG : gG D A s (mw K) (mt K) (bl, dn, bg, mv, lo) H locs) (hdg : decode cc pc = .ok (.getfield 17, 3)) (kk : W p l e R s m args below meth c H locs cells slots Q (F0 m (pc + 3) ls (.int dn :: rest))) : W p l e R s m args below meth c H locs cells slots Q (F0 m pc ls (.ref K.1 :: rest)) :=
  va_get (D := D) (ci := 1) (v := .int dn) (C := R_M) (T := F_M) (N := 5) S.1 S.2.1 S.2.2.2.2 i_M S.2.2.2.1 hG.2.2.1 hG.1 0 rfl rfl 1 (by decide) (S.2.2.2.2 _ kw_188) (fun _ h9 => h9) rfl hdg kk
theorem rm_p1 {v : Int32} (S : CallFix p m c cc nL s args lw_gd R_M) (hG : gG D A s (mw K) (mt K) (bl, dn, bg, mv, lo) H locs) (hdg : decode cc pc = .ok (.putfield 17, 3)) (hz : narrow .boolean (.int v) = .int v) (hz2 : fits .boolean (.int v) = true) (kk : ∀ (H1 : Heap) (locs1 : List Loc), gG D A s (mw K) (mt K) (bl, v, bg, mv, lo) H1 locs1 → W p l e R s m args below meth c H1 locs1 cells slots Q (F0 m (pc + 3) ls rest)) : W p l e R s m args below meth c H locs cells slots Q (F0 m pc ls (.int v :: .ref K.1 :: rest)) :=
  va_put (D := D) (ci := 1) (v := .int v) (ty := .boolean) (C := R_M) (T := F_M) (N := 5) S.1 S.2.1 S.2.2.2.2 i_M t_M t_M_ok n_M S.2.2.2.1 hG.2.2.1 hG.1 hG.2.1 hG.2.2.2.1 0 rfl rfl 1 (by decide) (S.2.2.2.2 _ kw_188) (fun _ h9 => h9) rfl (by decide +kernel) hz hz2 (Nat.le_of_ble_eq_true rfl) hdg (fun H1 l1 a b c => kk H1 l1 ⟨a, b, hG.2.2.1, c, hG.2.2.2.2⟩)
theorem rm_g2 (S : CallFix p m c cc nL s args lw_gd R_M) (hG : gG D A s (mw K) (mt K) (bl, dn, bg, mv, lo) H locs) (hdg : decode cc pc = .ok (.getfield 24, 3)) (kk : W p l e R s m args below meth c H locs cells slots Q (F0 m (pc + 3) ls (.int bg :: rest))) : W p l e R s m args below meth c H locs cells slots Q (F0 m pc ls (.ref K.1 :: rest)) :=
  va_get (D := D) (ci := 1) (v := .int bg) (C := R_M) (T := F_M) (N := 5) S.1 S.2.1 S.2.2.2.2 i_M S.2.2.2.1 hG.2.2.1 hG.1 0 rfl rfl 2 (by decide) (S.2.2.2.2 _ kw_189) (fun _ h9 => h9) rfl hdg kk
theorem rm_p2 {v : Int32} (S : CallFix p m c cc nL s args lw_gd R_M) (hG : gG D A s (mw K) (mt K) (bl, dn, bg, mv, lo) H locs) (hdg : decode cc pc = .ok (.putfield 24, 3)) (hz : narrow .boolean (.int v) = .int v) (hz2 : fits .boolean (.int v) = true) (kk : ∀ (H1 : Heap) (locs1 : List Loc), gG D A s (mw K) (mt K) (bl, dn, v, mv, lo) H1 locs1 → W p l e R s m args below meth c H1 locs1 cells slots Q (F0 m (pc + 3) ls rest)) : W p l e R s m args below meth c H locs cells slots Q (F0 m pc ls (.int v :: .ref K.1 :: rest)) :=
  va_put (D := D) (ci := 1) (v := .int v) (ty := .boolean) (C := R_M) (T := F_M) (N := 5) S.1 S.2.1 S.2.2.2.2 i_M t_M t_M_ok n_M S.2.2.2.1 hG.2.2.1 hG.1 hG.2.1 hG.2.2.2.1 0 rfl rfl 2 (by decide) (S.2.2.2.2 _ kw_189) (fun _ h9 => h9) rfl (by decide +kernel) hz hz2 (Nat.le_of_ble_eq_true rfl) hdg (fun H1 l1 a b c => kk H1 l1 ⟨a, b, hG.2.2.1, c, hG.2.2.2.2⟩)
theorem rm_g3 (S : CallFix p m c cc nL s args lw_gd R_M) (hG : gG D A s (mw K) (mt K) (bl, dn, bg, mv, lo) H locs) (hdg : decode cc pc = .ok (.getfield 21, 3)) (kk : W p l e R s m args below meth c H locs cells slots Q (F0 m (pc + 3) ls (.int mv :: rest))) : W p l e R s m args below meth c H locs cells slots Q (F0 m pc ls (.ref K.1 :: rest)) :=
  va_get (D := D) (ci := 1) (v := .int mv) (C := R_M) (T := F_M) (N := 5) S.1 S.2.1 S.2.2.2.2 i_M S.2.2.2.1 hG.2.2.1 hG.1 0 rfl rfl 3 (by decide) (S.2.2.2.2 _ kw_190) (fun _ h9 => h9) rfl hdg kk
theorem rm_p3 {v : Int32} (S : CallFix p m c cc nL s args lw_gd R_M) (hG : gG D A s (mw K) (mt K) (bl, dn, bg, mv, lo) H locs) (hdg : decode cc pc = .ok (.putfield 21, 3)) (kk : ∀ (H1 : Heap) (locs1 : List Loc), gG D A s (mw K) (mt K) (bl, dn, bg, v, lo) H1 locs1 → W p l e R s m args below meth c H1 locs1 cells slots Q (F0 m (pc + 3) ls rest)) : W p l e R s m args below meth c H locs cells slots Q (F0 m pc ls (.int v :: .ref K.1 :: rest)) :=
  va_put (D := D) (ci := 1) (v := .int v) (ty := .int) (C := R_M) (T := F_M) (N := 5) S.1 S.2.1 S.2.2.2.2 i_M t_M t_M_ok n_M S.2.2.2.1 hG.2.2.1 hG.1 hG.2.1 hG.2.2.2.1 0 rfl rfl 3 (by decide) (S.2.2.2.2 _ kw_190) (fun _ h9 => h9) rfl (by decide +kernel) rfl rfl (Nat.le_of_ble_eq_true rfl) hdg (fun H1 l1 a b c => kk H1 l1 ⟨a, b, hG.2.2.1, c, hG.2.2.2.2⟩)
theorem rm_g4 (S : CallFix p m c cc nL s args lw_gd R_M) (hG : gG D A s (mw K) (mt K) (bl, dn, bg, mv, lo) H locs) (hdg : decode cc pc = .ok (.getfield 13, 3)) (kk : W p l e R s m args below meth c H locs cells slots Q (F0 m (pc + 3) ls (.int lo :: rest))) : W p l e R s m args below meth c H locs cells slots Q (F0 m pc ls (.ref K.1 :: rest)) :=
  va_get (D := D) (ci := 1) (v := .int lo) (C := R_M) (T := F_M) (N := 5) S.1 S.2.1 S.2.2.2.2 i_M S.2.2.2.1 hG.2.2.1 hG.1 0 rfl rfl 4 (by decide) (S.2.2.2.2 _ kw_191) (fun _ h9 => h9) rfl hdg kk
theorem rm_p4 {v : Int32} (S : CallFix p m c cc nL s args lw_gd R_M) (hG : gG D A s (mw K) (mt K) (bl, dn, bg, mv, lo) H locs) (hdg : decode cc pc = .ok (.putfield 13, 3)) (kk : ∀ (H1 : Heap) (locs1 : List Loc), gG D A s (mw K) (mt K) (bl, dn, bg, mv, v) H1 locs1 → W p l e R s m args below meth c H1 locs1 cells slots Q (F0 m (pc + 3) ls rest)) : W p l e R s m args below meth c H locs cells slots Q (F0 m pc ls (.int v :: .ref K.1 :: rest)) :=
  va_put (D := D) (ci := 1) (v := .int v) (ty := .int) (C := R_M) (T := F_M) (N := 5) S.1 S.2.1 S.2.2.2.2 i_M t_M t_M_ok n_M S.2.2.2.1 hG.2.2.1 hG.1 hG.2.1 hG.2.2.2.1 0 rfl rfl 4 (by decide) (S.2.2.2.2 _ kw_191) (fun _ h9 => h9) rfl (by decide +kernel) rfl rfl (Nat.le_of_ble_eq_true rfl) hdg (fun H1 l1 a b c => kk H1 l1 ⟨a, b, hG.2.2.1, c, hG.2.2.2.2⟩)
variable {own : String}
theorem rm_bl {i : Nat} (hi : i < 48) (S : CallFix p m c cc nL s args lw_gd own) (hG : gG D A s (mw K) (mt K) (bl, dn, bg, mv, lo) H locs) (hdg : decode cc pc = .ok (.iaload, 1)) (kk : W p l e R s m args below meth c H locs cells slots Q (F0 m (pc + 1) ls (.int (bl i) :: rest))) : W p l e R s m args below meth c H locs cells slots Q (F0 m pc ls (.int (nI i) :: .ref K.2.1 :: rest)) :=
  va_iald (D := D) S.1 S.2.1 hG.2.2.1 hG.1 1 0 (cA := K.2.2) (n := 48) (f := bl) rfl rfl (i := nI i) (vp_in_nI hi (by decide)) hdg (by rw [nI_clamp (by omega)]; exact kk)
theorem rm_bs {i : Nat} {v : Int32} (hi : i < 48) (S : CallFix p m c cc nL s args lw_gd own) (hG : gG D A s (mw K) (mt K) (bl, dn, bg, mv, lo) H locs) (hdg : decode cc pc = .ok (.iastore, 1)) (kk : ∀ (H1 : Heap) (locs1 : List Loc), gG D A s (mw K) (mt K) (upd bl i v, dn, bg, mv, lo) H1 locs1 → W p l e R s m args below meth c H1 locs1 cells slots Q (F0 m (pc + 1) ls rest)) : W p l e R s m args below meth c H locs cells slots Q (F0 m pc ls (.int v :: .int (nI i) :: .ref K.2.1 :: rest)) :=
  va_iast (D := D) S.1 S.2.1 hG.2.2.1 hG.1 hG.2.1 hG.2.2.2.1 1 0 (cA := K.2.2) (n := 48) (f := bl) rfl rfl (i := nI i) (x := v) (vp_in_nI hi (by decide)) hdg (by rw [nI_clamp (by omega)]; exact fun H1 l1 a b c => kk H1 l1 ⟨a, b, hG.2.2.1, c, hG.2.2.2.2⟩)
theorem rm_ci {y : MethodName} {bytes : ByteArray} {maxL n idx : Nat} {ret : Option FieldType} {rm : Room} {as st0 : List Value} {u u' : MS} {r : Int32}
    (S : CallFix p m c cc nL s args lw_gd own) (hM : mMi l y (.code y bytes maxL ret) rm as u r u') (hg : GoodIn lw_gd (wsV own idx R_M y (.code y bytes maxL ret :: lw_gd))) (hd : y.cls = R_M ∧ y.cls ≠ "java/lang/invoke/MethodHandle" ∧ y.cls ≠ "java/lang/invoke/VarHandle" ∧ (parseMethodDescriptor y.desc).map (fun d => d.parameters.length) = some n)
    (hrc : rm.cells = 0 ∧ rm.slots = 0) (hR : rm.frames + 1 ≤ R.frames ∧ 8 + (maxL + 11) + rm.locals ≤ R.locals) (hn : as.length = n)
    (hG : gG D A s (mw K) (mt K) u H locs) (hls : ls.size = nL) (hst : st0 = as.reverse ++ .ref K.1 :: rest) (hW : (rest.map fun v => v.category).sum ≤ 8) (hdg : decode cc pc = .ok (.invokevirtual idx, 3))
    (kk : ∀ (H1 : Heap) (locs1 : List Loc), gG D A s (mw K) (mt K) u' H1 locs1 → W p l e R s m args below meth c H1 locs1 0 0 Q (F0 m (pc + 3) ls (.int r :: rest))) : W p l e R s m args below meth c H locs 0 0 Q (F0 m pc ls st0) :=
  rg_ci S (hM K) hg hd hrc hR hn (va_recv hG.2.2.1 hG.1 (ci := 1) (q0 := 0) rfl rfl) hG hls hst hW hdg kk
theorem rm_cv {y : MethodName} {bytes : ByteArray} {maxL n idx : Nat} {ret : Option FieldType} {rm : Room} {as st0 : List Value} {u u' : MS}
    (S : CallFix p m c cc nL s args lw_gd own) (hM : mMv l y (.code y bytes maxL ret) rm as u u') (hg : GoodIn lw_gd (wsV own idx R_M y (.code y bytes maxL ret :: lw_gd))) (hd : y.cls = R_M ∧ y.cls ≠ "java/lang/invoke/MethodHandle" ∧ y.cls ≠ "java/lang/invoke/VarHandle" ∧ (parseMethodDescriptor y.desc).map (fun d => d.parameters.length) = some n)
    (hrc : rm.cells = 0 ∧ rm.slots = 0) (hR : rm.frames + 1 ≤ R.frames ∧ 8 + (maxL + 11) + rm.locals ≤ R.locals) (hn : as.length = n)
    (hG : gG D A s (mw K) (mt K) u H locs) (hls : ls.size = nL) (hst : st0 = as.reverse ++ .ref K.1 :: rest) (hW : (rest.map fun v => v.category).sum ≤ 8) (hdg : decode cc pc = .ok (.invokevirtual idx, 3))
    (kk : ∀ (H1 : Heap) (locs1 : List Loc), gG D A s (mw K) (mt K) u' H1 locs1 → W p l e R s m args below meth c H1 locs1 0 0 Q (F0 m (pc + 3) ls rest)) : W p l e R s m args below meth c H locs 0 0 Q (F0 m pc ls st0) :=
  rg_cv S (hM K) hg hd hrc hR hn (va_recv hG.2.2.1 hG.1 (ci := 1) (q0 := 0) rfl rfl) hG hls hst hW hdg kk
end RMM
end
section
/-! pure words: what the methods compute, in the order of their branches -/
def bI (w : Bool) : Int32 := if w then 1 else 0
def px_itr {α : Type} (f : Nat → α → α) : Nat → α → α
  | 0, a => a
  | n + 1, a => f n (px_itr f n a)
def px_row (b : Nat) (w : Bool) : Nat := if w then b / 4 else b / 2
def px_par (r : Nat) (w : Bool) : Nat := if w then r % 5 else r % 3
def px_idx (b : Nat) (w : Bool) : Nat := if w then b % 4 else b % 2
def px_mem (b : Nat) (w : Bool) : Nat := if px_idx b w < px_par (px_row b w) w then px_idx b w else px_idx b w + 1
def px_cnt (w : Bool) : Nat := if w then 5 else 3
def px_oth (d : Nat → Int32) (r : Nat) (but : Int32) (n : Nat) : Int32 := px_itr (fun m a => if nI m = but then a else a ^^^ d (m * 16 + r)) n 0
def px_put (d : Nat → Int32) (fm : Int32) (m r : Nat) (v : Int32) : Nat → Int32 := if nI m = fm then d else upd d (m * 16 + r) v
def px_mend (d : Nat → Int32) (fm : Int32) (r m : Nat) (w : Bool) : Nat → Int32 := px_put d fm m r (px_oth d r (nI m) (px_cnt w))
def px_ff (d : Nat → Int32) (fm : Int32) (b : Nat) (w : Bool) : Int32 := if nI (px_mem b w) = fm then px_oth d (px_row b w) (nI (px_mem b w)) (px_cnt w) else d (px_mem b w * 16 + px_row b w)
def px_iw (st mv r : Int32) : Bool := if st = 2 then true else if st = 1 then (if mv ≤ r then false else true) else false
def px_iu (st mv r : Int32) : Bool := if st = 1 then (if r < mv then true else if r < 2 * mv then false else true) else true
def px_bw (st mv b : Int32) : Bool := if st = 2 then true else if st = 1 then (if 4 * mv ≤ b then false else true) else false
def px_up (ru : Int32) : Int32 := if ru = 0 then 0 else 1
def px_sz (mv : Int32) : Int32 := if mv = 6 then 48 else 24
def px_ms (st : Int32) : Int32 := if st = 0 then 3 else 5
def px_gr (st mv : Int32) : Int32 := if mv = 6 then 2 else st
def px_ib (mv b : Int32) : Int32 := if b < 0 then 0 else if px_sz mv ≤ b then 0 else 1
def px_fe (d : Nat → Int32) (fm st mv : Int32) (b : Nat) : Int32 := px_ff d fm b (px_bw st mv (nI b))
/-- the parity that store writes -/
def px_sp (d : Nat → Int32) (fm : Int32) (b : Nat) (w : Bool) (v : Int32) : Int32 := d (px_par (px_row b w) w * 16 + px_row b w) ^^^ px_ff d fm b w ^^^ v
def px_sd1 (d : Nat → Int32) (fm : Int32) (b : Nat) (w : Bool) (v : Int32) : Nat → Int32 := px_put d fm (px_mem b w) (px_row b w) v
def px_sd2 (d : Nat → Int32) (fm : Int32) (b : Nat) (w : Bool) (v : Int32) : Nat → Int32 := px_put (px_sd1 d fm b w v) fm (px_par (px_row b w) w) (px_row b w) (px_sp d fm b w v)
/-- store: the disk and the row that it leaves not closed -/
def px_st (d : Nat → Int32) (fm st mv : Int32) (b : Nat) (v pt : Int32) : (Nat → Int32) × Int32 :=
  if pt = 0 then (d, nI (px_row b (px_bw st mv (nI b)))) else if pt = 1 then (px_sd1 d fm b (px_bw st mv (nI b)) v, nI (px_row b (px_bw st mv (nI b)))) else if pt = 2 then (px_sd2 d fm b (px_bw st mv (nI b)) v, nI (px_row b (px_bw st mv (nI b)))) else (px_sd2 d fm b (px_bw st mv (nI b)) v, -1)
theorem px_mem_lt (b : Nat) (w : Bool) : px_mem b w < 5 := by
  cases w <;> simp only [px_mem, px_idx, Bool.false_eq_true, if_true, if_false] <;> split <;> omega
theorem px_par_lt (b : Nat) (w : Bool) : px_par b w < 5 := by
  cases w <;> simp [px_par] <;> omega
theorem nx_sh2 {b : Nat} (h : b < 2 ^ 31) : nI b >>> ((2 : Int32) &&& 31) = nI (b / 4) := pk_shrN h _ 2 (by decide +kernel)
theorem nx_sh1 {b : Nat} (h : b < 2 ^ 31) : nI b >>> ((1 : Int32) &&& 31) = nI (b / 2) := pk_shrN h _ 1 (by decide +kernel)
theorem nx_r5 {b : Nat} (h : b < 2 ^ 31) : nI b - nI b / 5 * 5 = nI (b % 5) := pk_rem (d := 5) h (by decide) (by decide)
theorem nx_r3 {b : Nat} (h : b < 2 ^ 31) : nI b - nI b / 3 * 3 = nI (b % 3) := pk_rem (d := 3) h (by decide) (by decide)
theorem nx_a3 {b : Nat} (h : b < 2 ^ 31) : nI b &&& 3 = nI (b % 4) := pk_andN (by omega) 2 (by decide +kernel)
theorem nx_a1 {b : Nat} (h : b < 2 ^ 31) : nI b &&& 1 = nI (b % 2) := pk_andN (by omega) 1 (by decide +kernel)
theorem nx_16 (m r : Nat) : nI m * 16 + nI r = nI (m * 16 + r) := by rw [show (16 : Int32) = nI 16 from rfl, pk_mul, nI_add]
theorem nx_4 (k i : Nat) : 4 * nI k + nI i = nI (4 * k + i) := by rw [show (4 : Int32) = nI 4 from rfl, pk_mul, nI_add]
theorem hd_X_up : y_X_up.cls = R_X ∧ y_X_up.cls ≠ "java/lang/invoke/MethodHandle" ∧ y_X_up.cls ≠ "java/lang/invoke/VarHandle" ∧ (parseMethodDescriptor y_X_up.desc).map (fun d => d.parameters.length) = some 0 := by decide +kernel
theorem hd_X_size : y_X_size.cls = R_X ∧ y_X_size.cls ≠ "java/lang/invoke/MethodHandle" ∧ y_X_size.cls ≠ "java/lang/invoke/VarHandle" ∧ (parseMethodDescriptor y_X_size.desc).map (fun d => d.parameters.length) = some 0 := by decide +kernel
theorem hd_X_members : y_X_members.cls = R_X ∧ y_X_members.cls ≠ "java/lang/invoke/MethodHandle" ∧ y_X_members.cls ≠ "java/lang/invoke/VarHandle" ∧ (parseMethodDescriptor y_X_members.desc).map (fun d => d.parameters.length) = some 0 := by decide +kernel
theorem hd_X_failed : y_X_failed.cls = R_X ∧ y_X_failed.cls ≠ "java/lang/invoke/MethodHandle" ∧ y_X_failed.cls ≠ "java/lang/invoke/VarHandle" ∧ (parseMethodDescriptor y_X_failed.desc).map (fun d => d.parameters.length) = some 0 := by decide +kernel
theorem hd_X_growth : y_X_growth.cls = R_X ∧ y_X_growth.cls ≠ "java/lang/invoke/MethodHandle" ∧ y_X_growth.cls ≠ "java/lang/invoke/VarHandle" ∧ (parseMethodDescriptor y_X_growth.desc).map (fun d => d.parameters.length) = some 0 := by decide +kernel
theorem hd_X_groups : y_X_groups.cls = R_X ∧ y_X_groups.cls ≠ "java/lang/invoke/MethodHandle" ∧ y_X_groups.cls ≠ "java/lang/invoke/VarHandle" ∧ (parseMethodDescriptor y_X_groups.desc).map (fun d => d.parameters.length) = some 0 := by decide +kernel
theorem hd_X_read : y_X_read.cls = R_X ∧ y_X_read.cls ≠ "java/lang/invoke/MethodHandle" ∧ y_X_read.cls ≠ "java/lang/invoke/VarHandle" ∧ (parseMethodDescriptor y_X_read.desc).map (fun d => d.parameters.length) = some 1 := by decide +kernel
theorem hd_X_isBlock : y_X_isBlock.cls = R_X ∧ y_X_isBlock.cls ≠ "java/lang/invoke/MethodHandle" ∧ y_X_isBlock.cls ≠ "java/lang/invoke/VarHandle" ∧ (parseMethodDescriptor y_X_isBlock.desc).map (fun d => d.parameters.length) = some 1 := by decide +kernel
theorem hd_X_fetch : y_X_fetch.cls = R_X ∧ y_X_fetch.cls ≠ "java/lang/invoke/MethodHandle" ∧ y_X_fetch.cls ≠ "java/lang/invoke/VarHandle" ∧ (parseMethodDescriptor y_X_fetch.desc).map (fun d => d.parameters.length) = some 1 := by decide +kernel
theorem hd_X_blockIsWide : y_X_blockIsWide.cls = R_X ∧ y_X_blockIsWide.cls ≠ "java/lang/invoke/MethodHandle" ∧ y_X_blockIsWide.cls ≠ "java/lang/invoke/VarHandle" ∧ (parseMethodDescriptor y_X_blockIsWide.desc).map (fun d => d.parameters.length) = some 1 := by decide +kernel
theorem hd_X_fetchFrom : y_X_fetchFrom.cls = R_X ∧ y_X_fetchFrom.cls ≠ "java/lang/invoke/MethodHandle" ∧ y_X_fetchFrom.cls ≠ "java/lang/invoke/VarHandle" ∧ (parseMethodDescriptor y_X_fetchFrom.desc).map (fun d => d.parameters.length) = some 2 := by decide +kernel
theorem hd_X_rowOf : y_X_rowOf.cls = R_X ∧ y_X_rowOf.cls ≠ "java/lang/invoke/MethodHandle" ∧ y_X_rowOf.cls ≠ "java/lang/invoke/VarHandle" ∧ (parseMethodDescriptor y_X_rowOf.desc).map (fun d => d.parameters.length) = some 2 := by decide +kernel
theorem hd_X_memberOf : y_X_memberOf.cls = R_X ∧ y_X_memberOf.cls ≠ "java/lang/invoke/MethodHandle" ∧ y_X_memberOf.cls ≠ "java/lang/invoke/VarHandle" ∧ (parseMethodDescriptor y_X_memberOf.desc).map (fun d => d.parameters.length) = some 2 := by decide +kernel
theorem hd_X_others : y_X_others.cls = R_X ∧ y_X_others.cls ≠ "java/lang/invoke/MethodHandle" ∧ y_X_others.cls ≠ "java/lang/invoke/VarHandle" ∧ (parseMethodDescriptor y_X_others.desc).map (fun d => d.parameters.length) = some 3 := by decide +kernel
theorem hd_X_sum : y_X_sum.cls = R_X ∧ y_X_sum.cls ≠ "java/lang/invoke/MethodHandle" ∧ y_X_sum.cls ≠ "java/lang/invoke/VarHandle" ∧ (parseMethodDescriptor y_X_sum.desc).map (fun d => d.parameters.length) = some 0 := by decide +kernel
theorem hd_X_write : y_X_write.cls = R_X ∧ y_X_write.cls ≠ "java/lang/invoke/MethodHandle" ∧ y_X_write.cls ≠ "java/lang/invoke/VarHandle" ∧ (parseMethodDescriptor y_X_write.desc).map (fun d => d.parameters.length) = some 2 := by decide +kernel
theorem hd_X_store : y_X_store.cls = R_X ∧ y_X_store.cls ≠ "java/lang/invoke/MethodHandle" ∧ y_X_store.cls ≠ "java/lang/invoke/VarHandle" ∧ (parseMethodDescriptor y_X_store.desc).map (fun d => d.parameters.length) = some 3 := by decide +kernel
theorem hd_X_parityOf : y_X_parityOf.cls = R_X ∧ y_X_parityOf.cls ≠ "java/lang/invoke/MethodHandle" ∧ y_X_parityOf.cls ≠ "java/lang/invoke/VarHandle" ∧ (parseMethodDescriptor y_X_parityOf.desc).map (fun d => d.parameters.length) = some 2 := by decide +kernel
theorem hd_X_put : y_X_put.cls = R_X ∧ y_X_put.cls ≠ "java/lang/invoke/MethodHandle" ∧ y_X_put.cls ≠ "java/lang/invoke/VarHandle" ∧ (parseMethodDescriptor y_X_put.desc).map (fun d => d.parameters.length) = some 3 := by decide +kernel
theorem hd_X_fill : y_X_fill.cls = R_X ∧ y_X_fill.cls ≠ "java/lang/invoke/MethodHandle" ∧ y_X_fill.cls ≠ "java/lang/invoke/VarHandle" ∧ (parseMethodDescriptor y_X_fill.desc).map (fun d => d.parameters.length) = some 4 := by decide +kernel
theorem hd_X_writeCrash : y_X_writeCrash.cls = R_X ∧ y_X_writeCrash.cls ≠ "java/lang/invoke/MethodHandle" ∧ y_X_writeCrash.cls ≠ "java/lang/invoke/VarHandle" ∧ (parseMethodDescriptor y_X_writeCrash.desc).map (fun d => d.parameters.length) = some 3 := by decide +kernel
theorem hd_X_begin : y_X_begin.cls = R_X ∧ y_X_begin.cls ≠ "java/lang/invoke/MethodHandle" ∧ y_X_begin.cls ≠ "java/lang/invoke/VarHandle" ∧ (parseMethodDescriptor y_X_begin.desc).map (fun d => d.parameters.length) = some 0 := by decide +kernel
theorem hd_X_step : y_X_step.cls = R_X ∧ y_X_step.cls ≠ "java/lang/invoke/MethodHandle" ∧ y_X_step.cls ≠ "java/lang/invoke/VarHandle" ∧ (parseMethodDescriptor y_X_step.desc).map (fun d => d.parameters.length) = some 0 := by decide +kernel
theorem hd_X_moveGroup : y_X_moveGroup.cls = R_X ∧ y_X_moveGroup.cls ≠ "java/lang/invoke/MethodHandle" ∧ y_X_moveGroup.cls ≠ "java/lang/invoke/VarHandle" ∧ (parseMethodDescriptor y_X_moveGroup.desc).map (fun d => d.parameters.length) = some 1 := by decide +kernel
theorem hd_X_writeWide : y_X_writeWide.cls = R_X ∧ y_X_writeWide.cls ≠ "java/lang/invoke/MethodHandle" ∧ y_X_writeWide.cls ≠ "java/lang/invoke/VarHandle" ∧ (parseMethodDescriptor y_X_writeWide.desc).map (fun d => d.parameters.length) = some 2 := by decide +kernel
theorem hd_X_finish : y_X_finish.cls = R_X ∧ y_X_finish.cls ≠ "java/lang/invoke/MethodHandle" ∧ y_X_finish.cls ≠ "java/lang/invoke/VarHandle" ∧ (parseMethodDescriptor y_X_finish.desc).map (fun d => d.parameters.length) = some 0 := by decide +kernel
theorem hd_X_stepCrash : y_X_stepCrash.cls = R_X ∧ y_X_stepCrash.cls ≠ "java/lang/invoke/MethodHandle" ∧ y_X_stepCrash.cls ≠ "java/lang/invoke/VarHandle" ∧ (parseMethodDescriptor y_X_stepCrash.desc).map (fun d => d.parameters.length) = some 1 := by decide +kernel
theorem hd_X_crash : y_X_crash.cls = R_X ∧ y_X_crash.cls ≠ "java/lang/invoke/MethodHandle" ∧ y_X_crash.cls ≠ "java/lang/invoke/VarHandle" ∧ (parseMethodDescriptor y_X_crash.desc).map (fun d => d.parameters.length) = some 0 := by decide +kernel
theorem hd_X_mount : y_X_mount.cls = R_X ∧ y_X_mount.cls ≠ "java/lang/invoke/MethodHandle" ∧ y_X_mount.cls ≠ "java/lang/invoke/VarHandle" ∧ (parseMethodDescriptor y_X_mount.desc).map (fun d => d.parameters.length) = some 0 := by decide +kernel
theorem hd_X_isWide : y_X_isWide.cls = R_X ∧ y_X_isWide.cls ≠ "java/lang/invoke/MethodHandle" ∧ y_X_isWide.cls ≠ "java/lang/invoke/VarHandle" ∧ (parseMethodDescriptor y_X_isWide.desc).map (fun d => d.parameters.length) = some 1 := by decide +kernel
theorem hd_X_mend : y_X_mend.cls = R_X ∧ y_X_mend.cls ≠ "java/lang/invoke/MethodHandle" ∧ y_X_mend.cls ≠ "java/lang/invoke/VarHandle" ∧ (parseMethodDescriptor y_X_mend.desc).map (fun d => d.parameters.length) = some 3 := by decide +kernel
theorem hd_X_takeBack : y_X_takeBack.cls = R_X ∧ y_X_takeBack.cls ≠ "java/lang/invoke/MethodHandle" ∧ y_X_takeBack.cls ≠ "java/lang/invoke/VarHandle" ∧ (parseMethodDescriptor y_X_takeBack.desc).map (fun d => d.parameters.length) = some 0 := by decide +kernel
theorem hd_X_fail : y_X_fail.cls = R_X ∧ y_X_fail.cls ≠ "java/lang/invoke/MethodHandle" ∧ y_X_fail.cls ≠ "java/lang/invoke/VarHandle" ∧ (parseMethodDescriptor y_X_fail.desc).map (fun d => d.parameters.length) = some 1 := by decide +kernel
theorem hd_X_replace : y_X_replace.cls = R_X ∧ y_X_replace.cls ≠ "java/lang/invoke/MethodHandle" ∧ y_X_replace.cls ≠ "java/lang/invoke/VarHandle" ∧ (parseMethodDescriptor y_X_replace.desc).map (fun d => d.parameters.length) = some 0 := by decide +kernel
theorem hd_X_inUse : y_X_inUse.cls = R_X ∧ y_X_inUse.cls ≠ "java/lang/invoke/MethodHandle" ∧ y_X_inUse.cls ≠ "java/lang/invoke/VarHandle" ∧ (parseMethodDescriptor y_X_inUse.desc).map (fun d => d.parameters.length) = some 1 := by decide +kernel
theorem hd_X_scrub : y_X_scrub.cls = R_X ∧ y_X_scrub.cls ≠ "java/lang/invoke/MethodHandle" ∧ y_X_scrub.cls ≠ "java/lang/invoke/VarHandle" ∧ (parseMethodDescriptor y_X_scrub.desc).map (fun d => d.parameters.length) = some 0 := by decide +kernel
theorem hd_M_up : y_M_up.cls = R_M ∧ y_M_up.cls ≠ "java/lang/invoke/MethodHandle" ∧ y_M_up.cls ≠ "java/lang/invoke/VarHandle" ∧ (parseMethodDescriptor y_M_up.desc).map (fun d => d.parameters.length) = some 0 := by decide +kernel
theorem hd_M_size : y_M_size.cls = R_M ∧ y_M_size.cls ≠ "java/lang/invoke/MethodHandle" ∧ y_M_size.cls ≠ "java/lang/invoke/VarHandle" ∧ (parseMethodDescriptor y_M_size.desc).map (fun d => d.parameters.length) = some 0 := by decide +kernel
theorem hd_M_members : y_M_members.cls = R_M ∧ y_M_members.cls ≠ "java/lang/invoke/MethodHandle" ∧ y_M_members.cls ≠ "java/lang/invoke/VarHandle" ∧ (parseMethodDescriptor y_M_members.desc).map (fun d => d.parameters.length) = some 0 := by decide +kernel
theorem hd_M_failed : y_M_failed.cls = R_M ∧ y_M_failed.cls ≠ "java/lang/invoke/MethodHandle" ∧ y_M_failed.cls ≠ "java/lang/invoke/VarHandle" ∧ (parseMethodDescriptor y_M_failed.desc).map (fun d => d.parameters.length) = some 0 := by decide +kernel
theorem hd_M_growth : y_M_growth.cls = R_M ∧ y_M_growth.cls ≠ "java/lang/invoke/MethodHandle" ∧ y_M_growth.cls ≠ "java/lang/invoke/VarHandle" ∧ (parseMethodDescriptor y_M_growth.desc).map (fun d => d.parameters.length) = some 0 := by decide +kernel
theorem hd_M_groups : y_M_groups.cls = R_M ∧ y_M_groups.cls ≠ "java/lang/invoke/MethodHandle" ∧ y_M_groups.cls ≠ "java/lang/invoke/VarHandle" ∧ (parseMethodDescriptor y_M_groups.desc).map (fun d => d.parameters.length) = some 0 := by decide +kernel
theorem hd_M_read : y_M_read.cls = R_M ∧ y_M_read.cls ≠ "java/lang/invoke/MethodHandle" ∧ y_M_read.cls ≠ "java/lang/invoke/VarHandle" ∧ (parseMethodDescriptor y_M_read.desc).map (fun d => d.parameters.length) = some 1 := by decide +kernel
theorem hd_M_noBlock : y_M_noBlock.cls = R_M ∧ y_M_noBlock.cls ≠ "java/lang/invoke/MethodHandle" ∧ y_M_noBlock.cls ≠ "java/lang/invoke/VarHandle" ∧ (parseMethodDescriptor y_M_noBlock.desc).map (fun d => d.parameters.length) = some 1 := by decide +kernel
theorem hd_M_sum : y_M_sum.cls = R_M ∧ y_M_sum.cls ≠ "java/lang/invoke/MethodHandle" ∧ y_M_sum.cls ≠ "java/lang/invoke/VarHandle" ∧ (parseMethodDescriptor y_M_sum.desc).map (fun d => d.parameters.length) = some 0 := by decide +kernel
theorem hd_M_write : y_M_write.cls = R_M ∧ y_M_write.cls ≠ "java/lang/invoke/MethodHandle" ∧ y_M_write.cls ≠ "java/lang/invoke/VarHandle" ∧ (parseMethodDescriptor y_M_write.desc).map (fun d => d.parameters.length) = some 2 := by decide +kernel
theorem hd_M_fill : y_M_fill.cls = R_M ∧ y_M_fill.cls ≠ "java/lang/invoke/MethodHandle" ∧ y_M_fill.cls ≠ "java/lang/invoke/VarHandle" ∧ (parseMethodDescriptor y_M_fill.desc).map (fun d => d.parameters.length) = some 4 := by decide +kernel
theorem hd_M_writeCrash : y_M_writeCrash.cls = R_M ∧ y_M_writeCrash.cls ≠ "java/lang/invoke/MethodHandle" ∧ y_M_writeCrash.cls ≠ "java/lang/invoke/VarHandle" ∧ (parseMethodDescriptor y_M_writeCrash.desc).map (fun d => d.parameters.length) = some 3 := by decide +kernel
theorem hd_M_begin : y_M_begin.cls = R_M ∧ y_M_begin.cls ≠ "java/lang/invoke/MethodHandle" ∧ y_M_begin.cls ≠ "java/lang/invoke/VarHandle" ∧ (parseMethodDescriptor y_M_begin.desc).map (fun d => d.parameters.length) = some 0 := by decide +kernel
theorem hd_M_step : y_M_step.cls = R_M ∧ y_M_step.cls ≠ "java/lang/invoke/MethodHandle" ∧ y_M_step.cls ≠ "java/lang/invoke/VarHandle" ∧ (parseMethodDescriptor y_M_step.desc).map (fun d => d.parameters.length) = some 0 := by decide +kernel
theorem hd_M_move : y_M_move.cls = R_M ∧ y_M_move.cls ≠ "java/lang/invoke/MethodHandle" ∧ y_M_move.cls ≠ "java/lang/invoke/VarHandle" ∧ (parseMethodDescriptor y_M_move.desc).map (fun d => d.parameters.length) = some 0 := by decide +kernel
theorem hd_M_stepCrash : y_M_stepCrash.cls = R_M ∧ y_M_stepCrash.cls ≠ "java/lang/invoke/MethodHandle" ∧ y_M_stepCrash.cls ≠ "java/lang/invoke/VarHandle" ∧ (parseMethodDescriptor y_M_stepCrash.desc).map (fun d => d.parameters.length) = some 1 := by decide +kernel
theorem hd_M_crash : y_M_crash.cls = R_M ∧ y_M_crash.cls ≠ "java/lang/invoke/MethodHandle" ∧ y_M_crash.cls ≠ "java/lang/invoke/VarHandle" ∧ (parseMethodDescriptor y_M_crash.desc).map (fun d => d.parameters.length) = some 0 := by decide +kernel
theorem hd_M_mount : y_M_mount.cls = R_M ∧ y_M_mount.cls ≠ "java/lang/invoke/MethodHandle" ∧ y_M_mount.cls ≠ "java/lang/invoke/VarHandle" ∧ (parseMethodDescriptor y_M_mount.desc).map (fun d => d.parameters.length) = some 0 := by decide +kernel
theorem hd_M_fail : y_M_fail.cls = R_M ∧ y_M_fail.cls ≠ "java/lang/invoke/MethodHandle" ∧ y_M_fail.cls ≠ "java/lang/invoke/VarHandle" ∧ (parseMethodDescriptor y_M_fail.desc).map (fun d => d.parameters.length) = some 1 := by decide +kernel
theorem hd_M_replace : y_M_replace.cls = R_M ∧ y_M_replace.cls ≠ "java/lang/invoke/MethodHandle" ∧ y_M_replace.cls ≠ "java/lang/invoke/VarHandle" ∧ (parseMethodDescriptor y_M_replace.desc).map (fun d => d.parameters.length) = some 0 := by decide +kernel
theorem hd_M_scrub : y_M_scrub.cls = R_M ∧ y_M_scrub.cls ≠ "java/lang/invoke/MethodHandle" ∧ y_M_scrub.cls ≠ "java/lang/invoke/VarHandle" ∧ (parseMethodDescriptor y_M_scrub.desc).map (fun d => d.parameters.length) = some 0 := by decide +kernel
theorem kw_ldc : Cond.constant R_X 76 1515870810 ∈ lw_gd := kw_168
end
section
set_option maxHeartbeats 4000000 in
set_option maxRecDepth 100000 in
theorem cx_X_up (l : Launch) (d g : Nat → Int32) (ru fm st mv cp op : Int32) : xMi l y_X_up c_X_up (rm_n 0) [] (d, g, ru, fm, st, mv, cp, op) (px_up ru) (d, g, ru, fm, st, mv, cp, op) := by
  intro K
  refine gMi_of (own := R_X) (by decide) rfl (Nat.le_of_ble_eq_true rfl) ?_
  intro p e s m args below meth c D A S hr hlk hG ls hl
  have hl : lv_has ls 1 [(0, .ref K.1)] := hl
  refine lv_aload_n S.1 S.2.1 dx_X_up_0 rfl (lv_at hl 0 rfl) ?_
  refine rx_g2 S hG dx_X_up_1 ?_
  refine lv_if_eq (tgt := 11) S.1 S.2.1 dx_X_up_4 (by decide) (fun c_4 => ?_) (fun c_4 => ?_)
  · skip
    refine lv_iconst (v := 0) S.1 S.2.1 dx_X_up_11 (by decide) ?_
    exact rg_ri S hr hlk hG dx_X_up_12 (by rw [px_up, if_pos c_4]; exact ⟨rfl, rfl⟩)
  · skip
    refine lv_iconst (v := 1) S.1 S.2.1 dx_X_up_7 (by decide) ?_
    refine lv_goto (tgt := 12) S.1 S.2.1 dx_X_up_8 (by decide) ?_
    exact rg_ri S hr hlk hG dx_X_up_12 (by rw [px_up, if_neg c_4]; exact ⟨rfl, rfl⟩)

set_option maxHeartbeats 4000000 in
set_option maxRecDepth 100000 in
theorem cx_X_size (l : Launch) (d g : Nat → Int32) (ru fm st mv cp op : Int32) : xMi l y_X_size c_X_size (rm_n 0) [] (d, g, ru, fm, st, mv, cp, op) (px_sz mv) (d, g, ru, fm, st, mv, cp, op) := by
  intro K
  refine gMi_of (own := R_X) (by decide) rfl (Nat.le_of_ble_eq_true rfl) ?_
  intro p e s m args below meth c D A S hr hlk hG ls hl
  have hl : lv_has ls 1 [(0, .ref K.1)] := hl
  refine lv_aload_n S.1 S.2.1 dx_X_size_0 rfl (lv_at hl 0 rfl) ?_
  refine rx_g5 S hG dx_X_size_1 ?_
  refine lv_bipush (v := 6) S.1 S.2.1 dx_X_size_4 (by decide) ?_
  refine lv_icmp_ne (tgt := 14) S.1 S.2.1 dx_X_size_6 (by decide) (fun c_6 => ?_) (fun c_6 => ?_)
  · skip
    refine lv_bipush (v := 24) S.1 S.2.1 dx_X_size_14 (by decide) ?_
    exact rg_ri S hr hlk hG dx_X_size_16 (by rw [px_sz, if_neg c_6]; exact ⟨rfl, rfl⟩)
  · skip
    refine lv_bipush (v := 48) S.1 S.2.1 dx_X_size_9 (by decide) ?_
    refine lv_goto (tgt := 16) S.1 S.2.1 dx_X_size_11 (by decide) ?_
    exact rg_ri S hr hlk hG dx_X_size_16 (by rw [px_sz, if_pos c_6]; exact ⟨rfl, rfl⟩)

set_option maxHeartbeats 4000000 in
set_option maxRecDepth 100000 in
theorem cx_X_members (l : Launch) (d g : Nat → Int32) (ru fm st mv cp op : Int32) : xMi l y_X_members c_X_members (rm_n 0) [] (d, g, ru, fm, st, mv, cp, op) (px_ms st) (d, g, ru, fm, st, mv, cp, op) := by
  intro K
  refine gMi_of (own := R_X) (by decide) rfl (Nat.le_of_ble_eq_true rfl) ?_
  intro p e s m args below meth c D A S hr hlk hG ls hl
  have hl : lv_has ls 1 [(0, .ref K.1)] := hl
  refine lv_aload_n S.1 S.2.1 dx_X_members_0 rfl (lv_at hl 0 rfl) ?_
  refine rx_g4 S hG dx_X_members_1 ?_
  refine lv_if_ne (tgt := 11) S.1 S.2.1 dx_X_members_4 (by decide) (fun c_4 => ?_) (fun c_4 => ?_)
  · skip
    refine lv_iconst (v := 5) S.1 S.2.1 dx_X_members_11 (by decide) ?_
    exact rg_ri S hr hlk hG dx_X_members_12 (by rw [px_ms, if_neg c_4]; exact ⟨rfl, rfl⟩)
  · skip
    refine lv_iconst (v := 3) S.1 S.2.1 dx_X_members_7 (by decide) ?_
    refine lv_goto (tgt := 12) S.1 S.2.1 dx_X_members_8 (by decide) ?_
    exact rg_ri S hr hlk hG dx_X_members_12 (by rw [px_ms, if_pos c_4]; exact ⟨rfl, rfl⟩)

set_option maxHeartbeats 4000000 in
set_option maxRecDepth 100000 in
theorem cx_X_failed (l : Launch) (d g : Nat → Int32) (ru fm st mv cp op : Int32) : xMi l y_X_failed c_X_failed (rm_n 0) [] (d, g, ru, fm, st, mv, cp, op) fm (d, g, ru, fm, st, mv, cp, op) := by
  intro K
  refine gMi_of (own := R_X) (by decide) rfl (Nat.le_of_ble_eq_true rfl) ?_
  intro p e s m args below meth c D A S hr hlk hG ls hl
  have hl : lv_has ls 1 [(0, .ref K.1)] := hl
  refine lv_aload_n S.1 S.2.1 dx_X_failed_0 rfl (lv_at hl 0 rfl) ?_
  refine rx_g3 S hG dx_X_failed_1 ?_
  exact rg_ri S hr hlk hG dx_X_failed_4 (by exact ⟨rfl, rfl⟩)

set_option maxHeartbeats 4000000 in
set_option maxRecDepth 100000 in
theorem cx_X_growth (l : Launch) (d g : Nat → Int32) (ru fm st mv cp op : Int32) : xMi l y_X_growth c_X_growth (rm_n 0) [] (d, g, ru, fm, st, mv, cp, op) (px_gr st mv) (d, g, ru, fm, st, mv, cp, op) := by
  intro K
  refine gMi_of (own := R_X) (by decide) rfl (Nat.le_of_ble_eq_true rfl) ?_
  intro p e s m args below meth c D A S hr hlk hG ls hl
  have hl : lv_has ls 1 [(0, .ref K.1)] := hl
  refine lv_aload_n S.1 S.2.1 dx_X_growth_0 rfl (lv_at hl 0 rfl) ?_
  refine rx_g5 S hG dx_X_growth_1 ?_
  refine lv_bipush (v := 6) S.1 S.2.1 dx_X_growth_4 (by decide) ?_
  refine lv_icmp_ne (tgt := 13) S.1 S.2.1 dx_X_growth_6 (by decide) (fun c_6 => ?_) (fun c_6 => ?_)
  · skip
    refine lv_aload_n S.1 S.2.1 dx_X_growth_13 rfl (lv_at hl 0 rfl) ?_
    refine rx_g4 S hG dx_X_growth_14 ?_
    exact rg_ri S hr hlk hG dx_X_growth_17 (by rw [px_gr, if_neg c_6]; exact ⟨rfl, rfl⟩)
  · skip
    refine lv_iconst (v := 2) S.1 S.2.1 dx_X_growth_9 (by decide) ?_
    refine lv_goto (tgt := 17) S.1 S.2.1 dx_X_growth_10 (by decide) ?_
    exact rg_ri S hr hlk hG dx_X_growth_17 (by rw [px_gr, if_pos c_6]; exact ⟨rfl, rfl⟩)

set_option maxHeartbeats 4000000 in
set_option maxRecDepth 100000 in
theorem cx_X_groups (l : Launch) (d g : Nat → Int32) (ru fm st mv cp op : Int32) : xMi l y_X_groups c_X_groups (rm_n 0) [] (d, g, ru, fm, st, mv, cp, op) mv (d, g, ru, fm, st, mv, cp, op) := by
  intro K
  refine gMi_of (own := R_X) (by decide) rfl (Nat.le_of_ble_eq_true rfl) ?_
  intro p e s m args below meth c D A S hr hlk hG ls hl
  have hl : lv_has ls 1 [(0, .ref K.1)] := hl
  refine lv_aload_n S.1 S.2.1 dx_X_groups_0 rfl (lv_at hl 0 rfl) ?_
  refine rx_g5 S hG dx_X_groups_1 ?_
  exact rg_ri S hr hlk hG dx_X_groups_4 (by exact ⟨rfl, rfl⟩)

set_option maxHeartbeats 4000000 in
set_option maxRecDepth 100000 in
theorem cx_X_isWide (l : Launch) (d g : Nat → Int32) (ru fm st mv cp op : Int32) (r : Int32) : xMi l y_X_isWide c_X_isWide (rm_n 0) [.int r] (d, g, ru, fm, st, mv, cp, op) (bI (px_iw st mv r)) (d, g, ru, fm, st, mv, cp, op) := by
  intro K
  refine gMi_of (own := R_X) (by decide) rfl (Nat.le_of_ble_eq_true rfl) ?_
  intro p e s m args below meth c D A S hr hlk hG ls hl
  have hl : lv_has ls 2 [(0, .ref K.1), (1, .int r)] := hl
  refine lv_aload_n S.1 S.2.1 dx_X_isWide_0 rfl (lv_at hl 0 rfl) ?_
  refine rx_g4 S hG dx_X_isWide_1 ?_
  refine lv_iconst (v := 2) S.1 S.2.1 dx_X_isWide_4 (by decide) ?_
  refine lv_icmp_eq (tgt := 24) S.1 S.2.1 dx_X_isWide_5 (by decide) (fun c_5 => ?_) (fun c_5 => ?_)
  · skip
    refine lv_iconst (v := 1) S.1 S.2.1 dx_X_isWide_24 (by decide) ?_
    refine lv_goto (tgt := 29) S.1 S.2.1 dx_X_isWide_25 (by decide) ?_
    exact rg_rz S hr hlk hG dx_X_isWide_29 (rfl) (by rw [px_iw, if_pos c_5]; exact ⟨rfl, rfl⟩)
  · skip
    refine lv_aload_n S.1 S.2.1 dx_X_isWide_8 rfl (lv_at hl 0 rfl) ?_
    refine rx_g4 S hG dx_X_isWide_9 ?_
    refine lv_iconst (v := 1) S.1 S.2.1 dx_X_isWide_12 (by decide) ?_
    refine lv_icmp_ne (tgt := 28) S.1 S.2.1 dx_X_isWide_13 (by decide) (fun c_13 => ?_) (fun c_13 => ?_)
    · skip
      refine lv_iconst (v := 0) S.1 S.2.1 dx_X_isWide_28 (by decide) ?_
      exact rg_rz S hr hlk hG dx_X_isWide_29 (rfl) (by rw [px_iw, if_neg c_5, if_neg c_13]; exact ⟨rfl, rfl⟩)
    · skip
      refine lv_iload_n S.1 S.2.1 dx_X_isWide_16 rfl (lv_at hl 1 rfl) ?_
      refine lv_aload_n S.1 S.2.1 dx_X_isWide_17 rfl (lv_at hl 0 rfl) ?_
      refine rx_g5 S hG dx_X_isWide_18 ?_
      refine lv_icmp_ge (tgt := 28) S.1 S.2.1 dx_X_isWide_21 (by decide) (fun c_21 => ?_) (fun c_21 => ?_)
      · skip
        refine lv_iconst (v := 0) S.1 S.2.1 dx_X_isWide_28 (by decide) ?_
        exact rg_rz S hr hlk hG dx_X_isWide_29 (rfl) (by rw [px_iw, if_neg c_5, if_pos c_13, if_pos c_21]; exact ⟨rfl, rfl⟩)
      · skip
        refine lv_iconst (v := 1) S.1 S.2.1 dx_X_isWide_24 (by decide) ?_
        refine lv_goto (tgt := 29) S.1 S.2.1 dx_X_isWide_25 (by decide) ?_
        exact rg_rz S hr hlk hG dx_X_isWide_29 (rfl) (by rw [px_iw, if_neg c_5, if_pos c_13, if_neg c_21]; exact ⟨rfl, rfl⟩)

set_option maxHeartbeats 4000000 in
set_option maxRecDepth 100000 in
theorem cx_X_inUse (l : Launch) (d g : Nat → Int32) (ru fm st mv cp op : Int32) (r : Int32) : xMi l y_X_inUse c_X_inUse (rm_n 0) [.int r] (d, g, ru, fm, st, mv, cp, op) (bI (px_iu st mv r)) (d, g, ru, fm, st, mv, cp, op) := by
  intro K
  refine gMi_of (own := R_X) (by decide) rfl (Nat.le_of_ble_eq_true rfl) ?_
  intro p e s m args below meth c D A S hr hlk hG ls hl
  have hl : lv_has ls 2 [(0, .ref K.1), (1, .int r)] := hl
  refine lv_aload_n S.1 S.2.1 dx_X_inUse_0 rfl (lv_at hl 0 rfl) ?_
  refine rx_g4 S hG dx_X_inUse_1 ?_
  refine lv_iconst (v := 1) S.1 S.2.1 dx_X_inUse_4 (by decide) ?_
  refine lv_icmp_ne (tgt := 26) S.1 S.2.1 dx_X_inUse_5 (by decide) (fun c_5 => ?_) (fun c_5 => ?_)
  · skip
    refine lv_iconst (v := 1) S.1 S.2.1 dx_X_inUse_26 (by decide) ?_
    refine lv_goto (tgt := 31) S.1 S.2.1 dx_X_inUse_27 (by decide) ?_
    exact rg_rz S hr hlk hG dx_X_inUse_31 (rfl) (by rw [px_iu, if_neg c_5]; exact ⟨rfl, rfl⟩)
  · skip
    refine lv_iload_n S.1 S.2.1 dx_X_inUse_8 rfl (lv_at hl 1 rfl) ?_
    refine lv_aload_n S.1 S.2.1 dx_X_inUse_9 rfl (lv_at hl 0 rfl) ?_
    refine rx_g5 S hG dx_X_inUse_10 ?_
    refine lv_icmp_lt (tgt := 26) S.1 S.2.1 dx_X_inUse_13 (by decide) (fun c_13 => ?_) (fun c_13 => ?_)
    · skip
      refine lv_iconst (v := 1) S.1 S.2.1 dx_X_inUse_26 (by decide) ?_
      refine lv_goto (tgt := 31) S.1 S.2.1 dx_X_inUse_27 (by decide) ?_
      exact rg_rz S hr hlk hG dx_X_inUse_31 (rfl) (by rw [px_iu, if_pos c_5, if_pos c_13]; exact ⟨rfl, rfl⟩)
    · skip
      refine lv_iload_n S.1 S.2.1 dx_X_inUse_16 rfl (lv_at hl 1 rfl) ?_
      refine lv_iconst (v := 2) S.1 S.2.1 dx_X_inUse_17 (by decide) ?_
      refine lv_aload_n S.1 S.2.1 dx_X_inUse_18 rfl (lv_at hl 0 rfl) ?_
      refine rx_g5 S hG dx_X_inUse_19 ?_
      refine lv_imul S.1 S.2.1 dx_X_inUse_22 ?_
      refine lv_icmp_lt (tgt := 30) S.1 S.2.1 dx_X_inUse_23 (by decide) (fun c_23 => ?_) (fun c_23 => ?_)
      · skip
        refine lv_iconst (v := 0) S.1 S.2.1 dx_X_inUse_30 (by decide) ?_
        exact rg_rz S hr hlk hG dx_X_inUse_31 (rfl) (by rw [px_iu, if_pos c_5, if_neg c_13, if_pos c_23]; exact ⟨rfl, rfl⟩)
      · skip
        refine lv_iconst (v := 1) S.1 S.2.1 dx_X_inUse_26 (by decide) ?_
        refine lv_goto (tgt := 31) S.1 S.2.1 dx_X_inUse_27 (by decide) ?_
        exact rg_rz S hr hlk hG dx_X_inUse_31 (rfl) (by rw [px_iu, if_pos c_5, if_neg c_13, if_neg c_23]; exact ⟨rfl, rfl⟩)

set_option maxHeartbeats 4000000 in
set_option maxRecDepth 100000 in
theorem cx_X_blockIsWide (l : Launch) (d g : Nat → Int32) (ru fm st mv cp op : Int32) (b : Int32) : xMi l y_X_blockIsWide c_X_blockIsWide (rm_n 0) [.int b] (d, g, ru, fm, st, mv, cp, op) (bI (px_bw st mv b)) (d, g, ru, fm, st, mv, cp, op) := by
  intro K
  refine gMi_of (own := R_X) (by decide) rfl (Nat.le_of_ble_eq_true rfl) ?_
  intro p e s m args below meth c D A S hr hlk hG ls hl
  have hl : lv_has ls 2 [(0, .ref K.1), (1, .int b)] := hl
  refine lv_aload_n S.1 S.2.1 dx_X_blockIsWide_0 rfl (lv_at hl 0 rfl) ?_
  refine rx_g4 S hG dx_X_blockIsWide_1 ?_
  refine lv_iconst (v := 2) S.1 S.2.1 dx_X_blockIsWide_4 (by decide) ?_
  refine lv_icmp_eq (tgt := 26) S.1 S.2.1 dx_X_blockIsWide_5 (by decide) (fun c_5 => ?_) (fun c_5 => ?_)
  · skip
    refine lv_iconst (v := 1) S.1 S.2.1 dx_X_blockIsWide_26 (by decide) ?_
    refine lv_goto (tgt := 31) S.1 S.2.1 dx_X_blockIsWide_27 (by decide) ?_
    exact rg_rz S hr hlk hG dx_X_blockIsWide_31 (rfl) (by rw [px_bw, if_pos c_5]; exact ⟨rfl, rfl⟩)
  · skip
    refine lv_aload_n S.1 S.2.1 dx_X_blockIsWide_8 rfl (lv_at hl 0 rfl) ?_
    refine rx_g4 S hG dx_X_blockIsWide_9 ?_
    refine lv_iconst (v := 1) S.1 S.2.1 dx_X_blockIsWide_12 (by decide) ?_
    refine lv_icmp_ne (tgt := 30) S.1 S.2.1 dx_X_blockIsWide_13 (by decide) (fun c_13 => ?_) (fun c_13 => ?_)
    · skip
      refine lv_iconst (v := 0) S.1 S.2.1 dx_X_blockIsWide_30 (by decide) ?_
      exact rg_rz S hr hlk hG dx_X_blockIsWide_31 (rfl) (by rw [px_bw, if_neg c_5, if_neg c_13]; exact ⟨rfl, rfl⟩)
    · skip
      refine lv_iload_n S.1 S.2.1 dx_X_blockIsWide_16 rfl (lv_at hl 1 rfl) ?_
      refine lv_iconst (v := 4) S.1 S.2.1 dx_X_blockIsWide_17 (by decide) ?_
      refine lv_aload_n S.1 S.2.1 dx_X_blockIsWide_18 rfl (lv_at hl 0 rfl) ?_
      refine rx_g5 S hG dx_X_blockIsWide_19 ?_
      refine lv_imul S.1 S.2.1 dx_X_blockIsWide_22 ?_
      refine lv_icmp_ge (tgt := 30) S.1 S.2.1 dx_X_blockIsWide_23 (by decide) (fun c_23 => ?_) (fun c_23 => ?_)
      · skip
        refine lv_iconst (v := 0) S.1 S.2.1 dx_X_blockIsWide_30 (by decide) ?_
        exact rg_rz S hr hlk hG dx_X_blockIsWide_31 (rfl) (by rw [px_bw, if_neg c_5, if_pos c_13, if_pos c_23]; exact ⟨rfl, rfl⟩)
      · skip
        refine lv_iconst (v := 1) S.1 S.2.1 dx_X_blockIsWide_26 (by decide) ?_
        refine lv_goto (tgt := 31) S.1 S.2.1 dx_X_blockIsWide_27 (by decide) ?_
        exact rg_rz S hr hlk hG dx_X_blockIsWide_31 (rfl) (by rw [px_bw, if_neg c_5, if_pos c_13, if_neg c_23]; exact ⟨rfl, rfl⟩)

def px_begin (d g : Nat → Int32) (ru fm st mv cp op : Int32) : Int32 × XS :=
  if ru = 0 then (-1, (d, g, ru, fm, st, mv, cp, op)) else if st = 0 then (if fm = -1 then (0, (d, g, ru, fm, 1, 0, cp, op)) else (-3, (d, g, ru, fm, st, mv, cp, op))) else (-2, (d, g, ru, fm, st, mv, cp, op))
def px_crash (d g : Nat → Int32) (ru fm st mv cp op : Int32) : Int32 × XS :=
  if ru = 0 then (-1, (d, g, ru, fm, st, mv, cp, op)) else (0, (d, g, 0, fm, st, mv, cp, op))
set_option maxHeartbeats 4000000 in
set_option maxRecDepth 100000 in
theorem cx_X_begin (l : Launch) (d g : Nat → Int32) (ru fm st mv cp op : Int32) : xMi l y_X_begin c_X_begin (rm_n 0) [] (d, g, ru, fm, st, mv, cp, op) ((px_begin d g ru fm st mv cp op).1) (px_begin d g ru fm st mv cp op).2 := by
  intro K
  refine gMi_of (own := R_X) (by decide) rfl (Nat.le_of_ble_eq_true rfl) ?_
  intro p e s m args below meth c D A S hr hlk hG ls hl
  have hl : lv_has ls 1 [(0, .ref K.1)] := hl
  refine lv_aload_n S.1 S.2.1 dx_X_begin_0 rfl (lv_at hl 0 rfl) ?_
  refine rx_g2 S hG dx_X_begin_1 ?_
  refine lv_if_ne (tgt := 9) S.1 S.2.1 dx_X_begin_4 (by decide) (fun c_4 => ?_) (fun c_4 => ?_)
  · skip
    refine lv_aload_n S.1 S.2.1 dx_X_begin_9 rfl (lv_at hl 0 rfl) ?_
    refine rx_g4 S hG dx_X_begin_10 ?_
    refine lv_if_eq (tgt := 19) S.1 S.2.1 dx_X_begin_13 (by decide) (fun c_13 => ?_) (fun c_13 => ?_)
    · skip
      refine lv_aload_n S.1 S.2.1 dx_X_begin_19 rfl (lv_at hl 0 rfl) ?_
      refine rx_g3 S hG dx_X_begin_20 ?_
      refine lv_iconst (v := (-1)) S.1 S.2.1 dx_X_begin_23 (by decide) ?_
      refine lv_icmp_eq (tgt := 30) S.1 S.2.1 dx_X_begin_24 (by decide) (fun c_24 => ?_) (fun c_24 => ?_)
      · skip
        refine lv_aload_n S.1 S.2.1 dx_X_begin_30 rfl (lv_at hl 0 rfl) ?_
        refine lv_iconst (v := 1) S.1 S.2.1 dx_X_begin_31 (by decide) ?_
        refine rx_p4 S hG dx_X_begin_32 (fun H locs hG => ?_)
        refine lv_aload_n S.1 S.2.1 dx_X_begin_35 rfl (lv_at hl 0 rfl) ?_
        refine lv_iconst (v := 0) S.1 S.2.1 dx_X_begin_36 (by decide) ?_
        refine rx_p5 S hG dx_X_begin_37 (fun H locs hG => ?_)
        refine lv_iconst (v := 0) S.1 S.2.1 dx_X_begin_40 (by decide) ?_
        exact rg_ri S hr hlk hG dx_X_begin_41 (by rw [px_begin, if_neg c_4, if_pos c_13, if_pos c_24]; exact ⟨rfl, rfl⟩)
      · skip
        refine lv_bipush (v := (-3)) S.1 S.2.1 dx_X_begin_27 (by decide) ?_
        exact rg_ri S hr hlk hG dx_X_begin_29 (by rw [px_begin, if_neg c_4, if_pos c_13, if_neg c_24]; exact ⟨rfl, rfl⟩)
    · skip
      refine lv_bipush (v := (-2)) S.1 S.2.1 dx_X_begin_16 (by decide) ?_
      exact rg_ri S hr hlk hG dx_X_begin_18 (by rw [px_begin, if_neg c_4, if_neg c_13]; exact ⟨rfl, rfl⟩)
  · skip
    refine lv_iconst (v := (-1)) S.1 S.2.1 dx_X_begin_7 (by decide) ?_
    exact rg_ri S hr hlk hG dx_X_begin_8 (by rw [px_begin, if_pos c_4]; exact ⟨rfl, rfl⟩)

set_option maxHeartbeats 4000000 in
set_option maxRecDepth 100000 in
theorem cx_X_crash (l : Launch) (d g : Nat → Int32) (ru fm st mv cp op : Int32) : xMi l y_X_crash c_X_crash (rm_n 0) [] (d, g, ru, fm, st, mv, cp, op) ((px_crash d g ru fm st mv cp op).1) (px_crash d g ru fm st mv cp op).2 := by
  intro K
  refine gMi_of (own := R_X) (by decide) rfl (Nat.le_of_ble_eq_true rfl) ?_
  intro p e s m args below meth c D A S hr hlk hG ls hl
  have hl : lv_has ls 1 [(0, .ref K.1)] := hl
  refine lv_aload_n S.1 S.2.1 dx_X_crash_0 rfl (lv_at hl 0 rfl) ?_
  refine rx_g2 S hG dx_X_crash_1 ?_
  refine lv_if_ne (tgt := 9) S.1 S.2.1 dx_X_crash_4 (by decide) (fun c_4 => ?_) (fun c_4 => ?_)
  · skip
    refine lv_aload_n S.1 S.2.1 dx_X_crash_9 rfl (lv_at hl 0 rfl) ?_
    refine lv_iconst (v := 0) S.1 S.2.1 dx_X_crash_10 (by decide) ?_
    refine rx_p2 S hG dx_X_crash_11 rfl rfl (fun H locs hG => ?_)
    refine lv_iconst (v := 0) S.1 S.2.1 dx_X_crash_14 (by decide) ?_
    exact rg_ri S hr hlk hG dx_X_crash_15 (by rw [px_crash, if_neg c_4]; exact ⟨rfl, rfl⟩)
  · skip
    refine lv_iconst (v := (-1)) S.1 S.2.1 dx_X_crash_7 (by decide) ?_
    exact rg_ri S hr hlk hG dx_X_crash_8 (by rw [px_crash, if_pos c_4]; exact ⟨rfl, rfl⟩)

set_option maxHeartbeats 4000000 in
set_option maxRecDepth 100000 in
theorem cx_X_rowOf (l : Launch) (b : Nat) (w : Bool) (hb : b < 2 ^ 31) : sMi l y_X_rowOf c_X_rowOf (rm_n 0) [.int (nI b), .int (bI w)] (nI (px_row b w)) := by
  refine sMi_of (own := R_X) (by decide) rfl (Nat.le_of_ble_eq_true rfl) ?_
  intro p e s m args below meth c S hr hlk ls hl
  have hl : lv_has ls 2 [(0, .int (nI b)), (1, .int (bI w))] := hl
  cases w
  · skip
    refine lv_iload_n S.1 S.2.1 dx_X_rowOf_0 rfl (lv_at hl 1 rfl) ?_
    refine lv_if_eq (tgt := 10) S.1 S.2.1 dx_X_rowOf_1 (by decide) (fun _ => ?_) (fun h9 => absurd (by decide) h9)
    refine lv_iload_n S.1 S.2.1 dx_X_rowOf_10 rfl (lv_at hl 0 rfl) ?_
    refine lv_iconst (v := 1) S.1 S.2.1 dx_X_rowOf_11 (by decide) ?_
    refine lv_ishr S.1 S.2.1 dx_X_rowOf_12 ?_
    refine rg_top (y := nI (b / 2)) (nx_sh1 hb) ?_
    exact rs_ri S hr hlk dx_X_rowOf_13 (by rfl)
  · skip
    refine lv_iload_n S.1 S.2.1 dx_X_rowOf_0 rfl (lv_at hl 1 rfl) ?_
    refine lv_if_eq (tgt := 10) S.1 S.2.1 dx_X_rowOf_1 (by decide) (fun h9 => absurd h9 (by decide)) (fun _ => ?_)
    refine lv_iload_n S.1 S.2.1 dx_X_rowOf_4 rfl (lv_at hl 0 rfl) ?_
    refine lv_iconst (v := 2) S.1 S.2.1 dx_X_rowOf_5 (by decide) ?_
    refine lv_ishr S.1 S.2.1 dx_X_rowOf_6 ?_
    refine rg_top (y := nI (b / 4)) (nx_sh2 hb) ?_
    refine lv_goto (tgt := 13) S.1 S.2.1 dx_X_rowOf_7 (by decide) ?_
    exact rs_ri S hr hlk dx_X_rowOf_13 (by rfl)

set_option maxHeartbeats 4000000 in
set_option maxRecDepth 100000 in
theorem cx_X_parityOf (l : Launch) (b : Nat) (w : Bool) (hb : b < 2 ^ 31) : sMi l y_X_parityOf c_X_parityOf (rm_n 0) [.int (nI b), .int (bI w)] (nI (px_par b w)) := by
  refine sMi_of (own := R_X) (by decide) rfl (Nat.le_of_ble_eq_true rfl) ?_
  intro p e s m args below meth c S hr hlk ls hl
  have hl : lv_has ls 2 [(0, .int (nI b)), (1, .int (bI w))] := hl
  cases w
  · skip
    refine lv_iload_n S.1 S.2.1 dx_X_parityOf_0 rfl (lv_at hl 1 rfl) ?_
    refine lv_if_eq (tgt := 10) S.1 S.2.1 dx_X_parityOf_1 (by decide) (fun _ => ?_) (fun h9 => absurd (by decide) h9)
    refine lv_iload_n S.1 S.2.1 dx_X_parityOf_10 rfl (lv_at hl 0 rfl) ?_
    refine lv_iconst (v := 3) S.1 S.2.1 dx_X_parityOf_11 (by decide) ?_
    refine lv_irem S.1 S.2.1 dx_X_parityOf_12 (by decide) ?_
    refine rg_top (y := nI (b % 3)) (nx_r3 hb) ?_
    exact rs_ri S hr hlk dx_X_parityOf_13 (by rfl)
  · skip
    refine lv_iload_n S.1 S.2.1 dx_X_parityOf_0 rfl (lv_at hl 1 rfl) ?_
    refine lv_if_eq (tgt := 10) S.1 S.2.1 dx_X_parityOf_1 (by decide) (fun h9 => absurd h9 (by decide)) (fun _ => ?_)
    refine lv_iload_n S.1 S.2.1 dx_X_parityOf_4 rfl (lv_at hl 0 rfl) ?_
    refine lv_iconst (v := 5) S.1 S.2.1 dx_X_parityOf_5 (by decide) ?_
    refine lv_irem S.1 S.2.1 dx_X_parityOf_6 (by decide) ?_
    refine rg_top (y := nI (b % 5)) (nx_r5 hb) ?_
    refine lv_goto (tgt := 13) S.1 S.2.1 dx_X_parityOf_7 (by decide) ?_
    exact rs_ri S hr hlk dx_X_parityOf_13 (by rfl)

set_option maxHeartbeats 4000000 in
set_option maxRecDepth 100000 in
theorem cx_X_memberOf (l : Launch) (b : Nat) (w : Bool) (hb : b < 2 ^ 31) : sMi l y_X_memberOf c_X_memberOf (rm_n 0) [.int (nI b), .int (bI w)] (nI (px_mem b w)) := by
  refine sMi_of (own := R_X) (by decide) rfl (Nat.le_of_ble_eq_true rfl) ?_
  intro p e s m args below meth c S hr hlk ls hl
  have hl : lv_has ls 5 [(0, .int (nI b)), (1, .int (bI w))] := hl
  cases w
  · skip
    refine lv_iload_n S.1 S.2.1 dx_X_memberOf_0 rfl (lv_at hl 1 rfl) ?_
    refine lv_if_eq (tgt := 10) S.1 S.2.1 dx_X_memberOf_1 (by decide) (fun _ => ?_) (fun h9 => absurd (by decide) h9)
    refine lv_iload_n S.1 S.2.1 dx_X_memberOf_10 rfl (lv_at hl 0 rfl) ?_
    refine lv_iconst (v := 1) S.1 S.2.1 dx_X_memberOf_11 (by decide) ?_
    refine lv_ishr S.1 S.2.1 dx_X_memberOf_12 ?_
    refine rg_top (y := nI (b / 2)) (nx_sh1 hb) ?_
    refine lv_istore_n (lv' := [(2, .int (nI (b / 2))), (0, .int (nI b)), (1, .int (bI false))]) S.1 S.2.1 dx_X_memberOf_13 rfl hl (by decide) rfl (fun ls hl => ?_)
    refine lv_iload_n S.1 S.2.1 dx_X_memberOf_14 rfl (lv_at hl 2 rfl) ?_
    refine lv_if_eq (tgt := 24) S.1 S.2.1 dx_X_memberOf_15 (by decide) (fun _ => ?_) (fun h9 => absurd (by decide) h9)
    refine lv_iload_n S.1 S.2.1 dx_X_memberOf_24 rfl (lv_at hl 0 rfl) ?_
    refine lv_iconst (v := 3) S.1 S.2.1 dx_X_memberOf_25 (by decide) ?_
    refine lv_irem S.1 S.2.1 dx_X_memberOf_26 (by decide) ?_
    refine rg_top (y := nI (b / 2 % 3)) (nx_r3 (by omega)) ?_
    refine lv_istore_n (lv' := [(3, .int (nI (b / 2 % 3))), (2, .int (nI (b / 2))), (0, .int (nI b)), (1, .int (bI false))]) S.1 S.2.1 dx_X_memberOf_27 rfl hl (by decide) rfl (fun ls hl => ?_)
    refine lv_iload_n S.1 S.2.1 dx_X_memberOf_28 rfl (lv_at hl 3 rfl) ?_
    refine lv_if_eq (tgt := 38) S.1 S.2.1 dx_X_memberOf_29 (by decide) (fun _ => ?_) (fun h9 => absurd (by decide) h9)
    refine lv_iload_n S.1 S.2.1 dx_X_memberOf_38 rfl (lv_at hl 2 rfl) ?_
    refine lv_iconst (v := 1) S.1 S.2.1 dx_X_memberOf_39 (by decide) ?_
    refine lv_iand S.1 S.2.1 dx_X_memberOf_40 ?_
    refine rg_top (y := nI (b % 2)) (nx_a1 hb) ?_
    refine lv_istore (lv' := [(4, .int (nI (b % 2))), (3, .int (nI (b / 2 % 3))), (2, .int (nI (b / 2))), (0, .int (nI b)), (1, .int (bI false))]) S.1 S.2.1 dx_X_memberOf_41 hl (by decide) rfl (fun ls hl => ?_)
    refine lv_iload S.1 S.2.1 dx_X_memberOf_43 (lv_at hl 0 rfl) ?_
    refine lv_iload_n S.1 S.2.1 dx_X_memberOf_45 rfl (lv_at hl 1 rfl) ?_
    refine lv_icmp_ge (tgt := 54) S.1 S.2.1 dx_X_memberOf_46 (by decide) (fun c_46 => ?_) (fun c_46 => ?_)
    · skip
      refine lv_iload S.1 S.2.1 dx_X_memberOf_54 (lv_at hl 0 rfl) ?_
      refine lv_iconst (v := 1) S.1 S.2.1 dx_X_memberOf_56 (by decide) ?_
      refine lv_iadd S.1 S.2.1 dx_X_memberOf_57 ?_
      exact rs_ri S hr hlk dx_X_memberOf_58 (by rw [nI_1]; exact congrArg nI (if_neg (Nat.not_lt.mpr ((nI_leI (by omega) (by omega)).mp c_46))).symm)
    · skip
      refine lv_iload S.1 S.2.1 dx_X_memberOf_49 (lv_at hl 0 rfl) ?_
      refine lv_goto (tgt := 58) S.1 S.2.1 dx_X_memberOf_51 (by decide) ?_
      exact rs_ri S hr hlk dx_X_memberOf_58 (congrArg nI (if_pos (Nat.not_le.mp (fun h9 => c_46 (nI_le h9 (by omega))))).symm)
  · skip
    refine lv_iload_n S.1 S.2.1 dx_X_memberOf_0 rfl (lv_at hl 1 rfl) ?_
    refine lv_if_eq (tgt := 10) S.1 S.2.1 dx_X_memberOf_1 (by decide) (fun h9 => absurd h9 (by decide)) (fun _ => ?_)
    refine lv_iload_n S.1 S.2.1 dx_X_memberOf_4 rfl (lv_at hl 0 rfl) ?_
    refine lv_iconst (v := 2) S.1 S.2.1 dx_X_memberOf_5 (by decide) ?_
    refine lv_ishr S.1 S.2.1 dx_X_memberOf_6 ?_
    refine rg_top (y := nI (b / 4)) (nx_sh2 hb) ?_
    refine lv_goto (tgt := 13) S.1 S.2.1 dx_X_memberOf_7 (by decide) ?_
    refine lv_istore_n (lv' := [(2, .int (nI (b / 4))), (0, .int (nI b)), (1, .int (bI true))]) S.1 S.2.1 dx_X_memberOf_13 rfl hl (by decide) rfl (fun ls hl => ?_)
    refine lv_iload_n S.1 S.2.1 dx_X_memberOf_14 rfl (lv_at hl 2 rfl) ?_
    refine lv_if_eq (tgt := 24) S.1 S.2.1 dx_X_memberOf_15 (by decide) (fun h9 => absurd h9 (by decide)) (fun _ => ?_)
    refine lv_iload_n S.1 S.2.1 dx_X_memberOf_18 rfl (lv_at hl 0 rfl) ?_
    refine lv_iconst (v := 5) S.1 S.2.1 dx_X_memberOf_19 (by decide) ?_
    refine lv_irem S.1 S.2.1 dx_X_memberOf_20 (by decide) ?_
    refine rg_top (y := nI (b / 4 % 5)) (nx_r5 (by omega)) ?_
    refine lv_goto (tgt := 27) S.1 S.2.1 dx_X_memberOf_21 (by decide) ?_
    refine lv_istore_n (lv' := [(3, .int (nI (b / 4 % 5))), (2, .int (nI (b / 4))), (0, .int (nI b)), (1, .int (bI true))]) S.1 S.2.1 dx_X_memberOf_27 rfl hl (by decide) rfl (fun ls hl => ?_)
    refine lv_iload_n S.1 S.2.1 dx_X_memberOf_28 rfl (lv_at hl 3 rfl) ?_
    refine lv_if_eq (tgt := 38) S.1 S.2.1 dx_X_memberOf_29 (by decide) (fun h9 => absurd h9 (by decide)) (fun _ => ?_)
    refine lv_iload_n S.1 S.2.1 dx_X_memberOf_32 rfl (lv_at hl 2 rfl) ?_
    refine lv_iconst (v := 3) S.1 S.2.1 dx_X_memberOf_33 (by decide) ?_
    refine lv_iand S.1 S.2.1 dx_X_memberOf_34 ?_
    refine rg_top (y := nI (b % 4)) (nx_a3 hb) ?_
    refine lv_goto (tgt := 41) S.1 S.2.1 dx_X_memberOf_35 (by decide) ?_
    refine lv_istore (lv' := [(4, .int (nI (b % 4))), (3, .int (nI (b / 4 % 5))), (2, .int (nI (b / 4))), (0, .int (nI b)), (1, .int (bI true))]) S.1 S.2.1 dx_X_memberOf_41 hl (by decide) rfl (fun ls hl => ?_)
    refine lv_iload S.1 S.2.1 dx_X_memberOf_43 (lv_at hl 0 rfl) ?_
    refine lv_iload_n S.1 S.2.1 dx_X_memberOf_45 rfl (lv_at hl 1 rfl) ?_
    refine lv_icmp_ge (tgt := 54) S.1 S.2.1 dx_X_memberOf_46 (by decide) (fun c_46 => ?_) (fun c_46 => ?_)
    · skip
      refine lv_iload S.1 S.2.1 dx_X_memberOf_54 (lv_at hl 0 rfl) ?_
      refine lv_iconst (v := 1) S.1 S.2.1 dx_X_memberOf_56 (by decide) ?_
      refine lv_iadd S.1 S.2.1 dx_X_memberOf_57 ?_
      exact rs_ri S hr hlk dx_X_memberOf_58 (by rw [nI_1]; exact congrArg nI (if_neg (Nat.not_lt.mpr ((nI_leI (by omega) (by omega)).mp c_46))).symm)
    · skip
      refine lv_iload S.1 S.2.1 dx_X_memberOf_49 (lv_at hl 0 rfl) ?_
      refine lv_goto (tgt := 58) S.1 S.2.1 dx_X_memberOf_51 (by decide) ?_
      exact rs_ri S hr hlk dx_X_memberOf_58 (congrArg nI (if_pos (Nat.not_le.mp (fun h9 => c_46 (nI_le h9 (by omega))))).symm)

set_option maxHeartbeats 4000000 in
set_option maxRecDepth 100000 in
theorem cx_X_put (l : Launch) (d g : Nat → Int32) (ru fm st mv cp op : Int32) (k r : Nat) (v : Int32) (hk : k < 5) (hr0 : r < 16) : xMv l y_X_put c_X_put (rm_n 0) [.int (nI k), .int (nI r), .int v] (d, g, ru, fm, st, mv, cp, op) (px_put d fm k r v, g, ru, fm, st, mv, cp, op) := by
  intro K
  refine gMv_of (own := R_X) (by decide) rfl (Nat.le_of_ble_eq_true rfl) ?_
  intro p e s m args below meth c D A S hr hlk hG ls hl
  have hl : lv_has ls 4 [(0, .ref K.1), (1, .int (nI k)), (2, .int (nI r)), (3, .int v)] := hl
  refine lv_iload_n S.1 S.2.1 dx_X_put_0 rfl (lv_at hl 1 rfl) ?_
  refine lv_aload_n S.1 S.2.1 dx_X_put_1 rfl (lv_at hl 0 rfl) ?_
  refine rx_g3 S hG dx_X_put_2 ?_
  refine lv_icmp_eq (tgt := 20) S.1 S.2.1 dx_X_put_5 (by decide) (fun c_5 => ?_) (fun c_5 => ?_)
  · skip
    exact rg_rv S hr hlk hG dx_X_put_20 (by rw [px_put, if_pos c_5])
  · skip
    refine lv_aload_n S.1 S.2.1 dx_X_put_8 rfl (lv_at hl 0 rfl) ?_
    refine rx_g0 S hG dx_X_put_9 ?_
    refine lv_iload_n S.1 S.2.1 dx_X_put_12 rfl (lv_at hl 1 rfl) ?_
    refine lv_bipush (v := 16) S.1 S.2.1 dx_X_put_13 (by decide) ?_
    refine lv_imul S.1 S.2.1 dx_X_put_15 ?_
    refine lv_iload_n S.1 S.2.1 dx_X_put_16 rfl (lv_at hl 2 rfl) ?_
    refine lv_iadd S.1 S.2.1 dx_X_put_17 ?_
    refine rg_top (y := nI (k * 16 + r)) (nx_16 k r) ?_
    refine lv_iload_n S.1 S.2.1 dx_X_put_18 rfl (lv_at hl 3 rfl) ?_
    refine rx_ds (i := k * 16 + r) (by omega) S hG dx_X_put_19 (fun H locs hG => ?_)
    exact rg_rv S hr hlk hG dx_X_put_20 (by rw [px_put, if_neg c_5])

set_option maxHeartbeats 4000000 in
set_option maxRecDepth 100000 in
theorem lp_X_others {p : Program} {l : Launch} {e : Env} {s : State} {m : MethodId} {args : Array Value} {below : List Frame} {meth : Method} {c : Code} {D : va_G} {A : Nat → Prop} {K : XK} {Q : State → Prop} {d g : Nat → Int32} {ru fm st mv cp op but wv : Int32} {r N : Nat} (S : CallFix p m c b_X_others 7 s args lw_gd R_X) (hN : (N - 1) * 16 + r < 80) (hN5 : N ≤ 5)
    (kx : ∀ (H : Heap) (locs : List Loc) (ls : Array Slot), gG D A s (xw K) (xt K) (d, g, ru, fm, st, mv, cp, op) H locs → lv_has ls 7 [(6, .int (nI N)), (4, .int (px_oth d r but N)), (5, .int (nI N)), (0, .ref K.1), (1, .int (nI r)), (2, .int but), (3, .int wv)] → W p l e (rm_n 0) s m args below meth c H locs 0 0 Q (F0 m 53 ls [])) :
    ∀ (n i : Nat), i + n = N → ∀ (H : Heap) (locs : List Loc) (ls : Array Slot), gG D A s (xw K) (xt K) (d, g, ru, fm, st, mv, cp, op) H locs → lv_has ls 7 [(6, .int (nI i)), (4, .int (px_oth d r but i)), (5, .int (nI N)), (0, .ref K.1), (1, .int (nI r)), (2, .int but), (3, .int wv)] → W p l e (rm_n 0) s m args below meth c H locs 0 0 Q (F0 m 17 ls []) := by
  intro n
  induction n with
  | zero =>
    intro i hi H locs ls hG hl
    have hi : i = N := by omega
    subst hi
    refine lv_iload S.1 S.2.1 dx_X_others_17 (lv_at hl 0 rfl) ?_
    refine lv_iload S.1 S.2.1 dx_X_others_19 (lv_at hl 2 rfl) ?_
    refine lv_icmp_ge (tgt := 53) S.1 S.2.1 dx_X_others_21 (by decide) (fun _ => ?_) (fun h9 => absurd (nI_le (Nat.le_refl _) (by omega)) h9)
    exact kx _ _ _ hG (lv_sub hl [0, 1, 2, 3, 4, 5, 6] rfl)
  | succ n ih =>
    intro i hi H locs ls hG hl
    refine lv_iload S.1 S.2.1 dx_X_others_17 (lv_at hl 0 rfl) ?_
    refine lv_iload S.1 S.2.1 dx_X_others_19 (lv_at hl 2 rfl) ?_
    refine lv_icmp_ge (tgt := 53) S.1 S.2.1 dx_X_others_21 (by decide) (fun h9 => absurd h9 (nI_ge (by omega) (by omega))) (fun _ => ?_)
    refine lv_iload S.1 S.2.1 dx_X_others_24 (lv_at hl 0 rfl) ?_
    refine lv_iload_n S.1 S.2.1 dx_X_others_26 rfl (lv_at hl 5 rfl) ?_
    refine lv_icmp_eq (tgt := 47) S.1 S.2.1 dx_X_others_27 (by decide) (fun c_27 => ?_) (fun c_27 => ?_)
    · skip
      refine lv_iinc (v := nI (i + 1)) (lv' := [(6, .int (nI (i + 1))), (4, .int (px_oth d r but i)), (5, .int (nI N)), (0, .ref K.1), (1, .int (nI r)), (2, .int but), (3, .int wv)]) S.1 S.2.1 dx_X_others_47 hl (k := 0) rfl ((nI_1 i)) (by decide) rfl (fun ls hl => ?_)
      refine lv_goto (tgt := 17) S.1 S.2.1 dx_X_others_50 (by decide) ?_
      have e4 : px_oth d r but i = px_oth d r but (i + 1) := by
        show _ = (if nI i = but then px_oth d r but i else px_oth d r but i ^^^ d (i * 16 + r))
        rw [if_pos c_27]
      rw [e4] at hl
      exact ih (i + 1) (by omega) _ _ _ hG (lv_sub hl [0, 1, 2, 3, 4, 5, 6] rfl)
    · skip
      refine lv_iload S.1 S.2.1 dx_X_others_30 (lv_at hl 1 rfl) ?_
      refine lv_aload_n S.1 S.2.1 dx_X_others_32 rfl (lv_at hl 3 rfl) ?_
      refine rx_g0 S hG dx_X_others_33 ?_
      refine lv_iload S.1 S.2.1 dx_X_others_36 (lv_at hl 0 rfl) ?_
      refine lv_bipush (v := 16) S.1 S.2.1 dx_X_others_38 (by decide) ?_
      refine lv_imul S.1 S.2.1 dx_X_others_40 ?_
      refine lv_iload_n S.1 S.2.1 dx_X_others_41 rfl (lv_at hl 4 rfl) ?_
      refine lv_iadd S.1 S.2.1 dx_X_others_42 ?_
      refine rg_top (y := nI (i * 16 + r)) (nx_16 i r) ?_
      refine rx_dl (i := i * 16 + r) (by omega) S hG dx_X_others_43 ?_
      refine lv_ixor S.1 S.2.1 dx_X_others_44 ?_
      refine lv_istore (lv' := [(4, .int ((px_oth d r but i) ^^^ (d (i * 16 + r)))), (6, .int (nI i)), (5, .int (nI N)), (0, .ref K.1), (1, .int (nI r)), (2, .int but), (3, .int wv)]) S.1 S.2.1 dx_X_others_45 hl (by decide) rfl (fun ls hl => ?_)
      refine lv_iinc (v := nI (i + 1)) (lv' := [(6, .int (nI (i + 1))), (4, .int ((px_oth d r but i) ^^^ (d (i * 16 + r)))), (5, .int (nI N)), (0, .ref K.1), (1, .int (nI r)), (2, .int but), (3, .int wv)]) S.1 S.2.1 dx_X_others_47 hl (k := 1) rfl ((nI_1 i)) (by decide) rfl (fun ls hl => ?_)
      refine lv_goto (tgt := 17) S.1 S.2.1 dx_X_others_50 (by decide) ?_
      have e4 : (px_oth d r but i) ^^^ (d (i * 16 + r)) = px_oth d r but (i + 1) := by
        show _ = (if nI i = but then px_oth d r but i else px_oth d r but i ^^^ d (i * 16 + r))
        rw [if_neg c_27]
      rw [e4] at hl
      exact ih (i + 1) (by omega) _ _ _ hG (lv_sub hl [0, 1, 2, 3, 4, 5, 6] rfl)

set_option maxHeartbeats 4000000 in
set_option maxRecDepth 100000 in
theorem cx_X_others (l : Launch) (d g : Nat → Int32) (ru fm st mv cp op : Int32) (r : Nat) (but : Int32) (w : Bool) (hr0 : r < 16) : xMi l y_X_others c_X_others (rm_n 0) [.int (nI r), .int but, .int (bI w)] (d, g, ru, fm, st, mv, cp, op) (px_oth d r but (px_cnt w)) (d, g, ru, fm, st, mv, cp, op) := by
  intro K
  refine gMi_of (own := R_X) (by decide) rfl (Nat.le_of_ble_eq_true rfl) ?_
  intro p e s m args below meth c D A S hr hlk hG ls hl
  have hl : lv_has ls 7 [(0, .ref K.1), (1, .int (nI r)), (2, .int but), (3, .int (bI w))] := hl
  cases w
  · skip
    refine lv_iconst (v := 0) S.1 S.2.1 dx_X_others_0 (by decide) ?_
    refine lv_istore (lv' := [(4, .int 0), (0, .ref K.1), (1, .int (nI r)), (2, .int but), (3, .int (bI false))]) S.1 S.2.1 dx_X_others_1 hl (by decide) rfl (fun ls hl => ?_)
    refine lv_iload_n S.1 S.2.1 dx_X_others_3 rfl (lv_at hl 4 rfl) ?_
    refine lv_if_eq (tgt := 11) S.1 S.2.1 dx_X_others_4 (by decide) (fun _ => ?_) (fun h9 => absurd (by decide) h9)
    refine lv_iconst (v := 3) S.1 S.2.1 dx_X_others_11 (by decide) ?_
    refine lv_istore (lv' := [(5, .int 3), (4, .int 0), (0, .ref K.1), (1, .int (nI r)), (2, .int but), (3, .int (bI false))]) S.1 S.2.1 dx_X_others_12 hl (by decide) rfl (fun ls hl => ?_)
    refine lv_iconst (v := 0) S.1 S.2.1 dx_X_others_14 (by decide) ?_
    refine lv_istore (lv' := [(6, .int 0), (5, .int 3), (4, .int 0), (0, .ref K.1), (1, .int (nI r)), (2, .int but), (3, .int (bI false))]) S.1 S.2.1 dx_X_others_15 hl (by decide) rfl (fun ls hl => ?_)
    refine lp_X_others (d := d) (r := r) (but := but) (N := 3) S (by omega) (by omega) (fun H locs ls hG hl => ?_) 3 0 rfl _ _ _ hG (lv_sub hl [0, 2, 1, 3, 4, 5, 6] rfl)
    refine lv_iload S.1 S.2.1 dx_X_others_53 (lv_at hl 1 rfl) ?_
    exact rg_ri S hr hlk hG dx_X_others_55 (by exact ⟨rfl, rfl⟩)
  · skip
    refine lv_iconst (v := 0) S.1 S.2.1 dx_X_others_0 (by decide) ?_
    refine lv_istore (lv' := [(4, .int 0), (0, .ref K.1), (1, .int (nI r)), (2, .int but), (3, .int (bI true))]) S.1 S.2.1 dx_X_others_1 hl (by decide) rfl (fun ls hl => ?_)
    refine lv_iload_n S.1 S.2.1 dx_X_others_3 rfl (lv_at hl 4 rfl) ?_
    refine lv_if_eq (tgt := 11) S.1 S.2.1 dx_X_others_4 (by decide) (fun h9 => absurd h9 (by decide)) (fun _ => ?_)
    refine lv_iconst (v := 5) S.1 S.2.1 dx_X_others_7 (by decide) ?_
    refine lv_goto (tgt := 12) S.1 S.2.1 dx_X_others_8 (by decide) ?_
    refine lv_istore (lv' := [(5, .int 5), (4, .int 0), (0, .ref K.1), (1, .int (nI r)), (2, .int but), (3, .int (bI true))]) S.1 S.2.1 dx_X_others_12 hl (by decide) rfl (fun ls hl => ?_)
    refine lv_iconst (v := 0) S.1 S.2.1 dx_X_others_14 (by decide) ?_
    refine lv_istore (lv' := [(6, .int 0), (5, .int 5), (4, .int 0), (0, .ref K.1), (1, .int (nI r)), (2, .int but), (3, .int (bI true))]) S.1 S.2.1 dx_X_others_15 hl (by decide) rfl (fun ls hl => ?_)
    refine lp_X_others (d := d) (r := r) (but := but) (N := 5) S (by omega) (by omega) (fun H locs ls hG hl => ?_) 5 0 rfl _ _ _ hG (lv_sub hl [0, 2, 1, 3, 4, 5, 6] rfl)
    refine lv_iload S.1 S.2.1 dx_X_others_53 (lv_at hl 1 rfl) ?_
    exact rg_ri S hr hlk hG dx_X_others_55 (by exact ⟨rfl, rfl⟩)
end
section
set_option maxHeartbeats 4000000 in
set_option maxRecDepth 100000 in
theorem cx_X_isBlock (l : Launch) (d g : Nat → Int32) (ru fm st mv cp op : Int32) (b : Int32) : xMi l y_X_isBlock c_X_isBlock (rm_n 1) [.int b] (d, g, ru, fm, st, mv, cp, op) (px_ib mv b) (d, g, ru, fm, st, mv, cp, op) := by
  intro K
  refine gMi_of (own := R_X) (by decide) rfl (Nat.le_of_ble_eq_true rfl) ?_
  intro p e s m args below meth c D A S hr hlk hG ls hl
  have hl : lv_has ls 3 [(0, .ref K.1), (1, .int b)] := hl
  refine lv_aload_n S.1 S.2.1 dx_X_isBlock_0 rfl (lv_at hl 0 rfl) ?_
  refine rx_ci (rest := []) S (cx_X_size l d g ru fm st mv cp op) gc_X_41 hd_X_size ⟨rfl, rfl⟩ ⟨Nat.le_of_ble_eq_true rfl, Nat.le_of_ble_eq_true rfl⟩ rfl hG hl.1 rfl (Nat.le_of_ble_eq_true rfl) dx_X_isBlock_1 (fun H locs hG => ?_)
  refine lv_istore_n (lv' := [(2, .int (px_sz mv)), (0, .ref K.1), (1, .int b)]) S.1 S.2.1 dx_X_isBlock_4 rfl hl (by decide) rfl (fun ls hl => ?_)
  refine lv_iload_n S.1 S.2.1 dx_X_isBlock_5 rfl (lv_at hl 2 rfl) ?_
  refine lv_if_lt (tgt := 18) S.1 S.2.1 dx_X_isBlock_6 (by decide) (fun c_6 => ?_) (fun c_6 => ?_)
  · skip
    refine lv_iconst (v := 0) S.1 S.2.1 dx_X_isBlock_18 (by decide) ?_
    exact rg_rz S hr hlk hG dx_X_isBlock_19 (rfl) (by rw [px_ib, if_pos c_6]; exact ⟨rfl, rfl⟩)
  · skip
    refine lv_iload_n S.1 S.2.1 dx_X_isBlock_9 rfl (lv_at hl 2 rfl) ?_
    refine lv_iload_n S.1 S.2.1 dx_X_isBlock_10 rfl (lv_at hl 0 rfl) ?_
    refine lv_icmp_ge (tgt := 18) S.1 S.2.1 dx_X_isBlock_11 (by decide) (fun c_11 => ?_) (fun c_11 => ?_)
    · skip
      refine lv_iconst (v := 0) S.1 S.2.1 dx_X_isBlock_18 (by decide) ?_
      exact rg_rz S hr hlk hG dx_X_isBlock_19 (rfl) (by rw [px_ib, if_neg c_6, if_pos c_11]; exact ⟨rfl, rfl⟩)
    · skip
      refine lv_iconst (v := 1) S.1 S.2.1 dx_X_isBlock_14 (by decide) ?_
      refine lv_goto (tgt := 19) S.1 S.2.1 dx_X_isBlock_15 (by decide) ?_
      exact rg_rz S hr hlk hG dx_X_isBlock_19 (rfl) (by rw [px_ib, if_neg c_6, if_neg c_11]; exact ⟨rfl, rfl⟩)

set_option maxHeartbeats 4000000 in
set_option maxRecDepth 100000 in
theorem cx_X_mend (l : Launch) (d g : Nat → Int32) (ru fm st mv cp op : Int32) (r k : Nat) (w : Bool) (hk : k < 5) (hr0 : r < 16) : xMv l y_X_mend c_X_mend (rm_n 1) [.int (nI r), .int (nI k), .int (bI w)] (d, g, ru, fm, st, mv, cp, op) (px_mend d fm r k w, g, ru, fm, st, mv, cp, op) := by
  intro K
  refine gMv_of (own := R_X) (by decide) rfl (Nat.le_of_ble_eq_true rfl) ?_
  intro p e s m args below meth c D A S hr hlk hG ls hl
  have hl : lv_has ls 5 [(0, .ref K.1), (1, .int (nI r)), (2, .int (nI k)), (3, .int (bI w))] := hl
  refine lv_aload_n S.1 S.2.1 dx_X_mend_0 rfl (lv_at hl 0 rfl) ?_
  refine lv_iload_n S.1 S.2.1 dx_X_mend_1 rfl (lv_at hl 1 rfl) ?_
  refine lv_iload_n S.1 S.2.1 dx_X_mend_2 rfl (lv_at hl 2 rfl) ?_
  refine lv_iload_n S.1 S.2.1 dx_X_mend_3 rfl (lv_at hl 3 rfl) ?_
  refine rx_ci (rest := []) S (cx_X_others l d g ru fm st mv cp op r (nI k) w (hr0)) gc_X_80 hd_X_others ⟨rfl, rfl⟩ ⟨Nat.le_of_ble_eq_true rfl, Nat.le_of_ble_eq_true rfl⟩ rfl hG hl.1 rfl (Nat.le_of_ble_eq_true rfl) dx_X_mend_4 (fun H locs hG => ?_)
  refine lv_istore (lv' := [(4, .int (px_oth d r (nI k) (px_cnt w))), (0, .ref K.1), (1, .int (nI r)), (2, .int (nI k)), (3, .int (bI w))]) S.1 S.2.1 dx_X_mend_7 hl (by decide) rfl (fun ls hl => ?_)
  refine lv_aload_n S.1 S.2.1 dx_X_mend_9 rfl (lv_at hl 1 rfl) ?_
  refine lv_iload_n S.1 S.2.1 dx_X_mend_10 rfl (lv_at hl 3 rfl) ?_
  refine lv_iload_n S.1 S.2.1 dx_X_mend_11 rfl (lv_at hl 2 rfl) ?_
  refine lv_iload S.1 S.2.1 dx_X_mend_12 (lv_at hl 0 rfl) ?_
  refine rx_cv (rest := []) S (cx_X_put l d g ru fm st mv cp op k r (px_oth d r (nI k) (px_cnt w)) (hk) (hr0)) gc_X_84 hd_X_put ⟨rfl, rfl⟩ ⟨Nat.le_of_ble_eq_true rfl, Nat.le_of_ble_eq_true rfl⟩ rfl hG hl.1 rfl (Nat.le_of_ble_eq_true rfl) dx_X_mend_14 (fun H locs hG => ?_)
  exact rg_rv S hr hlk hG dx_X_mend_17 (by rfl)

set_option maxHeartbeats 4000000 in
set_option maxRecDepth 100000 in
theorem cx_X_fetchFrom (l : Launch) (d g : Nat → Int32) (ru fm st mv cp op : Int32) (b : Nat) (w : Bool) (hr0 : px_row b w < 16) (hb : b < 2 ^ 31) : xMi l y_X_fetchFrom c_X_fetchFrom (rm_n 1) [.int (nI b), .int (bI w)] (d, g, ru, fm, st, mv, cp, op) (px_ff d fm b w) (d, g, ru, fm, st, mv, cp, op) := by
  intro K
  refine gMi_of (own := R_X) (by decide) rfl (Nat.le_of_ble_eq_true rfl) ?_
  intro p e s m args below meth c D A S hr hlk hG ls hl
  have hl : lv_has ls 5 [(0, .ref K.1), (1, .int (nI b)), (2, .int (bI w))] := hl
  refine lv_iload_n S.1 S.2.1 dx_X_fetchFrom_0 rfl (lv_at hl 1 rfl) ?_
  refine lv_iload_n S.1 S.2.1 dx_X_fetchFrom_1 rfl (lv_at hl 2 rfl) ?_
  refine rs_ci (rest := []) S (cx_X_rowOf l b w (hb)) gc_X_93 hd_X_rowOf ⟨rfl, rfl⟩ ⟨Nat.le_of_ble_eq_true rfl, Nat.le_of_ble_eq_true rfl⟩ rfl hl.1 rfl (Nat.le_of_ble_eq_true rfl) dx_X_fetchFrom_2 ?_
  refine lv_istore_n (lv' := [(3, .int (nI (px_row b w))), (0, .ref K.1), (1, .int (nI b)), (2, .int (bI w))]) S.1 S.2.1 dx_X_fetchFrom_5 rfl hl (by decide) rfl (fun ls hl => ?_)
  refine lv_iload_n S.1 S.2.1 dx_X_fetchFrom_6 rfl (lv_at hl 2 rfl) ?_
  refine lv_iload_n S.1 S.2.1 dx_X_fetchFrom_7 rfl (lv_at hl 3 rfl) ?_
  refine rs_ci (rest := []) S (cx_X_memberOf l b w (hb)) gc_X_96 hd_X_memberOf ⟨rfl, rfl⟩ ⟨Nat.le_of_ble_eq_true rfl, Nat.le_of_ble_eq_true rfl⟩ rfl hl.1 rfl (Nat.le_of_ble_eq_true rfl) dx_X_fetchFrom_8 ?_
  refine lv_istore (lv' := [(4, .int (nI (px_mem b w))), (3, .int (nI (px_row b w))), (0, .ref K.1), (1, .int (nI b)), (2, .int (bI w))]) S.1 S.2.1 dx_X_fetchFrom_11 hl (by decide) rfl (fun ls hl => ?_)
  refine lv_iload S.1 S.2.1 dx_X_fetchFrom_13 (lv_at hl 0 rfl) ?_
  refine lv_aload_n S.1 S.2.1 dx_X_fetchFrom_15 rfl (lv_at hl 2 rfl) ?_
  refine rx_g3 S hG dx_X_fetchFrom_16 ?_
  refine lv_icmp_ne (tgt := 33) S.1 S.2.1 dx_X_fetchFrom_19 (by decide) (fun c_19 => ?_) (fun c_19 => ?_)
  · skip
    refine lv_aload_n S.1 S.2.1 dx_X_fetchFrom_33 rfl (lv_at hl 2 rfl) ?_
    refine rx_g0 S hG dx_X_fetchFrom_34 ?_
    refine lv_iload S.1 S.2.1 dx_X_fetchFrom_37 (lv_at hl 0 rfl) ?_
    refine lv_bipush (v := 16) S.1 S.2.1 dx_X_fetchFrom_39 (by decide) ?_
    refine lv_imul S.1 S.2.1 dx_X_fetchFrom_41 ?_
    refine lv_iload_n S.1 S.2.1 dx_X_fetchFrom_42 rfl (lv_at hl 1 rfl) ?_
    refine lv_iadd S.1 S.2.1 dx_X_fetchFrom_43 ?_
    refine rg_top (y := nI (px_mem b w * 16 + px_row b w)) (nx_16 _ _) ?_
    refine rx_dl (i := px_mem b w * 16 + px_row b w) (by have := px_mem_lt b w; omega) S hG dx_X_fetchFrom_44 ?_
    exact rg_ri S hr hlk hG dx_X_fetchFrom_45 (by rw [px_ff, if_neg c_19]; exact ⟨rfl, rfl⟩)
  · skip
    refine lv_aload_n S.1 S.2.1 dx_X_fetchFrom_22 rfl (lv_at hl 2 rfl) ?_
    refine lv_iload_n S.1 S.2.1 dx_X_fetchFrom_23 rfl (lv_at hl 1 rfl) ?_
    refine lv_iload S.1 S.2.1 dx_X_fetchFrom_24 (lv_at hl 0 rfl) ?_
    refine lv_iload_n S.1 S.2.1 dx_X_fetchFrom_26 rfl (lv_at hl 4 rfl) ?_
    refine rx_ci (rest := []) S (cx_X_others l d g ru fm st mv cp op (px_row b w) (nI (px_mem b w)) w (hr0)) gc_X_80 hd_X_others ⟨rfl, rfl⟩ ⟨Nat.le_of_ble_eq_true rfl, Nat.le_of_ble_eq_true rfl⟩ rfl hG hl.1 rfl (Nat.le_of_ble_eq_true rfl) dx_X_fetchFrom_27 (fun H locs hG => ?_)
    refine lv_goto (tgt := 45) S.1 S.2.1 dx_X_fetchFrom_30 (by decide) ?_
    exact rg_ri S hr hlk hG dx_X_fetchFrom_45 (by rw [px_ff, if_pos c_19]; exact ⟨rfl, rfl⟩)

set_option maxHeartbeats 4000000 in
set_option maxRecDepth 100000 in
theorem cx_X_fetch (l : Launch) (d g : Nat → Int32) (ru fm st mv cp op : Int32) (b : Nat) (hr0 : px_row b (px_bw st mv (nI b)) < 16) (hb : b < 2 ^ 31) : xMi l y_X_fetch c_X_fetch (rm_n 2) [.int (nI b)] (d, g, ru, fm, st, mv, cp, op) (px_fe d fm st mv b) (d, g, ru, fm, st, mv, cp, op) := by
  intro K
  refine gMi_of (own := R_X) (by decide) rfl (Nat.le_of_ble_eq_true rfl) ?_
  intro p e s m args below meth c D A S hr hlk hG ls hl
  have hl : lv_has ls 3 [(0, .ref K.1), (1, .int (nI b))] := hl
  refine lv_aload_n S.1 S.2.1 dx_X_fetch_0 rfl (lv_at hl 0 rfl) ?_
  refine lv_iload_n S.1 S.2.1 dx_X_fetch_1 rfl (lv_at hl 1 rfl) ?_
  refine rx_ci (rest := []) S (cx_X_blockIsWide l d g ru fm st mv cp op (nI b)) gc_X_87 hd_X_blockIsWide ⟨rfl, rfl⟩ ⟨Nat.le_of_ble_eq_true rfl, Nat.le_of_ble_eq_true rfl⟩ rfl hG hl.1 rfl (Nat.le_of_ble_eq_true rfl) dx_X_fetch_2 (fun H locs hG => ?_)
  refine lv_istore_n (lv' := [(2, .int (bI (px_bw st mv (nI b)))), (0, .ref K.1), (1, .int (nI b))]) S.1 S.2.1 dx_X_fetch_5 rfl hl (by decide) rfl (fun ls hl => ?_)
  refine lv_aload_n S.1 S.2.1 dx_X_fetch_6 rfl (lv_at hl 1 rfl) ?_
  refine lv_iload_n S.1 S.2.1 dx_X_fetch_7 rfl (lv_at hl 2 rfl) ?_
  refine lv_iload_n S.1 S.2.1 dx_X_fetch_8 rfl (lv_at hl 0 rfl) ?_
  refine rx_ci (rest := []) S (cx_X_fetchFrom l d g ru fm st mv cp op b (px_bw st mv (nI b)) (hr0) (hb)) gc_X_90 hd_X_fetchFrom ⟨rfl, rfl⟩ ⟨Nat.le_of_ble_eq_true rfl, Nat.le_of_ble_eq_true rfl⟩ rfl hG hl.1 rfl (Nat.le_of_ble_eq_true rfl) dx_X_fetch_9 (fun H locs hG => ?_)
  exact rg_ri S hr hlk hG dx_X_fetch_12 (by exact ⟨rfl, rfl⟩)

set_option maxHeartbeats 4000000 in
set_option maxRecDepth 100000 in
theorem cx_X_store (l : Launch) (d g : Nat → Int32) (ru fm st mv cp op : Int32) (b : Nat) (v pt : Int32) (hr0 : px_row b (px_bw st mv (nI b)) < 16) (hb : b < 2 ^ 31) : xMv l y_X_store c_X_store (rm_n 2) [.int (nI b), .int v, .int pt] (d, g, ru, fm, st, mv, cp, op) ((px_st d fm st mv b v pt).1, g, ru, fm, st, mv, cp, (px_st d fm st mv b v pt).2) := by
  intro K
  refine gMv_of (own := R_X) (by decide) rfl (Nat.le_of_ble_eq_true rfl) ?_
  intro p e s m args below meth c D A S hr hlk hG ls hl
  have hl : lv_has ls 10 [(0, .ref K.1), (1, .int (nI b)), (2, .int v), (3, .int pt)] := hl
  refine lv_aload_n S.1 S.2.1 dx_X_store_0 rfl (lv_at hl 0 rfl) ?_
  refine lv_iload_n S.1 S.2.1 dx_X_store_1 rfl (lv_at hl 1 rfl) ?_
  refine rx_ci (rest := []) S (cx_X_blockIsWide l d g ru fm st mv cp op (nI b)) gc_X_87 hd_X_blockIsWide ⟨rfl, rfl⟩ ⟨Nat.le_of_ble_eq_true rfl, Nat.le_of_ble_eq_true rfl⟩ rfl hG hl.1 rfl (Nat.le_of_ble_eq_true rfl) dx_X_store_2 (fun H locs hG => ?_)
  refine lv_istore (lv' := [(4, .int (bI (px_bw st mv (nI b)))), (0, .ref K.1), (1, .int (nI b)), (2, .int v), (3, .int pt)]) S.1 S.2.1 dx_X_store_5 hl (by decide) rfl (fun ls hl => ?_)
  refine lv_iload_n S.1 S.2.1 dx_X_store_7 rfl (lv_at hl 2 rfl) ?_
  refine lv_iload S.1 S.2.1 dx_X_store_8 (lv_at hl 0 rfl) ?_
  refine rs_ci (rest := []) S (cx_X_rowOf l b (px_bw st mv (nI b)) (hb)) gc_X_93 hd_X_rowOf ⟨rfl, rfl⟩ ⟨Nat.le_of_ble_eq_true rfl, Nat.le_of_ble_eq_true rfl⟩ rfl hl.1 rfl (Nat.le_of_ble_eq_true rfl) dx_X_store_10 ?_
  refine lv_istore (lv' := [(5, .int (nI (px_row b (px_bw st mv (nI b))))), (4, .int (bI (px_bw st mv (nI b)))), (0, .ref K.1), (1, .int (nI b)), (2, .int v), (3, .int pt)]) S.1 S.2.1 dx_X_store_13 hl (by decide) rfl (fun ls hl => ?_)
  refine lv_iload_n S.1 S.2.1 dx_X_store_15 rfl (lv_at hl 3 rfl) ?_
  refine lv_iload S.1 S.2.1 dx_X_store_16 (lv_at hl 1 rfl) ?_
  refine rs_ci (rest := []) S (cx_X_memberOf l b (px_bw st mv (nI b)) (hb)) gc_X_96 hd_X_memberOf ⟨rfl, rfl⟩ ⟨Nat.le_of_ble_eq_true rfl, Nat.le_of_ble_eq_true rfl⟩ rfl hl.1 rfl (Nat.le_of_ble_eq_true rfl) dx_X_store_18 ?_
  refine lv_istore (lv' := [(6, .int (nI (px_mem b (px_bw st mv (nI b))))), (5, .int (nI (px_row b (px_bw st mv (nI b))))), (4, .int (bI (px_bw st mv (nI b)))), (0, .ref K.1), (1, .int (nI b)), (2, .int v), (3, .int pt)]) S.1 S.2.1 dx_X_store_21 hl (by decide) rfl (fun ls hl => ?_)
  refine lv_iload S.1 S.2.1 dx_X_store_23 (lv_at hl 1 rfl) ?_
  refine lv_iload S.1 S.2.1 dx_X_store_25 (lv_at hl 2 rfl) ?_
  refine rs_ci (rest := []) S (cx_X_parityOf l (px_row b (px_bw st mv (nI b))) (px_bw st mv (nI b)) (by omega)) gc_X_56 hd_X_parityOf ⟨rfl, rfl⟩ ⟨Nat.le_of_ble_eq_true rfl, Nat.le_of_ble_eq_true rfl⟩ rfl hl.1 rfl (Nat.le_of_ble_eq_true rfl) dx_X_store_27 ?_
  refine lv_istore (lv' := [(7, .int (nI (px_par (px_row b (px_bw st mv (nI b))) (px_bw st mv (nI b))))), (6, .int (nI (px_mem b (px_bw st mv (nI b))))), (5, .int (nI (px_row b (px_bw st mv (nI b))))), (4, .int (bI (px_bw st mv (nI b)))), (0, .ref K.1), (1, .int (nI b)), (2, .int v), (3, .int pt)]) S.1 S.2.1 dx_X_store_30 hl (by decide) rfl (fun ls hl => ?_)
  refine lv_aload_n S.1 S.2.1 dx_X_store_32 rfl (lv_at hl 4 rfl) ?_
  refine lv_iload_n S.1 S.2.1 dx_X_store_33 rfl (lv_at hl 5 rfl) ?_
  refine lv_iload S.1 S.2.1 dx_X_store_34 (lv_at hl 3 rfl) ?_
  refine rx_ci (rest := []) S (cx_X_fetchFrom l d g ru fm st mv cp op b (px_bw st mv (nI b)) (hr0) (hb)) gc_X_90 hd_X_fetchFrom ⟨rfl, rfl⟩ ⟨Nat.le_of_ble_eq_true rfl, Nat.le_of_ble_eq_true rfl⟩ rfl hG hl.1 rfl (Nat.le_of_ble_eq_true rfl) dx_X_store_36 (fun H locs hG => ?_)
  refine lv_istore (lv' := [(8, .int (px_ff d fm b (px_bw st mv (nI b)))), (7, .int (nI (px_par (px_row b (px_bw st mv (nI b))) (px_bw st mv (nI b))))), (6, .int (nI (px_mem b (px_bw st mv (nI b))))), (5, .int (nI (px_row b (px_bw st mv (nI b))))), (4, .int (bI (px_bw st mv (nI b)))), (0, .ref K.1), (1, .int (nI b)), (2, .int v), (3, .int pt)]) S.1 S.2.1 dx_X_store_39 hl (by decide) rfl (fun ls hl => ?_)
  refine lv_aload_n S.1 S.2.1 dx_X_store_41 rfl (lv_at hl 5 rfl) ?_
  refine rx_g0 S hG dx_X_store_42 ?_
  refine lv_iload S.1 S.2.1 dx_X_store_45 (lv_at hl 1 rfl) ?_
  refine lv_bipush (v := 16) S.1 S.2.1 dx_X_store_47 (by decide) ?_
  refine lv_imul S.1 S.2.1 dx_X_store_49 ?_
  refine lv_iload S.1 S.2.1 dx_X_store_50 (lv_at hl 3 rfl) ?_
  refine lv_iadd S.1 S.2.1 dx_X_store_52 ?_
  refine rg_top (y := nI (px_par (px_row b (px_bw st mv (nI b))) (px_bw st mv (nI b)) * 16 + px_row b (px_bw st mv (nI b)))) (nx_16 _ _) ?_
  refine rx_dl (i := px_par (px_row b (px_bw st mv (nI b))) (px_bw st mv (nI b)) * 16 + px_row b (px_bw st mv (nI b))) (by have := px_par_lt (px_row b (px_bw st mv (nI b))) (px_bw st mv (nI b)); omega) S hG dx_X_store_53 ?_
  refine lv_iload S.1 S.2.1 dx_X_store_54 (lv_at hl 0 rfl) ?_
  refine lv_ixor S.1 S.2.1 dx_X_store_56 ?_
  refine lv_iload_n S.1 S.2.1 dx_X_store_57 rfl (lv_at hl 7 rfl) ?_
  refine lv_ixor S.1 S.2.1 dx_X_store_58 ?_
  refine lv_istore (lv' := [(9, .int (((d (px_par (px_row b (px_bw st mv (nI b))) (px_bw st mv (nI b)) * 16 + px_row b (px_bw st mv (nI b)))) ^^^ (px_ff d fm b (px_bw st mv (nI b)))) ^^^ v)), (8, .int (px_ff d fm b (px_bw st mv (nI b)))), (7, .int (nI (px_par (px_row b (px_bw st mv (nI b))) (px_bw st mv (nI b))))), (6, .int (nI (px_mem b (px_bw st mv (nI b))))), (5, .int (nI (px_row b (px_bw st mv (nI b))))), (4, .int (bI (px_bw st mv (nI b)))), (0, .ref K.1), (1, .int (nI b)), (2, .int v), (3, .int pt)]) S.1 S.2.1 dx_X_store_59 hl (by decide) rfl (fun ls hl => ?_)
  refine lv_aload_n S.1 S.2.1 dx_X_store_61 rfl (lv_at hl 6 rfl) ?_
  refine lv_iload S.1 S.2.1 dx_X_store_62 (lv_at hl 4 rfl) ?_
  refine rx_p7 S hG dx_X_store_64 (fun H locs hG => ?_)
  refine lv_iload_n S.1 S.2.1 dx_X_store_67 rfl (lv_at hl 9 rfl) ?_
  refine lv_if_ne (tgt := 72) S.1 S.2.1 dx_X_store_68 (by decide) (fun c_68 => ?_) (fun c_68 => ?_)
  · skip
    refine lv_aload_n S.1 S.2.1 dx_X_store_72 rfl (lv_at hl 6 rfl) ?_
    refine lv_iload S.1 S.2.1 dx_X_store_73 (lv_at hl 3 rfl) ?_
    refine lv_iload S.1 S.2.1 dx_X_store_75 (lv_at hl 4 rfl) ?_
    refine lv_iload_n S.1 S.2.1 dx_X_store_77 rfl (lv_at hl 8 rfl) ?_
    refine rx_cv (rest := []) S (cx_X_put l d g ru fm st mv cp (nI (px_row b (px_bw st mv (nI b)))) (px_mem b (px_bw st mv (nI b))) (px_row b (px_bw st mv (nI b))) v (px_mem_lt _ _) (hr0)) gc_X_84 hd_X_put ⟨rfl, rfl⟩ ⟨Nat.le_of_ble_eq_true rfl, Nat.le_of_ble_eq_true rfl⟩ rfl hG hl.1 rfl (Nat.le_of_ble_eq_true rfl) dx_X_store_78 (fun H locs hG => ?_)
    refine lv_iload_n S.1 S.2.1 dx_X_store_81 rfl (lv_at hl 9 rfl) ?_
    refine lv_iconst (v := 1) S.1 S.2.1 dx_X_store_82 (by decide) ?_
    refine lv_icmp_ne (tgt := 87) S.1 S.2.1 dx_X_store_83 (by decide) (fun c_83 => ?_) (fun c_83 => ?_)
    · skip
      refine lv_aload_n S.1 S.2.1 dx_X_store_87 rfl (lv_at hl 6 rfl) ?_
      refine lv_iload S.1 S.2.1 dx_X_store_88 (lv_at hl 2 rfl) ?_
      refine lv_iload S.1 S.2.1 dx_X_store_90 (lv_at hl 4 rfl) ?_
      refine lv_iload S.1 S.2.1 dx_X_store_92 (lv_at hl 0 rfl) ?_
      refine rx_cv (rest := []) S (cx_X_put l (px_put d fm (px_mem b (px_bw st mv (nI b))) (px_row b (px_bw st mv (nI b))) v) g ru fm st mv cp (nI (px_row b (px_bw st mv (nI b)))) (px_par (px_row b (px_bw st mv (nI b))) (px_bw st mv (nI b))) (px_row b (px_bw st mv (nI b))) (px_sp d fm b (px_bw st mv (nI b)) v) (px_par_lt _ _) (hr0)) gc_X_84 hd_X_put ⟨rfl, rfl⟩ ⟨Nat.le_of_ble_eq_true rfl, Nat.le_of_ble_eq_true rfl⟩ rfl hG hl.1 rfl (Nat.le_of_ble_eq_true rfl) dx_X_store_94 (fun H locs hG => ?_)
      refine lv_iload_n S.1 S.2.1 dx_X_store_97 rfl (lv_at hl 9 rfl) ?_
      refine lv_iconst (v := 2) S.1 S.2.1 dx_X_store_98 (by decide) ?_
      refine lv_icmp_ne (tgt := 103) S.1 S.2.1 dx_X_store_99 (by decide) (fun c_99 => ?_) (fun c_99 => ?_)
      · skip
        refine lv_aload_n S.1 S.2.1 dx_X_store_103 rfl (lv_at hl 6 rfl) ?_
        refine lv_iconst (v := (-1)) S.1 S.2.1 dx_X_store_104 (by decide) ?_
        refine rx_p7 S hG dx_X_store_105 (fun H locs hG => ?_)
        exact rg_rv S hr hlk hG dx_X_store_108 (by rw [px_st, if_neg c_68, if_neg c_83, if_neg c_99]; try rfl)
      · skip
        exact rg_rv S hr hlk hG dx_X_store_102 (by rw [px_st, if_neg c_68, if_neg c_83, if_pos c_99]; try rfl)
    · skip
      exact rg_rv S hr hlk hG dx_X_store_86 (by rw [px_st, if_neg c_68, if_pos c_83]; try rfl)
  · skip
    exact rg_rv S hr hlk hG dx_X_store_71 (by rw [px_st, if_pos c_68]; try rfl)

def px_ww (d g : Nat → Int32) (fm : Int32) (k a : Nat) (n : Nat) : Nat → Int32 := px_itr (fun j d => px_put d fm (px_mem (4 * k + (a + j)) true) k (g (a + j))) n d
set_option maxHeartbeats 4000000 in
set_option maxRecDepth 100000 in
theorem lp_X_writeWide {p : Program} {l : Launch} {e : Env} {s : State} {m : MethodId} {args : Array Value} {below : List Frame} {meth : Method} {c : Code} {D : va_G} {A : Nat → Prop} {K : XK} {Q : State → Prop} {d g : Nat → Int32} {ru fm st cp op a1 : Int32} {k a N : Nat} (S : CallFix p m c b_X_writeWide 5 s args lw_gd R_X) (hN : a + N ≤ 4) (hk : k < 16)
    (kx : ∀ (H : Heap) (locs : List Loc) (ls : Array Slot), gG D A s (xw K) (xt K) ((px_ww d g fm k a N), g, ru, fm, st, (nI k), cp, op) H locs → lv_has ls 5 [(3, .int (nI (a + N))), (0, .ref K.1), (1, .int a1), (2, .int (nI (a + N)))] → W p l e (rm_n 1) s m args below meth c H locs 0 0 Q (F0 m 43 ls [])) :
    ∀ (n i : Nat), i + n = N → ∀ (H : Heap) (locs : List Loc) (ls : Array Slot), gG D A s (xw K) (xt K) ((px_ww d g fm k a i), g, ru, fm, st, (nI k), cp, op) H locs → lv_has ls 5 [(3, .int (nI (a + i))), (0, .ref K.1), (1, .int a1), (2, .int (nI (a + N)))] → W p l e (rm_n 1) s m args below meth c H locs 0 0 Q (F0 m 2 ls []) := by
  intro n
  induction n with
  | zero =>
    intro i hi H locs ls hG hl
    have hi : i = N := by omega
    subst hi
    refine lv_iload_n S.1 S.2.1 dx_X_writeWide_2 rfl (lv_at hl 0 rfl) ?_
    refine lv_iload_n S.1 S.2.1 dx_X_writeWide_3 rfl (lv_at hl 3 rfl) ?_
    refine lv_icmp_ge (tgt := 43) S.1 S.2.1 dx_X_writeWide_4 (by decide) (fun _ => ?_) (fun h9 => absurd (nI_le (Nat.le_refl _) (by omega)) h9)
    exact kx _ _ _ hG (lv_sub hl [0, 1, 2, 3] rfl)
  | succ n ih =>
    intro i hi H locs ls hG hl
    refine lv_iload_n S.1 S.2.1 dx_X_writeWide_2 rfl (lv_at hl 0 rfl) ?_
    refine lv_iload_n S.1 S.2.1 dx_X_writeWide_3 rfl (lv_at hl 3 rfl) ?_
    refine lv_icmp_ge (tgt := 43) S.1 S.2.1 dx_X_writeWide_4 (by decide) (fun h9 => absurd h9 (nI_ge (by omega) (by omega))) (fun _ => ?_)
    refine lv_iconst (v := 4) S.1 S.2.1 dx_X_writeWide_7 (by decide) ?_
    refine lv_aload_n S.1 S.2.1 dx_X_writeWide_8 rfl (lv_at hl 1 rfl) ?_
    refine rx_g5 S hG dx_X_writeWide_9 ?_
    refine lv_imul S.1 S.2.1 dx_X_writeWide_12 ?_
    refine lv_iload_n S.1 S.2.1 dx_X_writeWide_13 rfl (lv_at hl 0 rfl) ?_
    refine lv_iadd S.1 S.2.1 dx_X_writeWide_14 ?_
    refine rg_top (y := nI (4 * k + (a + i))) (nx_4 _ _) ?_
    refine lv_iconst (v := 1) S.1 S.2.1 dx_X_writeWide_15 (by decide) ?_
    refine rs_ci (rest := []) S (cx_X_memberOf l (4 * k + (a + i)) true (by omega)) gc_X_96 hd_X_memberOf ⟨rfl, rfl⟩ ⟨Nat.le_of_ble_eq_true rfl, Nat.le_of_ble_eq_true rfl⟩ rfl hl.1 rfl (Nat.le_of_ble_eq_true rfl) dx_X_writeWide_16 ?_
    refine lv_istore (lv' := [(4, .int (nI (px_mem (4 * k + (a + i)) true))), (3, .int (nI (a + i))), (0, .ref K.1), (1, .int a1), (2, .int (nI (a + N)))]) S.1 S.2.1 dx_X_writeWide_19 hl (by decide) rfl (fun ls hl => ?_)
    refine lv_aload_n S.1 S.2.1 dx_X_writeWide_21 rfl (lv_at hl 2 rfl) ?_
    refine lv_iload S.1 S.2.1 dx_X_writeWide_22 (lv_at hl 0 rfl) ?_
    refine lv_aload_n S.1 S.2.1 dx_X_writeWide_24 rfl (lv_at hl 2 rfl) ?_
    refine rx_g5 S hG dx_X_writeWide_25 ?_
    refine lv_aload_n S.1 S.2.1 dx_X_writeWide_28 rfl (lv_at hl 2 rfl) ?_
    refine rx_g1 S hG dx_X_writeWide_29 ?_
    refine lv_iload_n S.1 S.2.1 dx_X_writeWide_32 rfl (lv_at hl 1 rfl) ?_
    refine rx_rl (i := a + i) (by omega) S hG dx_X_writeWide_33 ?_
    refine rx_cv (rest := []) S (cx_X_put l (px_ww d g fm k a i) g ru fm st (nI k) cp op (px_mem (4 * k + (a + i)) true) k (g (a + i)) (px_mem_lt _ _) (by omega)) gc_X_84 hd_X_put ⟨rfl, rfl⟩ ⟨Nat.le_of_ble_eq_true rfl, Nat.le_of_ble_eq_true rfl⟩ rfl hG hl.1 rfl (Nat.le_of_ble_eq_true rfl) dx_X_writeWide_34 (fun H locs hG => ?_)
    refine lv_iinc (v := nI (a + (i + 1))) (lv' := [(3, .int (nI (a + (i + 1)))), (4, .int (nI (px_mem (4 * k + (a + i)) true))), (0, .ref K.1), (1, .int a1), (2, .int (nI (a + N)))]) S.1 S.2.1 dx_X_writeWide_37 hl (k := 1) rfl (nI_1 (a + i)) (by decide) rfl (fun ls hl => ?_)
    refine lv_goto (tgt := 2) S.1 S.2.1 dx_X_writeWide_40 (by decide) ?_
    exact ih (i + 1) (by omega) _ _ _ hG (lv_sub hl [0, 2, 3, 4] rfl)

set_option maxHeartbeats 4000000 in
set_option maxRecDepth 100000 in
theorem cx_X_writeWide (l : Launch) (d g : Nat → Int32) (ru fm st cp op : Int32) (k : Nat) (a N : Nat) (hN : a + N ≤ 4) (hk : k < 16) : xMv l y_X_writeWide c_X_writeWide (rm_n 1) [.int (nI a), .int (nI (a + N))] (d, g, ru, fm, st, (nI k), cp, op) (px_ww d g fm k a N, g, ru, fm, st, (nI k), cp, op) := by
  intro K
  refine gMv_of (own := R_X) (by decide) rfl (Nat.le_of_ble_eq_true rfl) ?_
  intro p e s m args below meth c D A S hr hlk hG ls hl
  have hl : lv_has ls 5 [(0, .ref K.1), (1, .int (nI a)), (2, .int (nI (a + N)))] := hl
  refine lv_iload_n S.1 S.2.1 dx_X_writeWide_0 rfl (lv_at hl 1 rfl) ?_
  refine lv_istore_n (lv' := [(3, .int (nI a)), (0, .ref K.1), (1, .int (nI a)), (2, .int (nI (a + N)))]) S.1 S.2.1 dx_X_writeWide_1 rfl hl (by decide) rfl (fun ls hl => ?_)
  refine lp_X_writeWide (d := d) (g := g) (k := k) (a := a) (N := N) S hN hk (fun H locs ls hG hl => ?_) N 0 (Nat.zero_add N) _ _ _ hG (lv_sub hl [0, 1, 2, 3] rfl)
  exact rg_rv S hr hlk hG dx_X_writeWide_43 rfl

def px_fi (d : Nat → Int32) (fm : Int32) (r n : Nat) : Nat → Int32 := px_itr (fun k d => px_put d fm k r 0) n d
def px_fo (d : Nat → Int32) (fm : Int32) (n : Nat) : Nat → Int32 := px_itr (fun i d => px_fi d fm (6 + i) 5) n d
set_option maxHeartbeats 4000000 in
set_option maxRecDepth 100000 in
theorem lp_X_finish_in {p : Program} {l : Launch} {e : Env} {s : State} {m : MethodId} {args : Array Value} {below : List Frame} {meth : Method} {c : Code} {D : va_G} {A : Nat → Prop} {K : XK} {Q : State → Prop} {d g : Nat → Int32} {ru fm st mv cp op : Int32} {r : Nat} (S : CallFix p m c b_X_finish 3 s args lw_gd R_X) (hr0 : r < 16)
    (kx : ∀ (H : Heap) (locs : List Loc) (ls : Array Slot), gG D A s (xw K) (xt K) ((px_fi d fm r 5), g, ru, fm, st, mv, cp, op) H locs → lv_has ls 3 [(2, .int (nI 5)), (1, .int (nI r)), (0, .ref K.1)] → W p l e (rm_n 1) s m args below meth c H locs 0 0 Q (F0 m 29 ls [])) :
    ∀ (n i : Nat), i + n = 5 → ∀ (H : Heap) (locs : List Loc) (ls : Array Slot), gG D A s (xw K) (xt K) ((px_fi d fm r i), g, ru, fm, st, mv, cp, op) H locs → lv_has ls 3 [(2, .int (nI i)), (1, .int (nI r)), (0, .ref K.1)] → W p l e (rm_n 1) s m args below meth c H locs 0 0 Q (F0 m 11 ls []) := by
  intro n
  induction n with
  | zero =>
    intro i hi H locs ls hG hl
    have hi : i = 5 := by omega
    subst hi
    refine lv_iload_n S.1 S.2.1 dx_X_finish_11 rfl (lv_at hl 0 rfl) ?_
    refine lv_iconst (v := 5) S.1 S.2.1 dx_X_finish_12 (by decide) ?_
    refine lv_icmp_ge (tgt := 29) S.1 S.2.1 dx_X_finish_13 (by decide) (fun _ => ?_) (fun h9 => absurd (nI_le (Nat.le_refl 5) (by omega)) h9)
    exact kx _ _ _ hG (lv_sub hl [0, 1, 2] rfl)
  | succ n ih =>
    intro i hi H locs ls hG hl
    refine lv_iload_n S.1 S.2.1 dx_X_finish_11 rfl (lv_at hl 0 rfl) ?_
    refine lv_iconst (v := 5) S.1 S.2.1 dx_X_finish_12 (by decide) ?_
    refine lv_icmp_ge (tgt := 29) S.1 S.2.1 dx_X_finish_13 (by decide) (fun h9 => absurd h9 (nI_ge (a := i) (b := 5) (by omega) (by omega))) (fun _ => ?_)
    refine lv_aload_n S.1 S.2.1 dx_X_finish_16 rfl (lv_at hl 2 rfl) ?_
    refine lv_iload_n S.1 S.2.1 dx_X_finish_17 rfl (lv_at hl 0 rfl) ?_
    refine lv_iload_n S.1 S.2.1 dx_X_finish_18 rfl (lv_at hl 1 rfl) ?_
    refine lv_iconst (v := 0) S.1 S.2.1 dx_X_finish_19 (by decide) ?_
    refine rx_cv (rest := []) S (cx_X_put l (px_fi d fm r i) g ru fm st mv cp op i r 0 (by omega) (hr0)) gc_X_84 hd_X_put ⟨rfl, rfl⟩ ⟨Nat.le_of_ble_eq_true rfl, Nat.le_of_ble_eq_true rfl⟩ rfl hG hl.1 rfl (Nat.le_of_ble_eq_true rfl) dx_X_finish_20 (fun H locs hG => ?_)
    refine lv_iinc (v := nI (i + 1)) (lv' := [(2, .int (nI (i + 1))), (1, .int (nI r)), (0, .ref K.1)]) S.1 S.2.1 dx_X_finish_23 hl (k := 0) rfl (nI_1 i) (by decide) rfl (fun ls hl => ?_)
    refine lv_goto (tgt := 11) S.1 S.2.1 dx_X_finish_26 (by decide) ?_
    exact ih (i + 1) (by omega) _ _ _ hG (lv_sub hl [0, 1, 2] rfl)

set_option maxHeartbeats 4000000 in
set_option maxRecDepth 100000 in
theorem lp_X_finish {p : Program} {l : Launch} {e : Env} {s : State} {m : MethodId} {args : Array Value} {below : List Frame} {meth : Method} {c : Code} {D : va_G} {A : Nat → Prop} {K : XK} {Q : State → Prop} {d g : Nat → Int32} {ru fm st mv cp op : Int32} (S : CallFix p m c b_X_finish 3 s args lw_gd R_X) 
    (kx : ∀ (H : Heap) (locs : List Loc) (ls : Array Slot), gG D A s (xw K) (xt K) ((px_fo d fm 6), g, ru, fm, st, mv, cp, op) H locs → lv_has ls 3 [(1, .int (nI (6 + 6))), (0, .ref K.1)] → W p l e (rm_n 1) s m args below meth c H locs 0 0 Q (F0 m 35 ls [])) :
    ∀ (n i : Nat), i + n = 6 → ∀ (H : Heap) (locs : List Loc) (ls : Array Slot), gG D A s (xw K) (xt K) ((px_fo d fm i), g, ru, fm, st, mv, cp, op) H locs → lv_has ls 3 [(1, .int (nI (6 + i))), (0, .ref K.1)] → W p l e (rm_n 1) s m args below meth c H locs 0 0 Q (F0 m 3 ls []) := by
  intro n
  induction n with
  | zero =>
    intro i hi H locs ls hG hl
    have hi : i = 6 := by omega
    subst hi
    refine lv_iload_n S.1 S.2.1 dx_X_finish_3 rfl (lv_at hl 0 rfl) ?_
    refine lv_bipush (v := 12) S.1 S.2.1 dx_X_finish_4 (by decide) ?_
    refine lv_icmp_ge (tgt := 35) S.1 S.2.1 dx_X_finish_6 (by decide) (fun _ => ?_) (fun h9 => absurd (nI_le (Nat.le_refl 12) (by omega)) h9)
    exact kx _ _ _ hG (lv_sub hl [0, 1] rfl)
  | succ n ih =>
    intro i hi H locs ls hG hl
    refine lv_iload_n S.1 S.2.1 dx_X_finish_3 rfl (lv_at hl 0 rfl) ?_
    refine lv_bipush (v := 12) S.1 S.2.1 dx_X_finish_4 (by decide) ?_
    refine lv_icmp_ge (tgt := 35) S.1 S.2.1 dx_X_finish_6 (by decide) (fun h9 => absurd h9 (nI_ge (a := 6 + i) (b := 12) (by omega) (by omega))) (fun _ => ?_)
    refine lv_iconst (v := 0) S.1 S.2.1 dx_X_finish_9 (by decide) ?_
    refine lv_istore_n (lv' := [(2, .int 0), (1, .int (nI (6 + i))), (0, .ref K.1)]) S.1 S.2.1 dx_X_finish_10 rfl hl (by decide) rfl (fun ls hl => ?_)
    refine lp_X_finish_in (d := px_fo d fm i) (r := 6 + i) S (by omega) (fun H locs ls hG hl => ?_) 5 0 rfl _ _ _ hG (lv_sub hl [0, 1, 2] rfl)
    refine lv_iinc (v := nI (6 + (i + 1))) (lv' := [(1, .int (nI (6 + (i + 1)))), (2, .int (nI 5)), (0, .ref K.1)]) S.1 S.2.1 dx_X_finish_29 hl (k := 1) rfl (nI_1 (6 + i)) (by decide) rfl (fun ls hl => ?_)
    refine lv_goto (tgt := 3) S.1 S.2.1 dx_X_finish_32 (by decide) ?_
    exact ih (i + 1) (by omega) _ _ _ hG (lv_sub hl [0, 2] rfl)

set_option maxHeartbeats 4000000 in
set_option maxRecDepth 100000 in
theorem cx_X_finish (l : Launch) (d g : Nat → Int32) (ru fm st mv cp op : Int32) : xMv l y_X_finish c_X_finish (rm_n 1) [] (d, g, ru, fm, st, mv, cp, op) (px_fo d fm 6, g, ru, fm, 2, mv, cp, op) := by
  intro K
  refine gMv_of (own := R_X) (by decide) rfl (Nat.le_of_ble_eq_true rfl) ?_
  intro p e s m args below meth c D A S hr hlk hG ls hl
  have hl : lv_has ls 3 [(0, .ref K.1)] := hl
  refine lv_bipush (v := 6) S.1 S.2.1 dx_X_finish_0 (by decide) ?_
  refine lv_istore_n (lv' := [(1, .int 6), (0, .ref K.1)]) S.1 S.2.1 dx_X_finish_2 rfl hl (by decide) rfl (fun ls hl => ?_)
  refine lp_X_finish (d := d) S (fun H locs ls hG hl => ?_) 6 0 rfl _ _ _ hG (lv_sub hl [0, 1] rfl)
  refine lv_aload_n S.1 S.2.1 dx_X_finish_35 rfl (lv_at hl 1 rfl) ?_
  refine lv_iconst (v := 2) S.1 S.2.1 dx_X_finish_36 (by decide) ?_
  refine rx_p4 S hG dx_X_finish_37 (fun H locs hG => ?_)
  exact rg_rv S hr hlk hG dx_X_finish_40 (by rfl)

def px_tg (d g : Nat → Int32) (f : Nat) (n : Nat) : Nat → Int32 := px_itr (fun i g => upd g i (d (f * 16 + 12 + i))) n g
def px_td (d g : Nat → Int32) (fm : Int32) (n : Nat) : Nat → Int32 := px_itr (fun i d => px_put d fm (px_mem i false) (i / 2) (g i)) n d
def px_te (d g : Nat → Int32) (fm : Int32) : Nat → Int32 := px_put (px_put (px_td d g fm 4) fm 0 0 (g 0 ^^^ g 1)) fm 1 1 (g 2 ^^^ g 3)
def px_tf (fm : Int32) : Nat := if fm = 3 then 4 else 3
theorem nx_tb (f i : Nat) : nI f * 16 + 12 + nI i = nI (f * 16 + 12 + i) := by rw [show (16 : Int32) = nI 16 from rfl, show (12 : Int32) = nI 12 from rfl, pk_mul, nI_add, nI_add]
theorem nx_12 (i : Nat) : 12 + nI i = nI (12 + i) := by rw [show (12 : Int32) = nI 12 from rfl, nI_add]
set_option maxHeartbeats 4000000 in
set_option maxRecDepth 100000 in
theorem lp_X_takeBack_a {p : Program} {l : Launch} {e : Env} {s : State} {m : MethodId} {args : Array Value} {below : List Frame} {meth : Method} {c : Code} {D : va_G} {A : Nat → Prop} {K : XK} {Q : State → Prop} {d g : Nat → Int32} {ru fm st mv cp op : Int32} {f : Nat} (S : CallFix p m c b_X_takeBack 4 s args lw_gd R_X) (hf : f < 5)
    (kx : ∀ (H : Heap) (locs : List Loc) (ls : Array Slot), gG D A s (xw K) (xt K) (d, (px_tg d g f 4), ru, fm, st, mv, cp, op) H locs → lv_has ls 4 [(2, .int (nI 4)), (1, .int (nI f)), (0, .ref K.1)] → W p l e (rm_n 1) s m args below meth c H locs 0 0 Q (F0 m 47 ls [])) :
    ∀ (n i : Nat), i + n = 4 → ∀ (H : Heap) (locs : List Loc) (ls : Array Slot), gG D A s (xw K) (xt K) (d, (px_tg d g f i), ru, fm, st, mv, cp, op) H locs → lv_has ls 4 [(2, .int (nI i)), (1, .int (nI f)), (0, .ref K.1)] → W p l e (rm_n 1) s m args below meth c H locs 0 0 Q (F0 m 16 ls []) := by
  intro n
  induction n with
  | zero =>
    intro i hi H locs ls hG hl
    have hi : i = 4 := by omega
    subst hi
    refine lv_iload_n S.1 S.2.1 dx_X_takeBack_16 rfl (lv_at hl 0 rfl) ?_
    refine lv_iconst (v := 4) S.1 S.2.1 dx_X_takeBack_17 (by decide) ?_
    refine lv_icmp_ge (tgt := 47) S.1 S.2.1 dx_X_takeBack_18 (by decide) (fun _ => ?_) (fun h9 => absurd (nI_le (Nat.le_refl 4) (by omega)) h9)
    exact kx _ _ _ hG (lv_sub hl [0, 1, 2] rfl)
  | succ n ih =>
    intro i hi H locs ls hG hl
    refine lv_iload_n S.1 S.2.1 dx_X_takeBack_16 rfl (lv_at hl 0 rfl) ?_
    refine lv_iconst (v := 4) S.1 S.2.1 dx_X_takeBack_17 (by decide) ?_
    refine lv_icmp_ge (tgt := 47) S.1 S.2.1 dx_X_takeBack_18 (by decide) (fun h9 => absurd h9 (nI_ge (a := i) (b := 4) (by omega) (by omega))) (fun _ => ?_)
    refine lv_aload_n S.1 S.2.1 dx_X_takeBack_21 rfl (lv_at hl 2 rfl) ?_
    refine rx_g1 S hG dx_X_takeBack_22 ?_
    refine lv_iload_n S.1 S.2.1 dx_X_takeBack_25 rfl (lv_at hl 0 rfl) ?_
    refine lv_aload_n S.1 S.2.1 dx_X_takeBack_26 rfl (lv_at hl 2 rfl) ?_
    refine rx_g0 S hG dx_X_takeBack_27 ?_
    refine lv_iload_n S.1 S.2.1 dx_X_takeBack_30 rfl (lv_at hl 1 rfl) ?_
    refine lv_bipush (v := 16) S.1 S.2.1 dx_X_takeBack_31 (by decide) ?_
    refine lv_imul S.1 S.2.1 dx_X_takeBack_33 ?_
    refine lv_bipush (v := 12) S.1 S.2.1 dx_X_takeBack_34 (by decide) ?_
    refine lv_iadd S.1 S.2.1 dx_X_takeBack_36 ?_
    refine lv_iload_n S.1 S.2.1 dx_X_takeBack_37 rfl (lv_at hl 0 rfl) ?_
    refine lv_iadd S.1 S.2.1 dx_X_takeBack_38 ?_
    refine rg_top (y := nI (f * 16 + 12 + i)) (nx_tb f i) ?_
    refine rx_dl (i := f * 16 + 12 + i) (by omega) S hG dx_X_takeBack_39 ?_
    refine rx_rs (i := i) (by omega) S hG dx_X_takeBack_40 (fun H locs hG => ?_)
    refine lv_iinc (v := nI (i + 1)) (lv' := [(2, .int (nI (i + 1))), (1, .int (nI f)), (0, .ref K.1)]) S.1 S.2.1 dx_X_takeBack_41 hl (k := 0) rfl (nI_1 i) (by decide) rfl (fun ls hl => ?_)
    refine lv_goto (tgt := 16) S.1 S.2.1 dx_X_takeBack_44 (by decide) ?_
    exact ih (i + 1) (by omega) _ _ _ hG (lv_sub hl [0, 1, 2] rfl)

set_option maxHeartbeats 4000000 in
set_option maxRecDepth 100000 in
theorem lp_X_takeBack_b {p : Program} {l : Launch} {e : Env} {s : State} {m : MethodId} {args : Array Value} {below : List Frame} {meth : Method} {c : Code} {D : va_G} {A : Nat → Prop} {K : XK} {Q : State → Prop} {d g : Nat → Int32} {ru fm st mv cp op x1 : Int32} (S : CallFix p m c b_X_takeBack 4 s args lw_gd R_X) 
    (kx : ∀ (H : Heap) (locs : List Loc) (ls : Array Slot), gG D A s (xw K) (xt K) ((px_td d g fm 4), g, ru, fm, st, mv, cp, op) H locs → lv_has ls 4 [(2, .int (nI 4)), (1, .int x1), (0, .ref K.1)] → W p l e (rm_n 1) s m args below meth c H locs 0 0 Q (F0 m 80 ls [])) :
    ∀ (n i : Nat), i + n = 4 → ∀ (H : Heap) (locs : List Loc) (ls : Array Slot), gG D A s (xw K) (xt K) ((px_td d g fm i), g, ru, fm, st, mv, cp, op) H locs → lv_has ls 4 [(2, .int (nI i)), (1, .int x1), (0, .ref K.1)] → W p l e (rm_n 1) s m args below meth c H locs 0 0 Q (F0 m 49 ls []) := by
  intro n
  induction n with
  | zero =>
    intro i hi H locs ls hG hl
    have hi : i = 4 := by omega
    subst hi
    refine lv_iload_n S.1 S.2.1 dx_X_takeBack_49 rfl (lv_at hl 0 rfl) ?_
    refine lv_iconst (v := 4) S.1 S.2.1 dx_X_takeBack_50 (by decide) ?_
    refine lv_icmp_ge (tgt := 80) S.1 S.2.1 dx_X_takeBack_51 (by decide) (fun _ => ?_) (fun h9 => absurd (nI_le (Nat.le_refl 4) (by omega)) h9)
    exact kx _ _ _ hG (lv_sub hl [0, 1, 2] rfl)
  | succ n ih =>
    intro i hi H locs ls hG hl
    refine lv_iload_n S.1 S.2.1 dx_X_takeBack_49 rfl (lv_at hl 0 rfl) ?_
    refine lv_iconst (v := 4) S.1 S.2.1 dx_X_takeBack_50 (by decide) ?_
    refine lv_icmp_ge (tgt := 80) S.1 S.2.1 dx_X_takeBack_51 (by decide) (fun h9 => absurd h9 (nI_ge (a := i) (b := 4) (by omega) (by omega))) (fun _ => ?_)
    refine lv_iload_n S.1 S.2.1 dx_X_takeBack_54 rfl (lv_at hl 0 rfl) ?_
    refine lv_iconst (v := 0) S.1 S.2.1 dx_X_takeBack_55 (by decide) ?_
    refine rs_ci (rest := []) S (cx_X_memberOf l i false (by omega)) gc_X_96 hd_X_memberOf ⟨rfl, rfl⟩ ⟨Nat.le_of_ble_eq_true rfl, Nat.le_of_ble_eq_true rfl⟩ rfl hl.1 rfl (Nat.le_of_ble_eq_true rfl) dx_X_takeBack_56 ?_
    refine lv_istore_n (lv' := [(3, .int (nI (px_mem i false))), (2, .int (nI i)), (1, .int x1), (0, .ref K.1)]) S.1 S.2.1 dx_X_takeBack_59 rfl hl (by decide) rfl (fun ls hl => ?_)
    refine lv_aload_n S.1 S.2.1 dx_X_takeBack_60 rfl (lv_at hl 3 rfl) ?_
    refine lv_iload_n S.1 S.2.1 dx_X_takeBack_61 rfl (lv_at hl 0 rfl) ?_
    refine lv_iload_n S.1 S.2.1 dx_X_takeBack_62 rfl (lv_at hl 1 rfl) ?_
    refine lv_iconst (v := 1) S.1 S.2.1 dx_X_takeBack_63 (by decide) ?_
    refine lv_ishr S.1 S.2.1 dx_X_takeBack_64 ?_
    refine rg_top (y := nI (i / 2)) (nx_sh1 (by omega)) ?_
    refine lv_aload_n S.1 S.2.1 dx_X_takeBack_65 rfl (lv_at hl 3 rfl) ?_
    refine rx_g1 S hG dx_X_takeBack_66 ?_
    refine lv_iload_n S.1 S.2.1 dx_X_takeBack_69 rfl (lv_at hl 1 rfl) ?_
    refine rx_rl (i := i) (by omega) S hG dx_X_takeBack_70 ?_
    refine rx_cv (rest := []) S (cx_X_put l (px_td d g fm i) g ru fm st mv cp op (px_mem i false) (i / 2) (g i) (px_mem_lt _ _) (by omega)) gc_X_84 hd_X_put ⟨rfl, rfl⟩ ⟨Nat.le_of_ble_eq_true rfl, Nat.le_of_ble_eq_true rfl⟩ rfl hG hl.1 rfl (Nat.le_of_ble_eq_true rfl) dx_X_takeBack_71 (fun H locs hG => ?_)
    refine lv_iinc (v := nI (i + 1)) (lv' := [(2, .int (nI (i + 1))), (3, .int (nI (px_mem i false))), (1, .int x1), (0, .ref K.1)]) S.1 S.2.1 dx_X_takeBack_74 hl (k := 1) rfl (nI_1 i) (by decide) rfl (fun ls hl => ?_)
    refine lv_goto (tgt := 49) S.1 S.2.1 dx_X_takeBack_77 (by decide) ?_
    exact ih (i + 1) (by omega) _ _ _ hG (lv_sub hl [0, 2, 3] rfl)

set_option maxHeartbeats 4000000 in
set_option maxRecDepth 100000 in
theorem cx_X_takeBack (l : Launch) (d g : Nat → Int32) (ru fm st mv cp op : Int32) : xMv l y_X_takeBack c_X_takeBack (rm_n 1) [] (d, g, ru, fm, st, mv, cp, op) (px_te d (px_tg d g (px_tf fm) 4) fm, (px_tg d g (px_tf fm) 4), ru, fm, st, mv, 0, op) := by
  intro K
  refine gMv_of (own := R_X) (by decide) rfl (Nat.le_of_ble_eq_true rfl) ?_
  intro p e s m args below meth c D A S hr hlk hG ls hl
  have hl : lv_has ls 4 [(0, .ref K.1)] := hl
  by_cases hf : fm = 3
  · skip
    refine lv_aload_n S.1 S.2.1 dx_X_takeBack_0 rfl (lv_at hl 0 rfl) ?_
    refine rx_g3 S hG dx_X_takeBack_1 ?_
    refine lv_iconst (v := 3) S.1 S.2.1 dx_X_takeBack_4 (by decide) ?_
    refine lv_icmp_ne (tgt := 12) S.1 S.2.1 dx_X_takeBack_5 (by decide) (fun h9 => absurd (hf) h9) (fun _ => ?_)
    refine lv_iconst (v := 4) S.1 S.2.1 dx_X_takeBack_8 (by decide) ?_
    refine lv_goto (tgt := 13) S.1 S.2.1 dx_X_takeBack_9 (by decide) ?_
    refine lv_istore_n (lv' := [(1, .int 4), (0, .ref K.1)]) S.1 S.2.1 dx_X_takeBack_13 rfl hl (by decide) rfl (fun ls hl => ?_)
    refine lv_iconst (v := 0) S.1 S.2.1 dx_X_takeBack_14 (by decide) ?_
    refine lv_istore_n (lv' := [(2, .int 0), (1, .int 4), (0, .ref K.1)]) S.1 S.2.1 dx_X_takeBack_15 rfl hl (by decide) rfl (fun ls hl => ?_)
    refine lp_X_takeBack_a (d := d) (g := g) (f := 4) S (by omega) (fun H locs ls hG hl => ?_) 4 0 rfl _ _ _ hG (lv_sub hl [0, 1, 2] rfl)
    refine lv_iconst (v := 0) S.1 S.2.1 dx_X_takeBack_47 (by decide) ?_
    refine lv_istore_n (lv' := [(2, .int 0), (1, .int (nI 4)), (0, .ref K.1)]) S.1 S.2.1 dx_X_takeBack_48 rfl hl (by decide) rfl (fun ls hl => ?_)
    refine lp_X_takeBack_b (d := d) (g := (px_tg d g 4 4)) S (fun H locs ls hG hl => ?_) 4 0 rfl _ _ _ hG (lv_sub hl [0, 1, 2] rfl)
    refine lv_aload_n S.1 S.2.1 dx_X_takeBack_80 rfl (lv_at hl 2 rfl) ?_
    refine lv_iconst (v := 0) S.1 S.2.1 dx_X_takeBack_81 (by decide) ?_
    refine lv_iconst (v := 0) S.1 S.2.1 dx_X_takeBack_82 (by decide) ?_
    refine lv_aload_n S.1 S.2.1 dx_X_takeBack_83 rfl (lv_at hl 2 rfl) ?_
    refine rx_g1 S hG dx_X_takeBack_84 ?_
    refine lv_iconst (v := 0) S.1 S.2.1 dx_X_takeBack_87 (by decide) ?_
    refine rx_rl (i := 0) (by omega) S hG dx_X_takeBack_88 ?_
    refine lv_aload_n S.1 S.2.1 dx_X_takeBack_89 rfl (lv_at hl 2 rfl) ?_
    refine rx_g1 S hG dx_X_takeBack_90 ?_
    refine lv_iconst (v := 1) S.1 S.2.1 dx_X_takeBack_93 (by decide) ?_
    refine rx_rl (i := 1) (by omega) S hG dx_X_takeBack_94 ?_
    refine lv_ixor S.1 S.2.1 dx_X_takeBack_95 ?_
    refine rx_cv (rest := []) S (cx_X_put l (px_td d (px_tg d g 4 4) fm 4) (px_tg d g 4 4) ru fm st mv cp op 0 0 ((px_tg d g 4 4) 0 ^^^ (px_tg d g 4 4) 1) (by omega) (by omega)) gc_X_84 hd_X_put ⟨rfl, rfl⟩ ⟨Nat.le_of_ble_eq_true rfl, Nat.le_of_ble_eq_true rfl⟩ rfl hG hl.1 rfl (Nat.le_of_ble_eq_true rfl) dx_X_takeBack_96 (fun H locs hG => ?_)
    refine lv_aload_n S.1 S.2.1 dx_X_takeBack_99 rfl (lv_at hl 2 rfl) ?_
    refine lv_iconst (v := 1) S.1 S.2.1 dx_X_takeBack_100 (by decide) ?_
    refine lv_iconst (v := 1) S.1 S.2.1 dx_X_takeBack_101 (by decide) ?_
    refine lv_aload_n S.1 S.2.1 dx_X_takeBack_102 rfl (lv_at hl 2 rfl) ?_
    refine rx_g1 S hG dx_X_takeBack_103 ?_
    refine lv_iconst (v := 2) S.1 S.2.1 dx_X_takeBack_106 (by decide) ?_
    refine rx_rl (i := 2) (by omega) S hG dx_X_takeBack_107 ?_
    refine lv_aload_n S.1 S.2.1 dx_X_takeBack_108 rfl (lv_at hl 2 rfl) ?_
    refine rx_g1 S hG dx_X_takeBack_109 ?_
    refine lv_iconst (v := 3) S.1 S.2.1 dx_X_takeBack_112 (by decide) ?_
    refine rx_rl (i := 3) (by omega) S hG dx_X_takeBack_113 ?_
    refine lv_ixor S.1 S.2.1 dx_X_takeBack_114 ?_
    refine rx_cv (rest := []) S (cx_X_put l (px_put (px_td d (px_tg d g 4 4) fm 4) fm 0 0 ((px_tg d g 4 4) 0 ^^^ (px_tg d g 4 4) 1)) (px_tg d g 4 4) ru fm st mv cp op 1 1 ((px_tg d g 4 4) 2 ^^^ (px_tg d g 4 4) 3) (by omega) (by omega)) gc_X_84 hd_X_put ⟨rfl, rfl⟩ ⟨Nat.le_of_ble_eq_true rfl, Nat.le_of_ble_eq_true rfl⟩ rfl hG hl.1 rfl (Nat.le_of_ble_eq_true rfl) dx_X_takeBack_115 (fun H locs hG => ?_)
    refine lv_aload_n S.1 S.2.1 dx_X_takeBack_118 rfl (lv_at hl 2 rfl) ?_
    refine lv_iconst (v := 0) S.1 S.2.1 dx_X_takeBack_119 (by decide) ?_
    refine rx_p6 S hG dx_X_takeBack_120 rfl rfl (fun H locs hG => ?_)
    exact rg_rv S hr hlk hG dx_X_takeBack_123 (by rw [show px_tf fm = 4 from if_pos hf]; rfl)
  · skip
    refine lv_aload_n S.1 S.2.1 dx_X_takeBack_0 rfl (lv_at hl 0 rfl) ?_
    refine rx_g3 S hG dx_X_takeBack_1 ?_
    refine lv_iconst (v := 3) S.1 S.2.1 dx_X_takeBack_4 (by decide) ?_
    refine lv_icmp_ne (tgt := 12) S.1 S.2.1 dx_X_takeBack_5 (by decide) (fun _ => ?_) (fun h9 => absurd h9 (hf))
    refine lv_iconst (v := 3) S.1 S.2.1 dx_X_takeBack_12 (by decide) ?_
    refine lv_istore_n (lv' := [(1, .int 3), (0, .ref K.1)]) S.1 S.2.1 dx_X_takeBack_13 rfl hl (by decide) rfl (fun ls hl => ?_)
    refine lv_iconst (v := 0) S.1 S.2.1 dx_X_takeBack_14 (by decide) ?_
    refine lv_istore_n (lv' := [(2, .int 0), (1, .int 3), (0, .ref K.1)]) S.1 S.2.1 dx_X_takeBack_15 rfl hl (by decide) rfl (fun ls hl => ?_)
    refine lp_X_takeBack_a (d := d) (g := g) (f := 3) S (by omega) (fun H locs ls hG hl => ?_) 4 0 rfl _ _ _ hG (lv_sub hl [0, 1, 2] rfl)
    refine lv_iconst (v := 0) S.1 S.2.1 dx_X_takeBack_47 (by decide) ?_
    refine lv_istore_n (lv' := [(2, .int 0), (1, .int (nI 3)), (0, .ref K.1)]) S.1 S.2.1 dx_X_takeBack_48 rfl hl (by decide) rfl (fun ls hl => ?_)
    refine lp_X_takeBack_b (d := d) (g := (px_tg d g 3 4)) S (fun H locs ls hG hl => ?_) 4 0 rfl _ _ _ hG (lv_sub hl [0, 1, 2] rfl)
    refine lv_aload_n S.1 S.2.1 dx_X_takeBack_80 rfl (lv_at hl 2 rfl) ?_
    refine lv_iconst (v := 0) S.1 S.2.1 dx_X_takeBack_81 (by decide) ?_
    refine lv_iconst (v := 0) S.1 S.2.1 dx_X_takeBack_82 (by decide) ?_
    refine lv_aload_n S.1 S.2.1 dx_X_takeBack_83 rfl (lv_at hl 2 rfl) ?_
    refine rx_g1 S hG dx_X_takeBack_84 ?_
    refine lv_iconst (v := 0) S.1 S.2.1 dx_X_takeBack_87 (by decide) ?_
    refine rx_rl (i := 0) (by omega) S hG dx_X_takeBack_88 ?_
    refine lv_aload_n S.1 S.2.1 dx_X_takeBack_89 rfl (lv_at hl 2 rfl) ?_
    refine rx_g1 S hG dx_X_takeBack_90 ?_
    refine lv_iconst (v := 1) S.1 S.2.1 dx_X_takeBack_93 (by decide) ?_
    refine rx_rl (i := 1) (by omega) S hG dx_X_takeBack_94 ?_
    refine lv_ixor S.1 S.2.1 dx_X_takeBack_95 ?_
    refine rx_cv (rest := []) S (cx_X_put l (px_td d (px_tg d g 3 4) fm 4) (px_tg d g 3 4) ru fm st mv cp op 0 0 ((px_tg d g 3 4) 0 ^^^ (px_tg d g 3 4) 1) (by omega) (by omega)) gc_X_84 hd_X_put ⟨rfl, rfl⟩ ⟨Nat.le_of_ble_eq_true rfl, Nat.le_of_ble_eq_true rfl⟩ rfl hG hl.1 rfl (Nat.le_of_ble_eq_true rfl) dx_X_takeBack_96 (fun H locs hG => ?_)
    refine lv_aload_n S.1 S.2.1 dx_X_takeBack_99 rfl (lv_at hl 2 rfl) ?_
    refine lv_iconst (v := 1) S.1 S.2.1 dx_X_takeBack_100 (by decide) ?_
    refine lv_iconst (v := 1) S.1 S.2.1 dx_X_takeBack_101 (by decide) ?_
    refine lv_aload_n S.1 S.2.1 dx_X_takeBack_102 rfl (lv_at hl 2 rfl) ?_
    refine rx_g1 S hG dx_X_takeBack_103 ?_
    refine lv_iconst (v := 2) S.1 S.2.1 dx_X_takeBack_106 (by decide) ?_
    refine rx_rl (i := 2) (by omega) S hG dx_X_takeBack_107 ?_
    refine lv_aload_n S.1 S.2.1 dx_X_takeBack_108 rfl (lv_at hl 2 rfl) ?_
    refine rx_g1 S hG dx_X_takeBack_109 ?_
    refine lv_iconst (v := 3) S.1 S.2.1 dx_X_takeBack_112 (by decide) ?_
    refine rx_rl (i := 3) (by omega) S hG dx_X_takeBack_113 ?_
    refine lv_ixor S.1 S.2.1 dx_X_takeBack_114 ?_
    refine rx_cv (rest := []) S (cx_X_put l (px_put (px_td d (px_tg d g 3 4) fm 4) fm 0 0 ((px_tg d g 3 4) 0 ^^^ (px_tg d g 3 4) 1)) (px_tg d g 3 4) ru fm st mv cp op 1 1 ((px_tg d g 3 4) 2 ^^^ (px_tg d g 3 4) 3) (by omega) (by omega)) gc_X_84 hd_X_put ⟨rfl, rfl⟩ ⟨Nat.le_of_ble_eq_true rfl, Nat.le_of_ble_eq_true rfl⟩ rfl hG hl.1 rfl (Nat.le_of_ble_eq_true rfl) dx_X_takeBack_115 (fun H locs hG => ?_)
    refine lv_aload_n S.1 S.2.1 dx_X_takeBack_118 rfl (lv_at hl 2 rfl) ?_
    refine lv_iconst (v := 0) S.1 S.2.1 dx_X_takeBack_119 (by decide) ?_
    refine rx_p6 S hG dx_X_takeBack_120 rfl rfl (fun H locs hG => ?_)
    exact rg_rv S hr hlk hG dx_X_takeBack_123 (by rw [show px_tf fm = 3 from if_neg hf]; rfl)

def px_mg (d g : Nat → Int32) (fm : Int32) (k n : Nat) : Nat → Int32 := px_itr (fun i g => upd g i (px_ff d fm (4 * k + i) false)) n g
def px_mc (d g : Nat → Int32) (fm : Int32) (n : Nat) : Nat → Int32 := px_itr (fun i d => px_put (px_put d fm 3 (12 + i) (g i)) fm 4 (12 + i) (g i)) n d
def px_mw (d g : Nat → Int32) (fm : Int32) (k : Nat) : Nat → Int32 := px_put (px_ww (px_ww d g fm k 0 2) g fm k 2 2) fm (k % 5) k (g 0 ^^^ g 1 ^^^ g 2 ^^^ g 3)
/-- moveGroup from the point where the group has been copied (or needn't) -/
def px_m2 (d g : Nat → Int32) (ru fm st cp op : Int32) (k : Nat) (pt : Int32) : XS :=
  if pt = 1 then (d, g, ru, fm, st, nI k, cp, op) else if pt = 2 then (px_ww d g fm k 0 2, g, ru, fm, st, nI k, cp, op) else if pt = 3 then (px_mw d g fm k, g, ru, fm, st, nI k, cp, op) else if pt ≤ 4 then (px_mw d g fm k, g, ru, fm, st, nI (k + 1), 0, op) else if nI (k + 1) = 6 then (px_fo (px_mw d g fm k) fm 6, g, ru, fm, 2, nI (k + 1), 0, op) else (px_mw d g fm k, g, ru, fm, st, nI (k + 1), 0, op)
def px_m1 (d g : Nat → Int32) (ru fm st cp op : Int32) (k : Nat) (pt : Int32) : XS :=
  if pt = 0 then (d, px_mg d g fm k 4, ru, fm, st, nI k, cp, op) else if nI k = 0 then px_m2 (px_mc d (px_mg d g fm k 4) fm 4) (px_mg d g fm k 4) ru fm st 1 op k pt else px_m2 d (px_mg d g fm k 4) ru fm st cp op k pt
set_option maxHeartbeats 4000000 in
set_option maxRecDepth 100000 in
theorem lp_X_moveGroup_a {p : Program} {l : Launch} {e : Env} {s : State} {m : MethodId} {args : Array Value} {below : List Frame} {meth : Method} {c : Code} {D : va_G} {A : Nat → Prop} {K : XK} {Q : State → Prop} {d g : Nat → Int32} {ru fm st cp op pt : Int32} {k : Nat} (S : CallFix p m c b_X_moveGroup 3 s args lw_gd R_X) (hk : k ≤ 6)
    (kx : ∀ (H : Heap) (locs : List Loc) (ls : Array Slot), gG D A s (xw K) (xt K) (d, (px_mg d g fm k 4), ru, fm, st, (nI k), cp, op) H locs → lv_has ls 3 [(2, .int (nI 4)), (0, .ref K.1), (1, .int pt)] → W p l e (rm_n 2) s m args below meth c H locs 0 0 Q (F0 m 32 ls [])) :
    ∀ (n i : Nat), i + n = 4 → ∀ (H : Heap) (locs : List Loc) (ls : Array Slot), gG D A s (xw K) (xt K) (d, (px_mg d g fm k i), ru, fm, st, (nI k), cp, op) H locs → lv_has ls 3 [(2, .int (nI i)), (0, .ref K.1), (1, .int pt)] → W p l e (rm_n 2) s m args below meth c H locs 0 0 Q (F0 m 2 ls []) := by
  intro n
  induction n with
  | zero =>
    intro i hi H locs ls hG hl
    have hi : i = 4 := by omega
    subst hi
    refine lv_iload_n S.1 S.2.1 dx_X_moveGroup_2 rfl (lv_at hl 0 rfl) ?_
    refine lv_iconst (v := 4) S.1 S.2.1 dx_X_moveGroup_3 (by decide) ?_
    refine lv_icmp_ge (tgt := 32) S.1 S.2.1 dx_X_moveGroup_4 (by decide) (fun _ => ?_) (fun h9 => absurd (nI_le (Nat.le_refl 4) (by omega)) h9)
    exact kx _ _ _ hG (lv_sub hl [0, 1, 2] rfl)
  | succ n ih =>
    intro i hi H locs ls hG hl
    refine lv_iload_n S.1 S.2.1 dx_X_moveGroup_2 rfl (lv_at hl 0 rfl) ?_
    refine lv_iconst (v := 4) S.1 S.2.1 dx_X_moveGroup_3 (by decide) ?_
    refine lv_icmp_ge (tgt := 32) S.1 S.2.1 dx_X_moveGroup_4 (by decide) (fun h9 => absurd h9 (nI_ge (a := i) (b := 4) (by omega) (by omega))) (fun _ => ?_)
    refine lv_aload_n S.1 S.2.1 dx_X_moveGroup_7 rfl (lv_at hl 1 rfl) ?_
    refine rx_g1 S hG dx_X_moveGroup_8 ?_
    refine lv_iload_n S.1 S.2.1 dx_X_moveGroup_11 rfl (lv_at hl 0 rfl) ?_
    refine lv_aload_n S.1 S.2.1 dx_X_moveGroup_12 rfl (lv_at hl 1 rfl) ?_
    refine lv_iconst (v := 4) S.1 S.2.1 dx_X_moveGroup_13 (by decide) ?_
    refine lv_aload_n S.1 S.2.1 dx_X_moveGroup_14 rfl (lv_at hl 1 rfl) ?_
    refine rx_g5 S hG dx_X_moveGroup_15 ?_
    refine lv_imul S.1 S.2.1 dx_X_moveGroup_18 ?_
    refine lv_iload_n S.1 S.2.1 dx_X_moveGroup_19 rfl (lv_at hl 0 rfl) ?_
    refine lv_iadd S.1 S.2.1 dx_X_moveGroup_20 ?_
    refine rg_top (y := nI (4 * k + i)) (nx_4 k i) ?_
    refine lv_iconst (v := 0) S.1 S.2.1 dx_X_moveGroup_21 (by decide) ?_
    refine rx_ci (rest := [.int (nI i), .ref K.2.2.1]) S (cx_X_fetchFrom l d (px_mg d g fm k i) ru fm st (nI k) cp op (4 * k + i) false (by show (4 * k + i) / 2 < 16; omega) (by omega)) gc_X_90 hd_X_fetchFrom ⟨rfl, rfl⟩ ⟨Nat.le_of_ble_eq_true rfl, Nat.le_of_ble_eq_true rfl⟩ rfl hG hl.1 rfl (Nat.le_of_ble_eq_true rfl) dx_X_moveGroup_22 (fun H locs hG => ?_)
    refine rx_rs (i := i) (by omega) S hG dx_X_moveGroup_25 (fun H locs hG => ?_)
    refine lv_iinc (v := nI (i + 1)) (lv' := [(2, .int (nI (i + 1))), (0, .ref K.1), (1, .int pt)]) S.1 S.2.1 dx_X_moveGroup_26 hl (k := 0) rfl (nI_1 i) (by decide) rfl (fun ls hl => ?_)
    refine lv_goto (tgt := 2) S.1 S.2.1 dx_X_moveGroup_29 (by decide) ?_
    exact ih (i + 1) (by omega) _ _ _ hG (lv_sub hl [0, 1, 2] rfl)

set_option maxHeartbeats 4000000 in
set_option maxRecDepth 100000 in
theorem lp_X_moveGroup_b {p : Program} {l : Launch} {e : Env} {s : State} {m : MethodId} {args : Array Value} {below : List Frame} {meth : Method} {c : Code} {D : va_G} {A : Nat → Prop} {K : XK} {Q : State → Prop} {d g : Nat → Int32} {ru fm st cp op pt : Int32} {k : Nat} (S : CallFix p m c b_X_moveGroup 3 s args lw_gd R_X) 
    (kx : ∀ (H : Heap) (locs : List Loc) (ls : Array Slot), gG D A s (xw K) (xt K) ((px_mc d g fm 4), g, ru, fm, st, (nI k), cp, op) H locs → lv_has ls 3 [(2, .int (nI 4)), (0, .ref K.1), (1, .int pt)] → W p l e (rm_n 2) s m args below meth c H locs 0 0 Q (F0 m 87 ls [])) :
    ∀ (n i : Nat), i + n = 4 → ∀ (H : Heap) (locs : List Loc) (ls : Array Slot), gG D A s (xw K) (xt K) ((px_mc d g fm i), g, ru, fm, st, (nI k), cp, op) H locs → lv_has ls 3 [(2, .int (nI i)), (0, .ref K.1), (1, .int pt)] → W p l e (rm_n 2) s m args below meth c H locs 0 0 Q (F0 m 46 ls []) := by
  intro n
  induction n with
  | zero =>
    intro i hi H locs ls hG hl
    have hi : i = 4 := by omega
    subst hi
    refine lv_iload_n S.1 S.2.1 dx_X_moveGroup_46 rfl (lv_at hl 0 rfl) ?_
    refine lv_iconst (v := 4) S.1 S.2.1 dx_X_moveGroup_47 (by decide) ?_
    refine lv_icmp_ge (tgt := 87) S.1 S.2.1 dx_X_moveGroup_48 (by decide) (fun _ => ?_) (fun h9 => absurd (nI_le (Nat.le_refl 4) (by omega)) h9)
    exact kx _ _ _ hG (lv_sub hl [0, 1, 2] rfl)
  | succ n ih =>
    intro i hi H locs ls hG hl
    refine lv_iload_n S.1 S.2.1 dx_X_moveGroup_46 rfl (lv_at hl 0 rfl) ?_
    refine lv_iconst (v := 4) S.1 S.2.1 dx_X_moveGroup_47 (by decide) ?_
    refine lv_icmp_ge (tgt := 87) S.1 S.2.1 dx_X_moveGroup_48 (by decide) (fun h9 => absurd h9 (nI_ge (a := i) (b := 4) (by omega) (by omega))) (fun _ => ?_)
    refine lv_aload_n S.1 S.2.1 dx_X_moveGroup_51 rfl (lv_at hl 1 rfl) ?_
    refine lv_iconst (v := 3) S.1 S.2.1 dx_X_moveGroup_52 (by decide) ?_
    refine lv_bipush (v := 12) S.1 S.2.1 dx_X_moveGroup_53 (by decide) ?_
    refine lv_iload_n S.1 S.2.1 dx_X_moveGroup_55 rfl (lv_at hl 0 rfl) ?_
    refine lv_iadd S.1 S.2.1 dx_X_moveGroup_56 ?_
    refine rg_top (y := nI (12 + i)) (nx_12 i) ?_
    refine lv_aload_n S.1 S.2.1 dx_X_moveGroup_57 rfl (lv_at hl 1 rfl) ?_
    refine rx_g1 S hG dx_X_moveGroup_58 ?_
    refine lv_iload_n S.1 S.2.1 dx_X_moveGroup_61 rfl (lv_at hl 0 rfl) ?_
    refine rx_rl (i := i) (by omega) S hG dx_X_moveGroup_62 ?_
    refine rx_cv (rest := []) S (cx_X_put l (px_mc d g fm i) g ru fm st (nI k) cp op 3 (12 + i) (g i) (by omega) (by omega)) gc_X_84 hd_X_put ⟨rfl, rfl⟩ ⟨Nat.le_of_ble_eq_true rfl, Nat.le_of_ble_eq_true rfl⟩ rfl hG hl.1 rfl (Nat.le_of_ble_eq_true rfl) dx_X_moveGroup_63 (fun H locs hG => ?_)
    refine lv_aload_n S.1 S.2.1 dx_X_moveGroup_66 rfl (lv_at hl 1 rfl) ?_
    refine lv_iconst (v := 4) S.1 S.2.1 dx_X_moveGroup_67 (by decide) ?_
    refine lv_bipush (v := 12) S.1 S.2.1 dx_X_moveGroup_68 (by decide) ?_
    refine lv_iload_n S.1 S.2.1 dx_X_moveGroup_70 rfl (lv_at hl 0 rfl) ?_
    refine lv_iadd S.1 S.2.1 dx_X_moveGroup_71 ?_
    refine rg_top (y := nI (12 + i)) (nx_12 i) ?_
    refine lv_aload_n S.1 S.2.1 dx_X_moveGroup_72 rfl (lv_at hl 1 rfl) ?_
    refine rx_g1 S hG dx_X_moveGroup_73 ?_
    refine lv_iload_n S.1 S.2.1 dx_X_moveGroup_76 rfl (lv_at hl 0 rfl) ?_
    refine rx_rl (i := i) (by omega) S hG dx_X_moveGroup_77 ?_
    refine rx_cv (rest := []) S (cx_X_put l (px_put (px_mc d g fm i) fm 3 (12 + i) (g i)) g ru fm st (nI k) cp op 4 (12 + i) (g i) (by omega) (by omega)) gc_X_84 hd_X_put ⟨rfl, rfl⟩ ⟨Nat.le_of_ble_eq_true rfl, Nat.le_of_ble_eq_true rfl⟩ rfl hG hl.1 rfl (Nat.le_of_ble_eq_true rfl) dx_X_moveGroup_78 (fun H locs hG => ?_)
    refine lv_iinc (v := nI (i + 1)) (lv' := [(2, .int (nI (i + 1))), (0, .ref K.1), (1, .int pt)]) S.1 S.2.1 dx_X_moveGroup_81 hl (k := 0) rfl (nI_1 i) (by decide) rfl (fun ls hl => ?_)
    refine lv_goto (tgt := 46) S.1 S.2.1 dx_X_moveGroup_84 (by decide) ?_
    exact ih (i + 1) (by omega) _ _ _ hG (lv_sub hl [0, 1, 2] rfl)

set_option maxHeartbeats 4000000 in
set_option maxRecDepth 100000 in
theorem tl_X_moveGroup {p : Program} {l : Launch} {e : Env} {s : State} {m : MethodId} {args : Array Value} {below : List Frame} {meth : Method} {c : Code} {D : va_G} {A : Nat → Prop} {K : XK} {d g : Nat → Int32} {ru fm st cp op pt : Int32} {k : Nat} (S : CallFix p m c b_X_moveGroup 3 s args lw_gd R_X) (hr : meth.sig.returnType = none) (hlk : meth.locks = false) (hk : k ≤ 6) {H : Heap} {locs : List Loc} {ls : Array Slot} (hG : gG D A s (xw K) (xt K) (d, g, ru, fm, st, (nI k), cp, op) H locs) (hl : lv_has ls 3 [(0, .ref K.1), (1, .int pt)]) :
    W p l e (rm_n 2) s m args below meth c H locs 0 0 (MQ below (gQv D (xw K) (xt K) A (px_m2 d g ru fm st cp op k pt)) args s 0 0 A) (F0 m 92 ls []) := by
  refine lv_iload_n S.1 S.2.1 dx_X_moveGroup_92 rfl (lv_at hl 1 rfl) ?_
  refine lv_iconst (v := 1) S.1 S.2.1 dx_X_moveGroup_93 (by decide) ?_
  refine lv_icmp_ne (tgt := 98) S.1 S.2.1 dx_X_moveGroup_94 (by decide) (fun c_94 => ?_) (fun c_94 => ?_)
  · skip
    refine lv_aload_n S.1 S.2.1 dx_X_moveGroup_98 rfl (lv_at hl 0 rfl) ?_
    refine lv_iconst (v := 0) S.1 S.2.1 dx_X_moveGroup_99 (by decide) ?_
    refine lv_iconst (v := 2) S.1 S.2.1 dx_X_moveGroup_100 (by decide) ?_
    refine rx_cv (rest := []) S (cx_X_writeWide l d g ru fm st cp op k 0 2  (by omega) (by omega)) gc_X_99 hd_X_writeWide ⟨rfl, rfl⟩ ⟨Nat.le_of_ble_eq_true rfl, Nat.le_of_ble_eq_true rfl⟩ rfl hG hl.1 rfl (Nat.le_of_ble_eq_true rfl) dx_X_moveGroup_101 (fun H locs hG => ?_)
    refine lv_iload_n S.1 S.2.1 dx_X_moveGroup_104 rfl (lv_at hl 1 rfl) ?_
    refine lv_iconst (v := 2) S.1 S.2.1 dx_X_moveGroup_105 (by decide) ?_
    refine lv_icmp_ne (tgt := 110) S.1 S.2.1 dx_X_moveGroup_106 (by decide) (fun c_106 => ?_) (fun c_106 => ?_)
    · skip
      refine lv_aload_n S.1 S.2.1 dx_X_moveGroup_110 rfl (lv_at hl 0 rfl) ?_
      refine lv_iconst (v := 2) S.1 S.2.1 dx_X_moveGroup_111 (by decide) ?_
      refine lv_iconst (v := 4) S.1 S.2.1 dx_X_moveGroup_112 (by decide) ?_
      refine rx_cv (rest := []) S (cx_X_writeWide l (px_ww d g fm k 0 2) g ru fm st cp op k 2 2  (by omega) (by omega)) gc_X_99 hd_X_writeWide ⟨rfl, rfl⟩ ⟨Nat.le_of_ble_eq_true rfl, Nat.le_of_ble_eq_true rfl⟩ rfl hG hl.1 rfl (Nat.le_of_ble_eq_true rfl) dx_X_moveGroup_113 (fun H locs hG => ?_)
      refine lv_aload_n S.1 S.2.1 dx_X_moveGroup_116 rfl (lv_at hl 0 rfl) ?_
      refine lv_aload_n S.1 S.2.1 dx_X_moveGroup_117 rfl (lv_at hl 0 rfl) ?_
      refine rx_g5 S hG dx_X_moveGroup_118 ?_
      refine lv_iconst (v := 5) S.1 S.2.1 dx_X_moveGroup_121 (by decide) ?_
      refine lv_irem S.1 S.2.1 dx_X_moveGroup_122 (by decide) ?_
      refine rg_top (y := nI (k % 5)) (nx_r5 (by omega)) ?_
      refine lv_aload_n S.1 S.2.1 dx_X_moveGroup_123 rfl (lv_at hl 0 rfl) ?_
      refine rx_g5 S hG dx_X_moveGroup_124 ?_
      refine lv_aload_n S.1 S.2.1 dx_X_moveGroup_127 rfl (lv_at hl 0 rfl) ?_
      refine rx_g1 S hG dx_X_moveGroup_128 ?_
      refine lv_iconst (v := 0) S.1 S.2.1 dx_X_moveGroup_131 (by decide) ?_
      refine rx_rl (i := 0) (by omega) S hG dx_X_moveGroup_132 ?_
      refine lv_aload_n S.1 S.2.1 dx_X_moveGroup_133 rfl (lv_at hl 0 rfl) ?_
      refine rx_g1 S hG dx_X_moveGroup_134 ?_
      refine lv_iconst (v := 1) S.1 S.2.1 dx_X_moveGroup_137 (by decide) ?_
      refine rx_rl (i := 1) (by omega) S hG dx_X_moveGroup_138 ?_
      refine lv_ixor S.1 S.2.1 dx_X_moveGroup_139 ?_
      refine lv_aload_n S.1 S.2.1 dx_X_moveGroup_140 rfl (lv_at hl 0 rfl) ?_
      refine rx_g1 S hG dx_X_moveGroup_141 ?_
      refine lv_iconst (v := 2) S.1 S.2.1 dx_X_moveGroup_144 (by decide) ?_
      refine rx_rl (i := 2) (by omega) S hG dx_X_moveGroup_145 ?_
      refine lv_ixor S.1 S.2.1 dx_X_moveGroup_146 ?_
      refine lv_aload_n S.1 S.2.1 dx_X_moveGroup_147 rfl (lv_at hl 0 rfl) ?_
      refine rx_g1 S hG dx_X_moveGroup_148 ?_
      refine lv_iconst (v := 3) S.1 S.2.1 dx_X_moveGroup_151 (by decide) ?_
      refine rx_rl (i := 3) (by omega) S hG dx_X_moveGroup_152 ?_
      refine lv_ixor S.1 S.2.1 dx_X_moveGroup_153 ?_
      refine rx_cv (rest := []) S (cx_X_put l (px_ww (px_ww d g fm k 0 2) g fm k 2 2) g ru fm st (nI k) cp op (k % 5) k (g 0 ^^^ g 1 ^^^ g 2 ^^^ g 3) (by omega) (by omega)) gc_X_84 hd_X_put ⟨rfl, rfl⟩ ⟨Nat.le_of_ble_eq_true rfl, Nat.le_of_ble_eq_true rfl⟩ rfl hG hl.1 rfl (Nat.le_of_ble_eq_true rfl) dx_X_moveGroup_154 (fun H locs hG => ?_)
      refine lv_iload_n S.1 S.2.1 dx_X_moveGroup_157 rfl (lv_at hl 1 rfl) ?_
      refine lv_iconst (v := 3) S.1 S.2.1 dx_X_moveGroup_158 (by decide) ?_
      refine lv_icmp_ne (tgt := 163) S.1 S.2.1 dx_X_moveGroup_159 (by decide) (fun c_159 => ?_) (fun c_159 => ?_)
      · skip
        refine lv_aload_n S.1 S.2.1 dx_X_moveGroup_163 rfl (lv_at hl 0 rfl) ?_
        refine lv_dup S.1 S.2.1 dx_X_moveGroup_164 rfl ?_
        refine rx_g5 S hG dx_X_moveGroup_165 ?_
        refine lv_iconst (v := 1) S.1 S.2.1 dx_X_moveGroup_168 (by decide) ?_
        refine lv_iadd S.1 S.2.1 dx_X_moveGroup_169 ?_
        refine rg_top (y := nI (k + 1)) (nI_1 k) ?_
        refine rx_p5 S hG dx_X_moveGroup_170 (fun H locs hG => ?_)
        refine lv_aload_n S.1 S.2.1 dx_X_moveGroup_173 rfl (lv_at hl 0 rfl) ?_
        refine lv_iconst (v := 0) S.1 S.2.1 dx_X_moveGroup_174 (by decide) ?_
        refine rx_p6 S hG dx_X_moveGroup_175 rfl rfl (fun H locs hG => ?_)
        refine lv_iload_n S.1 S.2.1 dx_X_moveGroup_178 rfl (lv_at hl 1 rfl) ?_
        refine lv_iconst (v := 4) S.1 S.2.1 dx_X_moveGroup_179 (by decide) ?_
        refine lv_icmp_le (tgt := 196) S.1 S.2.1 dx_X_moveGroup_180 (by decide) (fun c_180 => ?_) (fun c_180 => ?_)
        · skip
          exact rg_rv S hr hlk hG dx_X_moveGroup_196 (by rw [px_m2, if_neg c_94, if_neg c_106, if_neg c_159, if_pos c_180]; try rfl)
        · skip
          refine lv_aload_n S.1 S.2.1 dx_X_moveGroup_183 rfl (lv_at hl 0 rfl) ?_
          refine rx_g5 S hG dx_X_moveGroup_184 ?_
          refine lv_bipush (v := 6) S.1 S.2.1 dx_X_moveGroup_187 (by decide) ?_
          refine lv_icmp_ne (tgt := 196) S.1 S.2.1 dx_X_moveGroup_189 (by decide) (fun c_189 => ?_) (fun c_189 => ?_)
          · skip
            exact rg_rv S hr hlk hG dx_X_moveGroup_196 (by rw [px_m2, if_neg c_94, if_neg c_106, if_neg c_159, if_neg c_180, if_neg c_189]; try rfl)
          · skip
            refine lv_aload_n S.1 S.2.1 dx_X_moveGroup_192 rfl (lv_at hl 0 rfl) ?_
            refine rx_cv (rest := []) S (cx_X_finish l (px_put (px_ww (px_ww d g fm k 0 2) g fm k 2 2) fm (k % 5) k (g 0 ^^^ g 1 ^^^ g 2 ^^^ g 3)) g ru fm st (nI (k + 1)) 0 op) gc_X_70 hd_X_finish ⟨rfl, rfl⟩ ⟨Nat.le_of_ble_eq_true rfl, Nat.le_of_ble_eq_true rfl⟩ rfl hG hl.1 rfl (Nat.le_of_ble_eq_true rfl) dx_X_moveGroup_193 (fun H locs hG => ?_)
            exact rg_rv S hr hlk hG dx_X_moveGroup_196 (by rw [px_m2, if_neg c_94, if_neg c_106, if_neg c_159, if_neg c_180, if_pos c_189]; try rfl)
      · skip
        exact rg_rv S hr hlk hG dx_X_moveGroup_162 (by rw [px_m2, if_neg c_94, if_neg c_106, if_pos c_159]; try rfl)
    · skip
      exact rg_rv S hr hlk hG dx_X_moveGroup_109 (by rw [px_m2, if_neg c_94, if_pos c_106]; try rfl)
  · skip
    exact rg_rv S hr hlk hG dx_X_moveGroup_97 (by rw [px_m2, if_pos c_94]; try rfl)

set_option maxHeartbeats 4000000 in
set_option maxRecDepth 100000 in
theorem cx_X_moveGroup (l : Launch) (d g : Nat → Int32) (ru fm st cp op : Int32) (k : Nat) (pt : Int32) (hk : k ≤ 6) : xMv l y_X_moveGroup c_X_moveGroup (rm_n 2) [.int pt] (d, g, ru, fm, st, (nI k), cp, op) (px_m1 d g ru fm st cp op k pt) := by
  intro K
  refine gMv_of (own := R_X) (by decide) rfl (Nat.le_of_ble_eq_true rfl) ?_
  intro p e s m args below meth c D A S hr hlk hG ls hl
  have hl : lv_has ls 3 [(0, .ref K.1), (1, .int pt)] := hl
  refine lv_iconst (v := 0) S.1 S.2.1 dx_X_moveGroup_0 (by decide) ?_
  refine lv_istore_n (lv' := [(2, .int 0), (0, .ref K.1), (1, .int pt)]) S.1 S.2.1 dx_X_moveGroup_1 rfl hl (by decide) rfl (fun ls hl => ?_)
  refine lp_X_moveGroup_a (d := d) (g := g) (k := k) S hk (fun H locs ls hG hl => ?_) 4 0 rfl _ _ _ hG (lv_sub hl [0, 1, 2] rfl)
  refine lv_iload_n S.1 S.2.1 dx_X_moveGroup_32 rfl (lv_at hl 2 rfl) ?_
  refine lv_if_ne (tgt := 37) S.1 S.2.1 dx_X_moveGroup_33 (by decide) (fun c_33 => ?_) (fun c_33 => ?_)
  · skip
    refine lv_aload_n S.1 S.2.1 dx_X_moveGroup_37 rfl (lv_at hl 1 rfl) ?_
    refine rx_g5 S hG dx_X_moveGroup_38 ?_
    refine lv_if_ne (tgt := 92) S.1 S.2.1 dx_X_moveGroup_41 (by decide) (fun c_41 => ?_) (fun c_41 => ?_)
    · skip
      rw [px_m1, if_neg c_33, if_neg c_41]
      exact tl_X_moveGroup S hr hlk hk hG (lv_sub hl [1, 2] rfl)
    · skip
      refine lv_iconst (v := 0) S.1 S.2.1 dx_X_moveGroup_44 (by decide) ?_
      refine lv_istore_n (lv' := [(2, .int 0), (0, .ref K.1), (1, .int pt)]) S.1 S.2.1 dx_X_moveGroup_45 rfl hl (by decide) rfl (fun ls hl => ?_)
      refine lp_X_moveGroup_b (d := d) (g := (px_mg d g fm k 4)) (k := k) S (fun H locs ls hG hl => ?_) 4 0 rfl _ _ _ hG (lv_sub hl [0, 1, 2] rfl)
      refine lv_aload_n S.1 S.2.1 dx_X_moveGroup_87 rfl (lv_at hl 1 rfl) ?_
      refine lv_iconst (v := 1) S.1 S.2.1 dx_X_moveGroup_88 (by decide) ?_
      refine rx_p6 S hG dx_X_moveGroup_89 rfl rfl (fun H locs hG => ?_)
      rw [px_m1, if_neg c_33, if_pos c_41]
      exact tl_X_moveGroup S hr hlk hk hG (lv_sub hl [1, 2] rfl)
  · skip
    exact rg_rv S hr hlk hG dx_X_moveGroup_36 (by rw [px_m1, if_pos c_33])
end
section
def px_szn (mv : Int32) : Nat := if mv = 6 then 48 else 24
theorem px_sz_n (mv : Int32) : px_sz mv = nI (px_szn mv) := by
  rw [px_sz, px_szn]; split <;> rfl
theorem px_szn_le (mv : Int32) : px_szn mv ≤ 48 := by
  rw [px_szn]; split <;> omega
/-- every block in reach lies in a row of the disk -/
def px_okb (st mv : Int32) : Prop := ∀ b : Nat, b < px_szn mv → px_row b (px_bw st mv (nI b)) < 16
theorem px_ib_n {mv b : Int32} (h : ¬ px_ib mv b = 0) : ∃ j : Nat, j < px_szn mv ∧ b = nI j := by
  rw [px_ib] at h
  by_cases h1 : b < 0
  · rw [if_pos h1] at h; exact absurd rfl h
  · rw [if_neg h1] at h
    by_cases h2 : px_sz mv ≤ b
    · rw [if_pos h2] at h; exact absurd rfl h
    · obtain ⟨j, hj, rfl⟩ := nI_of h1
      rw [px_sz_n, nI_leI (by have := px_szn_le mv; omega) hj] at h2
      exact ⟨j, by omega, rfl⟩
theorem px_cnt_n {n : Int32} (h1 : ¬ n < 1) (h2 : n ≤ 24) : ∃ j : Nat, 1 ≤ j ∧ j ≤ 24 ∧ n = nI j := by
  have h0 : ¬ n < 0 := fun h => h1 (Int32.lt_of_lt_of_le h (by decide))
  obtain ⟨j, hj, rfl⟩ := nI_of h0
  have a1 : ¬ j < 1 := fun h => h1 ((nI_ltI (b := 1) hj (by omega)).mpr h)
  have a2 : j ≤ 24 := (nI_leI (b := 24) hj (by omega)).mp h2
  exact ⟨j, by omega, a2, rfl⟩
theorem px_fil_n {mv b : Int32} {n : Nat} (hn : n ≤ 24) (h1 : ¬ b < 0) (h2 : b ≤ px_sz mv - nI n) : ∃ j : Nat, j + n ≤ px_szn mv ∧ b = nI j := by
  obtain ⟨j, hj, rfl⟩ := nI_of h1
  have a : n ≤ px_szn mv := by rw [px_szn]; split <;> omega
  rw [px_sz_n, pk_sub a, nI_leI hj (by have := px_szn_le mv; omega)] at h2
  exact ⟨j, by omega, rfl⟩
theorem px_fail_n {st q : Int32} (h1 : ¬ q < 0) (h2 : q < px_ms st) : ∃ j : Nat, j < 5 ∧ q = nI j := by
  obtain ⟨j, hj, rfl⟩ := nI_of h1
  refine ⟨j, ?_, rfl⟩
  rw [px_ms] at h2
  split at h2
  · have := (nI_ltI (b := 3) hj (by omega)).mp h2; omega
  · exact (nI_ltI (b := 5) hj (by omega)).mp h2
theorem px_st_3 (d : Nat → Int32) (fm st mv : Int32) (b : Nat) (v : Int32) : px_st d fm st mv b v 3 = (px_sd2 d fm b (px_bw st mv (nI b)) v, -1) := by
  rw [px_st, if_neg (by decide), if_neg (by decide), if_neg (by decide)]
theorem cx_X_store3 (l : Launch) (d g : Nat → Int32) (ru fm st mv cp op : Int32) (b : Nat) (v : Int32) (hr0 : px_row b (px_bw st mv (nI b)) < 16) (hb : b < 2 ^ 31) : xMv l y_X_store c_X_store (rm_n 2) [.int (nI b), .int v, .int 3] (d, g, ru, fm, st, mv, cp, op) (px_sd2 d fm b (px_bw st mv (nI b)) v, g, ru, fm, st, mv, cp, -1) := by
  have h := cx_X_store l d g ru fm st mv cp op b v 3 hr0 hb
  rw [px_st_3] at h
  exact h
def px_read (d : Nat → Int32) (ru fm st mv b : Int32) : Int32 := if ru = 0 then 0 else if px_ib mv b = 0 then 0 else px_fe d fm st mv b.toNatClampNeg
set_option maxHeartbeats 4000000 in
set_option maxRecDepth 100000 in
theorem cx_X_read (l : Launch) (d g : Nat → Int32) (ru fm st mv cp op : Int32) (b : Int32) (hB : ¬ ru = 0 → px_okb st mv) : xMi l y_X_read c_X_read (rm_n 3) [.int b] (d, g, ru, fm, st, mv, cp, op) (px_read d ru fm st mv b) (d, g, ru, fm, st, mv, cp, op) := by
  intro K
  refine gMi_of (own := R_X) (by decide) rfl (Nat.le_of_ble_eq_true rfl) ?_
  intro p e s m args below meth c D A S hr hlk hG ls hl
  have hl : lv_has ls 2 [(0, .ref K.1), (1, .int b)] := hl
  refine lv_aload_n S.1 S.2.1 dx_X_read_0 rfl (lv_at hl 0 rfl) ?_
  refine rx_g2 S hG dx_X_read_1 ?_
  refine lv_if_eq (tgt := 15) S.1 S.2.1 dx_X_read_4 (by decide) (fun c_4 => ?_) (fun c_4 => ?_)
  · skip
    refine lv_iconst (v := 0) S.1 S.2.1 dx_X_read_15 (by decide) ?_
    exact rg_ri S hr hlk hG dx_X_read_16 (by rw [px_read, if_pos c_4]; exact ⟨rfl, rfl⟩)
  · skip
    refine lv_aload_n S.1 S.2.1 dx_X_read_7 rfl (lv_at hl 0 rfl) ?_
    refine lv_iload_n S.1 S.2.1 dx_X_read_8 rfl (lv_at hl 1 rfl) ?_
    refine rx_ci (rest := []) S (cx_X_isBlock l d g ru fm st mv cp op b) gc_X_33 hd_X_isBlock ⟨rfl, rfl⟩ ⟨Nat.le_of_ble_eq_true rfl, Nat.le_of_ble_eq_true rfl⟩ rfl hG hl.1 rfl (Nat.le_of_ble_eq_true rfl) dx_X_read_9 (fun H locs hG => ?_)
    refine lv_if_ne (tgt := 17) S.1 S.2.1 dx_X_read_12 (by decide) (fun c_12 => ?_) (fun c_12 => ?_)
    · skip
      obtain ⟨j, hj, rfl⟩ := px_ib_n c_12
      refine lv_aload_n S.1 S.2.1 dx_X_read_17 rfl (lv_at hl 0 rfl) ?_
      refine lv_iload_n S.1 S.2.1 dx_X_read_18 rfl (lv_at hl 1 rfl) ?_
      refine rx_ci (rest := []) S (cx_X_fetch l d g ru fm st mv cp op j (hB c_4 j hj) (by have := px_szn_le mv; omega)) gc_X_37 hd_X_fetch ⟨rfl, rfl⟩ ⟨Nat.le_of_ble_eq_true rfl, Nat.le_of_ble_eq_true rfl⟩ rfl hG hl.1 rfl (Nat.le_of_ble_eq_true rfl) dx_X_read_19 (fun H locs hG => ?_)
      exact rg_ri S hr hlk hG dx_X_read_22 (by rw [px_read, if_neg c_4, if_neg c_12, nI_clamp (by have := px_szn_le mv; omega)]; exact ⟨rfl, rfl⟩)
    · skip
      refine lv_iconst (v := 0) S.1 S.2.1 dx_X_read_15 (by decide) ?_
      exact rg_ri S hr hlk hG dx_X_read_16 (by rw [px_read, if_neg c_4, if_pos c_12]; exact ⟨rfl, rfl⟩)

def px_su (d : Nat → Int32) (fm st mv : Int32) (n : Nat) : Int32 := px_itr (fun b a => a + px_fe d fm st mv b) n 0
def px_sum (d : Nat → Int32) (ru fm st mv : Int32) : Int32 := if ru = 0 then 0 else px_su d fm st mv (px_szn mv)
set_option maxHeartbeats 4000000 in
set_option maxRecDepth 100000 in
theorem lp_X_sum {p : Program} {l : Launch} {e : Env} {s : State} {m : MethodId} {args : Array Value} {below : List Frame} {meth : Method} {c : Code} {D : va_G} {A : Nat → Prop} {K : XK} {Q : State → Prop} {d g : Nat → Int32} {ru fm st mv cp op : Int32} (S : CallFix p m c b_X_sum 4 s args lw_gd R_X) (hB : px_okb st mv)
    (kx : ∀ (H : Heap) (locs : List Loc) (ls : Array Slot), gG D A s (xw K) (xt K) (d, g, ru, fm, st, mv, cp, op) H locs → lv_has ls 4 [(3, .int (nI (px_szn mv))), (1, .int (px_su d fm st mv (px_szn mv))), (2, .int (nI (px_szn mv))), (0, .ref K.1)] → W p l e (rm_n 3) s m args below meth c H locs 0 0 Q (F0 m 37 ls [])) :
    ∀ (n i : Nat), i + n = (px_szn mv) → ∀ (H : Heap) (locs : List Loc) (ls : Array Slot), gG D A s (xw K) (xt K) (d, g, ru, fm, st, mv, cp, op) H locs → lv_has ls 4 [(3, .int (nI i)), (1, .int (px_su d fm st mv i)), (2, .int (nI (px_szn mv))), (0, .ref K.1)] → W p l e (rm_n 3) s m args below meth c H locs 0 0 Q (F0 m 18 ls []) := by
  intro n
  induction n with
  | zero =>
    intro i hi H locs ls hG hl
    have hi : i = (px_szn mv) := by omega
    subst hi
    refine lv_iload_n S.1 S.2.1 dx_X_sum_18 rfl (lv_at hl 0 rfl) ?_
    refine lv_iload_n S.1 S.2.1 dx_X_sum_19 rfl (lv_at hl 2 rfl) ?_
    refine lv_icmp_ge (tgt := 37) S.1 S.2.1 dx_X_sum_20 (by decide) (fun _ => ?_) (fun h9 => absurd (nI_le (Nat.le_refl _) (by have := px_szn_le mv; omega)) h9)
    exact kx _ _ _ hG (lv_sub hl [0, 1, 2, 3] rfl)
  | succ n ih =>
    intro i hi H locs ls hG hl
    refine lv_iload_n S.1 S.2.1 dx_X_sum_18 rfl (lv_at hl 0 rfl) ?_
    refine lv_iload_n S.1 S.2.1 dx_X_sum_19 rfl (lv_at hl 2 rfl) ?_
    refine lv_icmp_ge (tgt := 37) S.1 S.2.1 dx_X_sum_20 (by decide) (fun h9 => absurd h9 (nI_ge (by omega) (by have := px_szn_le mv; omega))) (fun _ => ?_)
    refine lv_iload_n S.1 S.2.1 dx_X_sum_23 rfl (lv_at hl 1 rfl) ?_
    refine lv_aload_n S.1 S.2.1 dx_X_sum_24 rfl (lv_at hl 3 rfl) ?_
    refine lv_iload_n S.1 S.2.1 dx_X_sum_25 rfl (lv_at hl 0 rfl) ?_
    refine rx_ci (rest := [.int (px_su d fm st mv i)]) S (cx_X_fetch l d g ru fm st mv cp op i (hB i (by omega)) (by have := px_szn_le mv; omega)) gc_X_37 hd_X_fetch ⟨rfl, rfl⟩ ⟨Nat.le_of_ble_eq_true rfl, Nat.le_of_ble_eq_true rfl⟩ rfl hG hl.1 rfl (Nat.le_of_ble_eq_true rfl) dx_X_sum_26 (fun H locs hG => ?_)
    refine lv_iadd S.1 S.2.1 dx_X_sum_29 ?_
    refine lv_istore_n (lv' := [(1, .int ((px_su d fm st mv i) + (px_fe d fm st mv i))), (3, .int (nI i)), (2, .int (nI (px_szn mv))), (0, .ref K.1)]) S.1 S.2.1 dx_X_sum_30 rfl hl (by decide) rfl (fun ls hl => ?_)
    refine lv_iinc (v := nI (i + 1)) (lv' := [(3, .int (nI (i + 1))), (1, .int ((px_su d fm st mv i) + (px_fe d fm st mv i))), (2, .int (nI (px_szn mv))), (0, .ref K.1)]) S.1 S.2.1 dx_X_sum_31 hl (k := 1) rfl (nI_1 i) (by decide) rfl (fun ls hl => ?_)
    refine lv_goto (tgt := 18) S.1 S.2.1 dx_X_sum_34 (by decide) ?_
    exact ih (i + 1) (by omega) _ _ _ hG (lv_sub hl [0, 1, 2, 3] rfl)

set_option maxHeartbeats 4000000 in
set_option maxRecDepth 100000 in
theorem cx_X_sum (l : Launch) (d g : Nat → Int32) (ru fm st mv cp op : Int32) (hB : ¬ ru = 0 → px_okb st mv) : xMi l y_X_sum c_X_sum (rm_n 3) [] (d, g, ru, fm, st, mv, cp, op) (px_sum d ru fm st mv) (d, g, ru, fm, st, mv, cp, op) := by
  intro K
  refine gMi_of (own := R_X) (by decide) rfl (Nat.le_of_ble_eq_true rfl) ?_
  intro p e s m args below meth c D A S hr hlk hG ls hl
  have hl : lv_has ls 4 [(0, .ref K.1)] := hl
  refine lv_aload_n S.1 S.2.1 dx_X_sum_0 rfl (lv_at hl 0 rfl) ?_
  refine rx_g2 S hG dx_X_sum_1 ?_
  refine lv_if_ne (tgt := 9) S.1 S.2.1 dx_X_sum_4 (by decide) (fun c_4 => ?_) (fun c_4 => ?_)
  · skip
    refine lv_iconst (v := 0) S.1 S.2.1 dx_X_sum_9 (by decide) ?_
    refine lv_istore_n (lv' := [(1, .int 0), (0, .ref K.1)]) S.1 S.2.1 dx_X_sum_10 rfl hl (by decide) rfl (fun ls hl => ?_)
    refine lv_aload_n S.1 S.2.1 dx_X_sum_11 rfl (lv_at hl 1 rfl) ?_
    refine rx_ci (rest := []) S (cx_X_size l d g ru fm st mv cp op) gc_X_41 hd_X_size ⟨rfl, rfl⟩ ⟨Nat.le_of_ble_eq_true rfl, Nat.le_of_ble_eq_true rfl⟩ rfl hG hl.1 rfl (Nat.le_of_ble_eq_true rfl) dx_X_sum_12 (fun H locs hG => ?_)
    refine rg_top (y := nI (px_szn mv)) (px_sz_n mv) ?_
    refine lv_istore_n (lv' := [(2, .int (nI (px_szn mv))), (1, .int 0), (0, .ref K.1)]) S.1 S.2.1 dx_X_sum_15 rfl hl (by decide) rfl (fun ls hl => ?_)
    refine lv_iconst (v := 0) S.1 S.2.1 dx_X_sum_16 (by decide) ?_
    refine lv_istore_n (lv' := [(3, .int 0), (2, .int (nI (px_szn mv))), (1, .int 0), (0, .ref K.1)]) S.1 S.2.1 dx_X_sum_17 rfl hl (by decide) rfl (fun ls hl => ?_)
    refine lp_X_sum (d := d) S (hB c_4) (fun H locs ls hG hl => ?_) (px_szn mv) 0 (Nat.zero_add _) _ _ _ hG (lv_sub hl [0, 2, 1, 3] rfl)
    refine lv_iload_n S.1 S.2.1 dx_X_sum_37 rfl (lv_at hl 1 rfl) ?_
    exact rg_ri S hr hlk hG dx_X_sum_38 (by rw [px_sum, if_neg c_4]; exact ⟨rfl, rfl⟩)
  · skip
    refine lv_iconst (v := 0) S.1 S.2.1 dx_X_sum_7 (by decide) ?_
    exact rg_ri S hr hlk hG dx_X_sum_8 (by rw [px_sum, if_pos c_4]; exact ⟨rfl, rfl⟩)

def px_write (d g : Nat → Int32) (ru fm st mv cp op : Int32) (b v : Int32) : Int32 × XS :=
  if ru = 0 then (-1, (d, g, ru, fm, st, mv, cp, op)) else if px_ib mv b = 0 then (-2, (d, g, ru, fm, st, mv, cp, op)) else (0, ((px_st d fm st mv b.toNatClampNeg v 3).1, g, ru, fm, st, mv, cp, (px_st d fm st mv b.toNatClampNeg v 3).2))
set_option maxHeartbeats 4000000 in
set_option maxRecDepth 100000 in
theorem cx_X_write (l : Launch) (d g : Nat → Int32) (ru fm st mv cp op : Int32) (b v : Int32) (hB : ¬ ru = 0 → px_okb st mv) : xMi l y_X_write c_X_write (rm_n 3) [.int b, .int v] (d, g, ru, fm, st, mv, cp, op) ((px_write d g ru fm st mv cp op b v).1) (px_write d g ru fm st mv cp op b v).2 := by
  intro K
  refine gMi_of (own := R_X) (by decide) rfl (Nat.le_of_ble_eq_true rfl) ?_
  intro p e s m args below meth c D A S hr hlk hG ls hl
  have hl : lv_has ls 3 [(0, .ref K.1), (1, .int b), (2, .int v)] := hl
  refine lv_aload_n S.1 S.2.1 dx_X_write_0 rfl (lv_at hl 0 rfl) ?_
  refine rx_g2 S hG dx_X_write_1 ?_
  refine lv_if_ne (tgt := 9) S.1 S.2.1 dx_X_write_4 (by decide) (fun c_4 => ?_) (fun c_4 => ?_)
  · skip
    refine lv_aload_n S.1 S.2.1 dx_X_write_9 rfl (lv_at hl 0 rfl) ?_
    refine lv_iload_n S.1 S.2.1 dx_X_write_10 rfl (lv_at hl 1 rfl) ?_
    refine rx_ci (rest := []) S (cx_X_isBlock l d g ru fm st mv cp op b) gc_X_33 hd_X_isBlock ⟨rfl, rfl⟩ ⟨Nat.le_of_ble_eq_true rfl, Nat.le_of_ble_eq_true rfl⟩ rfl hG hl.1 rfl (Nat.le_of_ble_eq_true rfl) dx_X_write_11 (fun H locs hG => ?_)
    refine lv_if_ne (tgt := 20) S.1 S.2.1 dx_X_write_14 (by decide) (fun c_14 => ?_) (fun c_14 => ?_)
    · skip
      obtain ⟨j, hj, rfl⟩ := px_ib_n c_14
      refine lv_aload_n S.1 S.2.1 dx_X_write_20 rfl (lv_at hl 0 rfl) ?_
      refine lv_iload_n S.1 S.2.1 dx_X_write_21 rfl (lv_at hl 1 rfl) ?_
      refine lv_iload_n S.1 S.2.1 dx_X_write_22 rfl (lv_at hl 2 rfl) ?_
      refine lv_iconst (v := 3) S.1 S.2.1 dx_X_write_23 (by decide) ?_
      refine rx_cv (rest := []) S (cx_X_store l d g ru fm st mv cp op j v 3 (hB c_4 j hj) (by have := px_szn_le mv; omega)) gc_X_45 hd_X_store ⟨rfl, rfl⟩ ⟨Nat.le_of_ble_eq_true rfl, Nat.le_of_ble_eq_true rfl⟩ rfl hG hl.1 rfl (Nat.le_of_ble_eq_true rfl) dx_X_write_24 (fun H locs hG => ?_)
      refine lv_iconst (v := 0) S.1 S.2.1 dx_X_write_27 (by decide) ?_
      exact rg_ri S hr hlk hG dx_X_write_28 (by rw [px_write, if_neg c_4, if_neg c_14, nI_clamp (by have := px_szn_le mv; omega)]; exact ⟨rfl, rfl⟩)
    · skip
      refine lv_bipush (v := (-2)) S.1 S.2.1 dx_X_write_17 (by decide) ?_
      exact rg_ri S hr hlk hG dx_X_write_19 (by rw [px_write, if_neg c_4, if_pos c_14]; exact ⟨rfl, rfl⟩)
  · skip
    refine lv_iconst (v := (-1)) S.1 S.2.1 dx_X_write_7 (by decide) ?_
    exact rg_ri S hr hlk hG dx_X_write_8 (by rw [px_write, if_pos c_4]; exact ⟨rfl, rfl⟩)

def px_fl (d : Nat → Int32) (fm st mv : Int32) (b : Nat) (v a : Int32) (n : Nat) : Nat → Int32 := px_itr (fun i d => px_sd2 d fm (b + i) (px_bw st mv (nI (b + i))) (v + nI i * a)) n d
def px_fill (d g : Nat → Int32) (ru fm st mv cp op : Int32) (b n v a : Int32) : Int32 × XS :=
  if ru = 0 then (-1, (d, g, ru, fm, st, mv, cp, op)) else if n < 1 then (-2, (d, g, ru, fm, st, mv, cp, op)) else if n ≤ 24 then (if b < 0 then (-3, (d, g, ru, fm, st, mv, cp, op)) else if b ≤ px_sz mv - n then (0, (px_fl d fm st mv b.toNatClampNeg v a n.toNatClampNeg, g, ru, fm, st, mv, cp, -1)) else (-3, (d, g, ru, fm, st, mv, cp, op))) else (-2, (d, g, ru, fm, st, mv, cp, op))
set_option maxHeartbeats 4000000 in
set_option maxRecDepth 100000 in
theorem lp_X_fill {p : Program} {l : Launch} {e : Env} {s : State} {m : MethodId} {args : Array Value} {below : List Frame} {meth : Method} {c : Code} {D : va_G} {A : Nat → Prop} {K : XK} {Q : State → Prop} {d g : Nat → Int32} {ru fm st mv cp v a x5 : Int32} {j N : Nat} (S : CallFix p m c b_X_fill 7 s args lw_gd R_X) (hB : px_okb st mv) (hN : N ≤ 24) (hj : j + N ≤ px_szn mv)
    (kx : ∀ (H : Heap) (locs : List Loc) (ls : Array Slot), gG D A s (xw K) (xt K) ((px_fl d fm st mv j v a N), g, ru, fm, st, mv, cp, (-1)) H locs → lv_has ls 7 [(6, .int (nI N)), (0, .ref K.1), (1, .int (nI j)), (2, .int (nI N)), (3, .int v), (4, .int a), (5, .int x5)] → W p l e (rm_n 3) s m args below meth c H locs 0 0 Q (F0 m 75 ls [])) :
    ∀ (n i : Nat), i + n = N → ∀ (H : Heap) (locs : List Loc) (ls : Array Slot), gG D A s (xw K) (xt K) ((px_fl d fm st mv j v a i), g, ru, fm, st, mv, cp, (-1)) H locs → lv_has ls 7 [(6, .int (nI i)), (0, .ref K.1), (1, .int (nI j)), (2, .int (nI N)), (3, .int v), (4, .int a), (5, .int x5)] → W p l e (rm_n 3) s m args below meth c H locs 0 0 Q (F0 m 47 ls []) := by
  intro n
  induction n with
  | zero =>
    intro i hi H locs ls hG hl
    have hi : i = N := by omega
    subst hi
    refine lv_iload S.1 S.2.1 dx_X_fill_47 (lv_at hl 0 rfl) ?_
    refine lv_iload_n S.1 S.2.1 dx_X_fill_49 rfl (lv_at hl 3 rfl) ?_
    refine lv_icmp_ge (tgt := 75) S.1 S.2.1 dx_X_fill_50 (by decide) (fun _ => ?_) (fun h9 => absurd (nI_le (Nat.le_refl _) (by omega)) h9)
    exact kx _ _ _ hG (lv_sub hl [0, 1, 2, 3, 4, 5, 6] rfl)
  | succ n ih =>
    intro i hi H locs ls hG hl
    refine lv_iload S.1 S.2.1 dx_X_fill_47 (lv_at hl 0 rfl) ?_
    refine lv_iload_n S.1 S.2.1 dx_X_fill_49 rfl (lv_at hl 3 rfl) ?_
    refine lv_icmp_ge (tgt := 75) S.1 S.2.1 dx_X_fill_50 (by decide) (fun h9 => absurd h9 (nI_ge (by omega) (by omega))) (fun _ => ?_)
    refine lv_aload_n S.1 S.2.1 dx_X_fill_53 rfl (lv_at hl 1 rfl) ?_
    refine lv_iload_n S.1 S.2.1 dx_X_fill_54 rfl (lv_at hl 2 rfl) ?_
    refine lv_iload S.1 S.2.1 dx_X_fill_55 (lv_at hl 0 rfl) ?_
    refine lv_iadd S.1 S.2.1 dx_X_fill_57 ?_
    refine rg_top (y := nI (j + i)) (nI_add j i) ?_
    refine lv_iload_n S.1 S.2.1 dx_X_fill_58 rfl (lv_at hl 4 rfl) ?_
    refine lv_iload S.1 S.2.1 dx_X_fill_59 (lv_at hl 0 rfl) ?_
    refine lv_iload S.1 S.2.1 dx_X_fill_61 (lv_at hl 5 rfl) ?_
    refine lv_imul S.1 S.2.1 dx_X_fill_63 ?_
    refine lv_iadd S.1 S.2.1 dx_X_fill_64 ?_
    refine lv_iconst (v := 3) S.1 S.2.1 dx_X_fill_65 (by decide) ?_
    refine rx_cv (rest := []) S (cx_X_store3 l (px_fl d fm st mv j v a i) g ru fm st mv cp (-1) (j + i) (v + nI i * a) (hB (j + i) (by omega)) (by have := px_szn_le mv; omega)) gc_X_45 hd_X_store ⟨rfl, rfl⟩ ⟨Nat.le_of_ble_eq_true rfl, Nat.le_of_ble_eq_true rfl⟩ rfl hG hl.1 rfl (Nat.le_of_ble_eq_true rfl) dx_X_fill_66 (fun H locs hG => ?_)
    refine lv_iinc (v := nI (i + 1)) (lv' := [(6, .int (nI (i + 1))), (0, .ref K.1), (1, .int (nI j)), (2, .int (nI N)), (3, .int v), (4, .int a), (5, .int x5)]) S.1 S.2.1 dx_X_fill_69 hl (k := 0) rfl (nI_1 i) (by decide) rfl (fun ls hl => ?_)
    refine lv_goto (tgt := 47) S.1 S.2.1 dx_X_fill_72 (by decide) ?_
    exact ih (i + 1) (by omega) _ _ _ hG (lv_sub hl [0, 1, 2, 3, 4, 5, 6] rfl)

set_option maxHeartbeats 4000000 in
set_option maxRecDepth 100000 in
theorem cx_X_fill (l : Launch) (d g : Nat → Int32) (ru fm st mv cp op : Int32) (b n v a : Int32) (hB : ¬ ru = 0 → px_okb st mv) (hop : ¬ ru = 0 → op = -1) : xMi l y_X_fill c_X_fill (rm_n 3) [.int b, .int n, .int v, .int a] (d, g, ru, fm, st, mv, cp, op) ((px_fill d g ru fm st mv cp op b n v a).1) (px_fill d g ru fm st mv cp op b n v a).2 := by
  intro K
  refine gMi_of (own := R_X) (by decide) rfl (Nat.le_of_ble_eq_true rfl) ?_
  intro p e s m args below meth c D A S hr hlk hG ls hl
  have hl : lv_has ls 7 [(0, .ref K.1), (1, .int b), (2, .int n), (3, .int v), (4, .int a)] := hl
  refine lv_aload_n S.1 S.2.1 dx_X_fill_0 rfl (lv_at hl 0 rfl) ?_
  refine rx_g2 S hG dx_X_fill_1 ?_
  refine lv_if_ne (tgt := 9) S.1 S.2.1 dx_X_fill_4 (by decide) (fun c_4 => ?_) (fun c_4 => ?_)
  · skip
    have e9 := hop c_4
    subst e9
    refine lv_iload_n S.1 S.2.1 dx_X_fill_9 rfl (lv_at hl 2 rfl) ?_
    refine lv_iconst (v := 1) S.1 S.2.1 dx_X_fill_10 (by decide) ?_
    refine lv_icmp_lt (tgt := 20) S.1 S.2.1 dx_X_fill_11 (by decide) (fun c_11 => ?_) (fun c_11 => ?_)
    · skip
      refine lv_bipush (v := (-2)) S.1 S.2.1 dx_X_fill_20 (by decide) ?_
      exact rg_ri S hr hlk hG dx_X_fill_22 (by rw [px_fill, if_neg c_4, if_pos c_11]; exact ⟨rfl, rfl⟩)
    · skip
      refine lv_iload_n S.1 S.2.1 dx_X_fill_14 rfl (lv_at hl 2 rfl) ?_
      refine lv_bipush (v := 24) S.1 S.2.1 dx_X_fill_15 (by decide) ?_
      refine lv_icmp_le (tgt := 23) S.1 S.2.1 dx_X_fill_17 (by decide) (fun c_17 => ?_) (fun c_17 => ?_)
      · skip
        obtain ⟨N, hN1, hN, rfl⟩ := px_cnt_n c_11 c_17
        refine lv_aload_n S.1 S.2.1 dx_X_fill_23 rfl (lv_at hl 0 rfl) ?_
        refine rx_ci (rest := []) S (cx_X_size l d g ru fm st mv cp (-1)) gc_X_41 hd_X_size ⟨rfl, rfl⟩ ⟨Nat.le_of_ble_eq_true rfl, Nat.le_of_ble_eq_true rfl⟩ rfl hG hl.1 rfl (Nat.le_of_ble_eq_true rfl) dx_X_fill_24 (fun H locs hG => ?_)
        refine lv_istore (lv' := [(5, .int (px_sz mv)), (0, .ref K.1), (1, .int b), (2, .int (nI N)), (3, .int v), (4, .int a)]) S.1 S.2.1 dx_X_fill_27 hl (by decide) rfl (fun ls hl => ?_)
        refine lv_iload_n S.1 S.2.1 dx_X_fill_29 rfl (lv_at hl 2 rfl) ?_
        refine lv_if_lt (tgt := 41) S.1 S.2.1 dx_X_fill_30 (by decide) (fun c_30 => ?_) (fun c_30 => ?_)
        · skip
          refine lv_bipush (v := (-3)) S.1 S.2.1 dx_X_fill_41 (by decide) ?_
          exact rg_ri S hr hlk hG dx_X_fill_43 (by rw [px_fill, if_neg c_4, if_neg c_11, if_pos c_17, if_pos c_30]; exact ⟨rfl, rfl⟩)
        · skip
          refine lv_iload_n S.1 S.2.1 dx_X_fill_33 rfl (lv_at hl 2 rfl) ?_
          refine lv_iload S.1 S.2.1 dx_X_fill_34 (lv_at hl 0 rfl) ?_
          refine lv_iload_n S.1 S.2.1 dx_X_fill_36 rfl (lv_at hl 3 rfl) ?_
          refine lv_isub S.1 S.2.1 dx_X_fill_37 ?_
          refine lv_icmp_le (tgt := 44) S.1 S.2.1 dx_X_fill_38 (by decide) (fun c_38 => ?_) (fun c_38 => ?_)
          · skip
            obtain ⟨j, hj, rfl⟩ := px_fil_n hN c_30 c_38
            refine lv_iconst (v := 0) S.1 S.2.1 dx_X_fill_44 (by decide) ?_
            refine lv_istore (lv' := [(6, .int 0), (5, .int (px_sz mv)), (0, .ref K.1), (1, .int (nI j)), (2, .int (nI N)), (3, .int v), (4, .int a)]) S.1 S.2.1 dx_X_fill_45 hl (by decide) rfl (fun ls hl => ?_)
            refine lp_X_fill (d := d) (v := v) (a := a) (j := j) (N := N) S (hB c_4) hN hj (fun H locs ls hG hl => ?_) N 0 (Nat.zero_add _) _ _ _ hG (lv_sub hl [0, 2, 3, 4, 5, 6, 1] rfl)
            refine lv_iconst (v := 0) S.1 S.2.1 dx_X_fill_75 (by decide) ?_
            exact rg_ri S hr hlk hG dx_X_fill_76 (by rw [px_fill, if_neg c_4, if_neg c_11, if_pos c_17, if_neg c_30, if_pos c_38, nI_clamp (n := j) (by have := px_szn_le mv; omega), nI_clamp (n := N) (by omega)]; exact ⟨rfl, rfl⟩)
          · skip
            refine lv_bipush (v := (-3)) S.1 S.2.1 dx_X_fill_41 (by decide) ?_
            exact rg_ri S hr hlk hG dx_X_fill_43 (by rw [px_fill, if_neg c_4, if_neg c_11, if_pos c_17, if_neg c_30, if_neg c_38]; exact ⟨rfl, rfl⟩)
      · skip
        refine lv_bipush (v := (-2)) S.1 S.2.1 dx_X_fill_20 (by decide) ?_
        exact rg_ri S hr hlk hG dx_X_fill_22 (by rw [px_fill, if_neg c_4, if_neg c_11, if_neg c_17]; exact ⟨rfl, rfl⟩)
  · skip
    refine lv_iconst (v := (-1)) S.1 S.2.1 dx_X_fill_7 (by decide) ?_
    exact rg_ri S hr hlk hG dx_X_fill_8 (by rw [px_fill, if_pos c_4]; exact ⟨rfl, rfl⟩)

def px_wc (d g : Nat → Int32) (ru fm st mv cp op : Int32) (b v pt : Int32) : Int32 × XS :=
  if ru = 0 then (-1, (d, g, ru, fm, st, mv, cp, op)) else if px_ib mv b = 0 then (-2, (d, g, ru, fm, st, mv, cp, op)) else if pt < 0 then (-3, (d, g, ru, fm, st, mv, cp, op)) else if pt ≤ 3 then (if fm = -1 then (0, ((px_st d fm st mv b.toNatClampNeg v pt).1, g, 0, fm, st, mv, cp, (px_st d fm st mv b.toNatClampNeg v pt).2)) else (-4, (d, g, ru, fm, st, mv, cp, op))) else (-3, (d, g, ru, fm, st, mv, cp, op))
set_option maxHeartbeats 4000000 in
set_option maxRecDepth 100000 in
theorem cx_X_writeCrash (l : Launch) (d g : Nat → Int32) (ru fm st mv cp op : Int32) (b v pt : Int32) (hB : ¬ ru = 0 → px_okb st mv) : xMi l y_X_writeCrash c_X_writeCrash (rm_n 3) [.int b, .int v, .int pt] (d, g, ru, fm, st, mv, cp, op) ((px_wc d g ru fm st mv cp op b v pt).1) (px_wc d g ru fm st mv cp op b v pt).2 := by
  intro K
  refine gMi_of (own := R_X) (by decide) rfl (Nat.le_of_ble_eq_true rfl) ?_
  intro p e s m args below meth c D A S hr hlk hG ls hl
  have hl : lv_has ls 4 [(0, .ref K.1), (1, .int b), (2, .int v), (3, .int pt)] := hl
  refine lv_aload_n S.1 S.2.1 dx_X_writeCrash_0 rfl (lv_at hl 0 rfl) ?_
  refine rx_g2 S hG dx_X_writeCrash_1 ?_
  refine lv_if_ne (tgt := 9) S.1 S.2.1 dx_X_writeCrash_4 (by decide) (fun c_4 => ?_) (fun c_4 => ?_)
  · skip
    refine lv_aload_n S.1 S.2.1 dx_X_writeCrash_9 rfl (lv_at hl 0 rfl) ?_
    refine lv_iload_n S.1 S.2.1 dx_X_writeCrash_10 rfl (lv_at hl 1 rfl) ?_
    refine rx_ci (rest := []) S (cx_X_isBlock l d g ru fm st mv cp op b) gc_X_33 hd_X_isBlock ⟨rfl, rfl⟩ ⟨Nat.le_of_ble_eq_true rfl, Nat.le_of_ble_eq_true rfl⟩ rfl hG hl.1 rfl (Nat.le_of_ble_eq_true rfl) dx_X_writeCrash_11 (fun H locs hG => ?_)
    refine lv_if_ne (tgt := 20) S.1 S.2.1 dx_X_writeCrash_14 (by decide) (fun c_14 => ?_) (fun c_14 => ?_)
    · skip
      refine lv_iload_n S.1 S.2.1 dx_X_writeCrash_20 rfl (lv_at hl 3 rfl) ?_
      refine lv_if_lt (tgt := 29) S.1 S.2.1 dx_X_writeCrash_21 (by decide) (fun c_21 => ?_) (fun c_21 => ?_)
      · skip
        refine lv_bipush (v := (-3)) S.1 S.2.1 dx_X_writeCrash_29 (by decide) ?_
        exact rg_ri S hr hlk hG dx_X_writeCrash_31 (by rw [px_wc, if_neg c_4, if_neg c_14, if_pos c_21]; exact ⟨rfl, rfl⟩)
      · skip
        refine lv_iload_n S.1 S.2.1 dx_X_writeCrash_24 rfl (lv_at hl 3 rfl) ?_
        refine lv_iconst (v := 3) S.1 S.2.1 dx_X_writeCrash_25 (by decide) ?_
        refine lv_icmp_le (tgt := 32) S.1 S.2.1 dx_X_writeCrash_26 (by decide) (fun c_26 => ?_) (fun c_26 => ?_)
        · skip
          refine lv_aload_n S.1 S.2.1 dx_X_writeCrash_32 rfl (lv_at hl 0 rfl) ?_
          refine rx_g3 S hG dx_X_writeCrash_33 ?_
          refine lv_iconst (v := (-1)) S.1 S.2.1 dx_X_writeCrash_36 (by decide) ?_
          refine lv_icmp_eq (tgt := 43) S.1 S.2.1 dx_X_writeCrash_37 (by decide) (fun c_37 => ?_) (fun c_37 => ?_)
          · skip
            obtain ⟨j, hj, rfl⟩ := px_ib_n c_14
            refine lv_aload_n S.1 S.2.1 dx_X_writeCrash_43 rfl (lv_at hl 0 rfl) ?_
            refine lv_iload_n S.1 S.2.1 dx_X_writeCrash_44 rfl (lv_at hl 1 rfl) ?_
            refine lv_iload_n S.1 S.2.1 dx_X_writeCrash_45 rfl (lv_at hl 2 rfl) ?_
            refine lv_iload_n S.1 S.2.1 dx_X_writeCrash_46 rfl (lv_at hl 3 rfl) ?_
            refine rx_cv (rest := []) S (cx_X_store l d g ru fm st mv cp op j v pt (hB c_4 j hj) (by have := px_szn_le mv; omega)) gc_X_45 hd_X_store ⟨rfl, rfl⟩ ⟨Nat.le_of_ble_eq_true rfl, Nat.le_of_ble_eq_true rfl⟩ rfl hG hl.1 rfl (Nat.le_of_ble_eq_true rfl) dx_X_writeCrash_47 (fun H locs hG => ?_)
            refine lv_aload_n S.1 S.2.1 dx_X_writeCrash_50 rfl (lv_at hl 0 rfl) ?_
            refine lv_iconst (v := 0) S.1 S.2.1 dx_X_writeCrash_51 (by decide) ?_
            refine rx_p2 S hG dx_X_writeCrash_52 rfl rfl (fun H locs hG => ?_)
            refine lv_iconst (v := 0) S.1 S.2.1 dx_X_writeCrash_55 (by decide) ?_
            exact rg_ri S hr hlk hG dx_X_writeCrash_56 (by rw [px_wc, if_neg c_4, if_neg c_14, if_neg c_21, if_pos c_26, if_pos c_37, nI_clamp (by have := px_szn_le mv; omega)]; exact ⟨rfl, rfl⟩)
          · skip
            refine lv_bipush (v := (-4)) S.1 S.2.1 dx_X_writeCrash_40 (by decide) ?_
            exact rg_ri S hr hlk hG dx_X_writeCrash_42 (by rw [px_wc, if_neg c_4, if_neg c_14, if_neg c_21, if_pos c_26, if_neg c_37]; exact ⟨rfl, rfl⟩)
        · skip
          refine lv_bipush (v := (-3)) S.1 S.2.1 dx_X_writeCrash_29 (by decide) ?_
          exact rg_ri S hr hlk hG dx_X_writeCrash_31 (by rw [px_wc, if_neg c_4, if_neg c_14, if_neg c_21, if_neg c_26]; exact ⟨rfl, rfl⟩)
    · skip
      refine lv_bipush (v := (-2)) S.1 S.2.1 dx_X_writeCrash_17 (by decide) ?_
      exact rg_ri S hr hlk hG dx_X_writeCrash_19 (by rw [px_wc, if_neg c_4, if_pos c_14]; exact ⟨rfl, rfl⟩)
  · skip
    refine lv_iconst (v := (-1)) S.1 S.2.1 dx_X_writeCrash_7 (by decide) ?_
    exact rg_ri S hr hlk hG dx_X_writeCrash_8 (by rw [px_wc, if_pos c_4]; exact ⟨rfl, rfl⟩)

def px_step (d g : Nat → Int32) (ru fm st cp op : Int32) (k : Nat) : Int32 × XS :=
  if ru = 0 then (-1, (d, g, ru, fm, st, nI k, cp, op)) else if st = 1 then (if nI k = 6 then (-2, (d, g, ru, fm, st, nI k, cp, op)) else ((px_m1 d g ru fm st cp op k 5).2.2.2.2.2.1, px_m1 d g ru fm st cp op k 5)) else (-2, (d, g, ru, fm, st, nI k, cp, op))
set_option maxHeartbeats 4000000 in
set_option maxRecDepth 100000 in
theorem cx_X_step (l : Launch) (d g : Nat → Int32) (ru fm st cp op : Int32) (k : Nat) (hk : k ≤ 6) : xMi l y_X_step c_X_step (rm_n 3) [] (d, g, ru, fm, st, (nI k), cp, op) ((px_step d g ru fm st cp op k).1) (px_step d g ru fm st cp op k).2 := by
  intro K
  refine gMi_of (own := R_X) (by decide) rfl (Nat.le_of_ble_eq_true rfl) ?_
  intro p e s m args below meth c D A S hr hlk hG ls hl
  have hl : lv_has ls 1 [(0, .ref K.1)] := hl
  refine lv_aload_n S.1 S.2.1 dx_X_step_0 rfl (lv_at hl 0 rfl) ?_
  refine rx_g2 S hG dx_X_step_1 ?_
  refine lv_if_ne (tgt := 9) S.1 S.2.1 dx_X_step_4 (by decide) (fun c_4 => ?_) (fun c_4 => ?_)
  · skip
    refine lv_aload_n S.1 S.2.1 dx_X_step_9 rfl (lv_at hl 0 rfl) ?_
    refine rx_g4 S hG dx_X_step_10 ?_
    refine lv_iconst (v := 1) S.1 S.2.1 dx_X_step_13 (by decide) ?_
    refine lv_icmp_ne (tgt := 26) S.1 S.2.1 dx_X_step_14 (by decide) (fun c_14 => ?_) (fun c_14 => ?_)
    · skip
      refine lv_bipush (v := (-2)) S.1 S.2.1 dx_X_step_26 (by decide) ?_
      exact rg_ri S hr hlk hG dx_X_step_28 (by rw [px_step, if_neg c_4, if_neg c_14]; exact ⟨rfl, rfl⟩)
    · skip
      refine lv_aload_n S.1 S.2.1 dx_X_step_17 rfl (lv_at hl 0 rfl) ?_
      refine rx_g5 S hG dx_X_step_18 ?_
      refine lv_bipush (v := 6) S.1 S.2.1 dx_X_step_21 (by decide) ?_
      refine lv_icmp_ne (tgt := 29) S.1 S.2.1 dx_X_step_23 (by decide) (fun c_23 => ?_) (fun c_23 => ?_)
      · skip
        refine lv_aload_n S.1 S.2.1 dx_X_step_29 rfl (lv_at hl 0 rfl) ?_
        refine lv_iconst (v := 5) S.1 S.2.1 dx_X_step_30 (by decide) ?_
        refine rx_cv (rest := []) S (cx_X_moveGroup l d g ru fm st cp op k 5 hk) gc_X_49 hd_X_moveGroup ⟨rfl, rfl⟩ ⟨Nat.le_of_ble_eq_true rfl, Nat.le_of_ble_eq_true rfl⟩ rfl hG hl.1 rfl (Nat.le_of_ble_eq_true rfl) dx_X_step_31 (fun H locs hG => ?_)
        have hG : gG D A s (xw K) (xt K) ((px_m1 d g ru fm st cp op k 5).1, (px_m1 d g ru fm st cp op k 5).2.1, (px_m1 d g ru fm st cp op k 5).2.2.1, (px_m1 d g ru fm st cp op k 5).2.2.2.1, (px_m1 d g ru fm st cp op k 5).2.2.2.2.1, (px_m1 d g ru fm st cp op k 5).2.2.2.2.2.1, (px_m1 d g ru fm st cp op k 5).2.2.2.2.2.2.1, (px_m1 d g ru fm st cp op k 5).2.2.2.2.2.2.2) H locs := hG
        refine lv_aload_n S.1 S.2.1 dx_X_step_34 rfl (lv_at hl 0 rfl) ?_
        refine rx_g5 S hG dx_X_step_35 ?_
        exact rg_ri S hr hlk hG dx_X_step_38 (by rw [px_step, if_neg c_4, if_pos c_14, if_neg c_23]; exact ⟨rfl, rfl⟩)
      · skip
        refine lv_bipush (v := (-2)) S.1 S.2.1 dx_X_step_26 (by decide) ?_
        exact rg_ri S hr hlk hG dx_X_step_28 (by rw [px_step, if_neg c_4, if_pos c_14, if_pos c_23]; exact ⟨rfl, rfl⟩)
  · skip
    refine lv_iconst (v := (-1)) S.1 S.2.1 dx_X_step_7 (by decide) ?_
    exact rg_ri S hr hlk hG dx_X_step_8 (by rw [px_step, if_pos c_4]; exact ⟨rfl, rfl⟩)

def px_sc (d g : Nat → Int32) (ru fm st cp op : Int32) (k : Nat) (pt : Int32) : Int32 × XS :=
  if ru = 0 then (-1, (d, g, ru, fm, st, nI k, cp, op)) else if st = 1 then (if nI k = 6 then (-2, (d, g, ru, fm, st, nI k, cp, op)) else if pt < 0 then (-3, (d, g, ru, fm, st, nI k, cp, op)) else if pt ≤ 4 then ((px_m1 d g ru fm st cp op k pt).2.2.2.2.2.1, ((px_m1 d g ru fm st cp op k pt).1, (px_m1 d g ru fm st cp op k pt).2.1, 0, (px_m1 d g ru fm st cp op k pt).2.2.2)) else (-3, (d, g, ru, fm, st, nI k, cp, op))) else (-2, (d, g, ru, fm, st, nI k, cp, op))
set_option maxHeartbeats 4000000 in
set_option maxRecDepth 100000 in
theorem cx_X_stepCrash (l : Launch) (d g : Nat → Int32) (ru fm st cp op : Int32) (k : Nat) (pt : Int32) (hk : k ≤ 6) : xMi l y_X_stepCrash c_X_stepCrash (rm_n 3) [.int pt] (d, g, ru, fm, st, (nI k), cp, op) ((px_sc d g ru fm st cp op k pt).1) (px_sc d g ru fm st cp op k pt).2 := by
  intro K
  refine gMi_of (own := R_X) (by decide) rfl (Nat.le_of_ble_eq_true rfl) ?_
  intro p e s m args below meth c D A S hr hlk hG ls hl
  have hl : lv_has ls 2 [(0, .ref K.1), (1, .int pt)] := hl
  refine lv_aload_n S.1 S.2.1 dx_X_stepCrash_0 rfl (lv_at hl 0 rfl) ?_
  refine rx_g2 S hG dx_X_stepCrash_1 ?_
  refine lv_if_ne (tgt := 9) S.1 S.2.1 dx_X_stepCrash_4 (by decide) (fun c_4 => ?_) (fun c_4 => ?_)
  · skip
    refine lv_aload_n S.1 S.2.1 dx_X_stepCrash_9 rfl (lv_at hl 0 rfl) ?_
    refine rx_g4 S hG dx_X_stepCrash_10 ?_
    refine lv_iconst (v := 1) S.1 S.2.1 dx_X_stepCrash_13 (by decide) ?_
    refine lv_icmp_ne (tgt := 26) S.1 S.2.1 dx_X_stepCrash_14 (by decide) (fun c_14 => ?_) (fun c_14 => ?_)
    · skip
      refine lv_bipush (v := (-2)) S.1 S.2.1 dx_X_stepCrash_26 (by decide) ?_
      exact rg_ri S hr hlk hG dx_X_stepCrash_28 (by rw [px_sc, if_neg c_4, if_neg c_14]; exact ⟨rfl, rfl⟩)
    · skip
      refine lv_aload_n S.1 S.2.1 dx_X_stepCrash_17 rfl (lv_at hl 0 rfl) ?_
      refine rx_g5 S hG dx_X_stepCrash_18 ?_
      refine lv_bipush (v := 6) S.1 S.2.1 dx_X_stepCrash_21 (by decide) ?_
      refine lv_icmp_ne (tgt := 29) S.1 S.2.1 dx_X_stepCrash_23 (by decide) (fun c_23 => ?_) (fun c_23 => ?_)
      · skip
        refine lv_iload_n S.1 S.2.1 dx_X_stepCrash_29 rfl (lv_at hl 1 rfl) ?_
        refine lv_if_lt (tgt := 38) S.1 S.2.1 dx_X_stepCrash_30 (by decide) (fun c_30 => ?_) (fun c_30 => ?_)
        · skip
          refine lv_bipush (v := (-3)) S.1 S.2.1 dx_X_stepCrash_38 (by decide) ?_
          exact rg_ri S hr hlk hG dx_X_stepCrash_40 (by rw [px_sc, if_neg c_4, if_pos c_14, if_neg c_23, if_pos c_30]; exact ⟨rfl, rfl⟩)
        · skip
          refine lv_iload_n S.1 S.2.1 dx_X_stepCrash_33 rfl (lv_at hl 1 rfl) ?_
          refine lv_iconst (v := 4) S.1 S.2.1 dx_X_stepCrash_34 (by decide) ?_
          refine lv_icmp_le (tgt := 41) S.1 S.2.1 dx_X_stepCrash_35 (by decide) (fun c_35 => ?_) (fun c_35 => ?_)
          · skip
            refine lv_aload_n S.1 S.2.1 dx_X_stepCrash_41 rfl (lv_at hl 0 rfl) ?_
            refine lv_iload_n S.1 S.2.1 dx_X_stepCrash_42 rfl (lv_at hl 1 rfl) ?_
            refine rx_cv (rest := []) S (cx_X_moveGroup l d g ru fm st cp op k pt hk) gc_X_49 hd_X_moveGroup ⟨rfl, rfl⟩ ⟨Nat.le_of_ble_eq_true rfl, Nat.le_of_ble_eq_true rfl⟩ rfl hG hl.1 rfl (Nat.le_of_ble_eq_true rfl) dx_X_stepCrash_43 (fun H locs hG => ?_)
            have hG : gG D A s (xw K) (xt K) ((px_m1 d g ru fm st cp op k pt).1, (px_m1 d g ru fm st cp op k pt).2.1, (px_m1 d g ru fm st cp op k pt).2.2.1, (px_m1 d g ru fm st cp op k pt).2.2.2.1, (px_m1 d g ru fm st cp op k pt).2.2.2.2.1, (px_m1 d g ru fm st cp op k pt).2.2.2.2.2.1, (px_m1 d g ru fm st cp op k pt).2.2.2.2.2.2.1, (px_m1 d g ru fm st cp op k pt).2.2.2.2.2.2.2) H locs := hG
            refine lv_aload_n S.1 S.2.1 dx_X_stepCrash_46 rfl (lv_at hl 0 rfl) ?_
            refine lv_iconst (v := 0) S.1 S.2.1 dx_X_stepCrash_47 (by decide) ?_
            refine rx_p2 S hG dx_X_stepCrash_48 rfl rfl (fun H locs hG => ?_)
            refine lv_aload_n S.1 S.2.1 dx_X_stepCrash_51 rfl (lv_at hl 0 rfl) ?_
            refine rx_g5 S hG dx_X_stepCrash_52 ?_
            exact rg_ri S hr hlk hG dx_X_stepCrash_55 (by rw [px_sc, if_neg c_4, if_pos c_14, if_neg c_23, if_neg c_30, if_pos c_35]; exact ⟨rfl, rfl⟩)
          · skip
            refine lv_bipush (v := (-3)) S.1 S.2.1 dx_X_stepCrash_38 (by decide) ?_
            exact rg_ri S hr hlk hG dx_X_stepCrash_40 (by rw [px_sc, if_neg c_4, if_pos c_14, if_neg c_23, if_neg c_30, if_neg c_35]; exact ⟨rfl, rfl⟩)
      · skip
        refine lv_bipush (v := (-2)) S.1 S.2.1 dx_X_stepCrash_26 (by decide) ?_
        exact rg_ri S hr hlk hG dx_X_stepCrash_28 (by rw [px_sc, if_neg c_4, if_pos c_14, if_pos c_23]; exact ⟨rfl, rfl⟩)
  · skip
    refine lv_iconst (v := (-1)) S.1 S.2.1 dx_X_stepCrash_7 (by decide) ?_
    exact rg_ri S hr hlk hG dx_X_stepCrash_8 (by rw [px_sc, if_pos c_4]; exact ⟨rfl, rfl⟩)

def px_t59 (d g : Nat → Int32) (fm st mv cp op : Int32) : XS :=
  if st = 1 then (if mv = 6 then (px_fo d fm 6, g, 1, fm, 2, mv, cp, op) else (d, g, 1, fm, st, mv, cp, op)) else (d, g, 1, fm, st, mv, cp, op)
def px_t48 (d g : Nat → Int32) (fm st mv cp op : Int32) : XS :=
  if cp = 0 then px_t59 d g fm st mv cp op else px_t59 (px_te d (px_tg d g (px_tf fm) 4) fm) (px_tg d g (px_tf fm) 4) fm st mv 0 op
def px_mount (d g : Nat → Int32) (ru fm st mv cp op : Int32) : Int32 × XS :=
  if ru = 0 then (if op = -1 then (0, px_t48 d g fm st mv cp op) else (0, px_t48 (px_mend d fm op.toNatClampNeg (px_par op.toNatClampNeg (px_iw st mv op)) (px_iw st mv op)) g fm st mv cp (-1))) else (-1, (d, g, ru, fm, st, mv, cp, op))
set_option maxHeartbeats 4000000 in
set_option maxRecDepth 100000 in
theorem tl_X_mount_59 {p : Program} {l : Launch} {e : Env} {s : State} {m : MethodId} {args : Array Value} {below : List Frame} {meth : Method} {c : Code} {D : va_G} {A : Nat → Prop} {K : XK} {d g : Nat → Int32} {ru fm st mv cp op : Int32} (S : CallFix p m c b_X_mount 2 s args lw_gd R_X) (hr : meth.sig.returnType = some .int) (hlk : meth.locks = false) {H : Heap} {locs : List Loc} {ls : Array Slot} (hG : gG D A s (xw K) (xt K) (d, g, ru, fm, st, mv, cp, op) H locs) (hl : lv_has ls 2 [(0, .ref K.1)]) :
    W p l e (rm_n 2) s m args below meth c H locs 0 0 (MQ below (gQi D (xw K) (xt K) A 0 (px_t59 d g fm st mv cp op)) args s 0 0 A) (F0 m 59 ls []) := by
  refine lv_aload_n S.1 S.2.1 dx_X_mount_59 rfl (lv_at hl 0 rfl) ?_
  refine rx_g4 S hG dx_X_mount_60 ?_
  refine lv_iconst (v := 1) S.1 S.2.1 dx_X_mount_63 (by decide) ?_
  refine lv_icmp_ne (tgt := 80) S.1 S.2.1 dx_X_mount_64 (by decide) (fun c_64 => ?_) (fun c_64 => ?_)
  · skip
    refine lv_aload_n S.1 S.2.1 dx_X_mount_80 rfl (lv_at hl 0 rfl) ?_
    refine lv_iconst (v := 1) S.1 S.2.1 dx_X_mount_81 (by decide) ?_
    refine rx_p2 S hG dx_X_mount_82 rfl rfl (fun H locs hG => ?_)
    refine lv_iconst (v := 0) S.1 S.2.1 dx_X_mount_85 (by decide) ?_
    exact rg_ri S hr hlk hG dx_X_mount_86 (by rw [px_t59, if_neg c_64]; exact ⟨rfl, rfl⟩)
  · skip
    refine lv_aload_n S.1 S.2.1 dx_X_mount_67 rfl (lv_at hl 0 rfl) ?_
    refine rx_g5 S hG dx_X_mount_68 ?_
    refine lv_bipush (v := 6) S.1 S.2.1 dx_X_mount_71 (by decide) ?_
    refine lv_icmp_ne (tgt := 80) S.1 S.2.1 dx_X_mount_73 (by decide) (fun c_73 => ?_) (fun c_73 => ?_)
    · skip
      refine lv_aload_n S.1 S.2.1 dx_X_mount_80 rfl (lv_at hl 0 rfl) ?_
      refine lv_iconst (v := 1) S.1 S.2.1 dx_X_mount_81 (by decide) ?_
      refine rx_p2 S hG dx_X_mount_82 rfl rfl (fun H locs hG => ?_)
      refine lv_iconst (v := 0) S.1 S.2.1 dx_X_mount_85 (by decide) ?_
      exact rg_ri S hr hlk hG dx_X_mount_86 (by rw [px_t59, if_pos c_64, if_neg c_73]; exact ⟨rfl, rfl⟩)
    · skip
      refine lv_aload_n S.1 S.2.1 dx_X_mount_76 rfl (lv_at hl 0 rfl) ?_
      refine rx_cv (rest := []) S (cx_X_finish l d g ru fm st mv cp op) gc_X_70 hd_X_finish ⟨rfl, rfl⟩ ⟨Nat.le_of_ble_eq_true rfl, Nat.le_of_ble_eq_true rfl⟩ rfl hG hl.1 rfl (Nat.le_of_ble_eq_true rfl) dx_X_mount_77 (fun H locs hG => ?_)
      refine lv_aload_n S.1 S.2.1 dx_X_mount_80 rfl (lv_at hl 0 rfl) ?_
      refine lv_iconst (v := 1) S.1 S.2.1 dx_X_mount_81 (by decide) ?_
      refine rx_p2 S hG dx_X_mount_82 rfl rfl (fun H locs hG => ?_)
      refine lv_iconst (v := 0) S.1 S.2.1 dx_X_mount_85 (by decide) ?_
      exact rg_ri S hr hlk hG dx_X_mount_86 (by rw [px_t59, if_pos c_64, if_pos c_73]; exact ⟨rfl, rfl⟩)

set_option maxHeartbeats 4000000 in
set_option maxRecDepth 100000 in
theorem tl_X_mount_48 {p : Program} {l : Launch} {e : Env} {s : State} {m : MethodId} {args : Array Value} {below : List Frame} {meth : Method} {c : Code} {D : va_G} {A : Nat → Prop} {K : XK} {d g : Nat → Int32} {ru fm st mv cp op : Int32} (S : CallFix p m c b_X_mount 2 s args lw_gd R_X) (hr : meth.sig.returnType = some .int) (hlk : meth.locks = false) {H : Heap} {locs : List Loc} {ls : Array Slot} (hG : gG D A s (xw K) (xt K) (d, g, ru, fm, st, mv, cp, op) H locs) (hl : lv_has ls 2 [(0, .ref K.1)]) :
    W p l e (rm_n 2) s m args below meth c H locs 0 0 (MQ below (gQi D (xw K) (xt K) A 0 (px_t48 d g fm st mv cp op)) args s 0 0 A) (F0 m 48 ls []) := by
  refine lv_aload_n S.1 S.2.1 dx_X_mount_48 rfl (lv_at hl 0 rfl) ?_
  refine rx_g6 S hG dx_X_mount_49 ?_
  refine lv_if_eq (tgt := 59) S.1 S.2.1 dx_X_mount_52 (by decide) (fun c_52 => ?_) (fun c_52 => ?_)
  · skip
    rw [px_t48, if_pos c_52]
    exact tl_X_mount_59 S hr hlk hG (lv_sub hl [0] rfl)
  · skip
    refine lv_aload_n S.1 S.2.1 dx_X_mount_55 rfl (lv_at hl 0 rfl) ?_
    refine rx_cv (rest := []) S (cx_X_takeBack l d g ru fm st mv cp op) gc_X_67 hd_X_takeBack ⟨rfl, rfl⟩ ⟨Nat.le_of_ble_eq_true rfl, Nat.le_of_ble_eq_true rfl⟩ rfl hG hl.1 rfl (Nat.le_of_ble_eq_true rfl) dx_X_mount_56 (fun H locs hG => ?_)
    rw [px_t48, if_neg c_52]
    exact tl_X_mount_59 S hr hlk hG (lv_sub hl [0] rfl)

set_option maxHeartbeats 4000000 in
set_option maxRecDepth 100000 in
theorem cx_X_mount (l : Launch) (d g : Nat → Int32) (ru fm st mv cp op : Int32) (hop : op = -1 ∨ ∃ r : Nat, r < 16 ∧ op = nI r) : xMi l y_X_mount c_X_mount (rm_n 2) [] (d, g, ru, fm, st, mv, cp, op) ((px_mount d g ru fm st mv cp op).1) (px_mount d g ru fm st mv cp op).2 := by
  intro K
  refine gMi_of (own := R_X) (by decide) rfl (Nat.le_of_ble_eq_true rfl) ?_
  intro p e s m args below meth c D A S hr hlk hG ls hl
  have hl : lv_has ls 2 [(0, .ref K.1)] := hl
  refine lv_aload_n S.1 S.2.1 dx_X_mount_0 rfl (lv_at hl 0 rfl) ?_
  refine rx_g2 S hG dx_X_mount_1 ?_
  refine lv_if_eq (tgt := 9) S.1 S.2.1 dx_X_mount_4 (by decide) (fun c_4 => ?_) (fun c_4 => ?_)
  · skip
    refine lv_aload_n S.1 S.2.1 dx_X_mount_9 rfl (lv_at hl 0 rfl) ?_
    refine rx_g7 S hG dx_X_mount_10 ?_
    refine lv_iconst (v := (-1)) S.1 S.2.1 dx_X_mount_13 (by decide) ?_
    refine lv_icmp_eq (tgt := 48) S.1 S.2.1 dx_X_mount_14 (by decide) (fun c_14 => ?_) (fun c_14 => ?_)
    · skip
      rw [px_mount, if_pos c_4, if_pos c_14]
      exact tl_X_mount_48 S hr hlk hG (lv_sub hl [0] rfl)
    · skip
      obtain ⟨r, hr0, rfl⟩ : ∃ r : Nat, r < 16 ∧ op = nI r := by rcases hop with h9 | h9; exact absurd h9 c_14; exact h9
      refine lv_aload_n S.1 S.2.1 dx_X_mount_17 rfl (lv_at hl 0 rfl) ?_
      refine lv_aload_n S.1 S.2.1 dx_X_mount_18 rfl (lv_at hl 0 rfl) ?_
      refine rx_g7 S hG dx_X_mount_19 ?_
      refine rx_ci (rest := []) S (cx_X_isWide l d g ru fm st mv cp (nI r) (nI r)) gc_X_53 hd_X_isWide ⟨rfl, rfl⟩ ⟨Nat.le_of_ble_eq_true rfl, Nat.le_of_ble_eq_true rfl⟩ rfl hG hl.1 rfl (Nat.le_of_ble_eq_true rfl) dx_X_mount_22 (fun H locs hG => ?_)
      refine lv_istore_n (lv' := [(1, .int (bI (px_iw st mv (nI r)))), (0, .ref K.1)]) S.1 S.2.1 dx_X_mount_25 rfl hl (by decide) rfl (fun ls hl => ?_)
      refine lv_aload_n S.1 S.2.1 dx_X_mount_26 rfl (lv_at hl 1 rfl) ?_
      refine lv_aload_n S.1 S.2.1 dx_X_mount_27 rfl (lv_at hl 1 rfl) ?_
      refine rx_g7 S hG dx_X_mount_28 ?_
      refine lv_aload_n S.1 S.2.1 dx_X_mount_31 rfl (lv_at hl 1 rfl) ?_
      refine rx_g7 S hG dx_X_mount_32 ?_
      refine lv_iload_n S.1 S.2.1 dx_X_mount_35 rfl (lv_at hl 0 rfl) ?_
      refine rs_ci (rest := [.int (nI r), .ref K.1]) S (cx_X_parityOf l r (px_iw st mv (nI r)) (by omega)) gc_X_56 hd_X_parityOf ⟨rfl, rfl⟩ ⟨Nat.le_of_ble_eq_true rfl, Nat.le_of_ble_eq_true rfl⟩ rfl hl.1 rfl (Nat.le_of_ble_eq_true rfl) dx_X_mount_36 ?_
      refine lv_iload_n S.1 S.2.1 dx_X_mount_39 rfl (lv_at hl 0 rfl) ?_
      refine rx_cv (rest := []) S (cx_X_mend l d g ru fm st mv cp (nI r) r (px_par r (px_iw st mv (nI r))) (px_iw st mv (nI r)) (px_par_lt _ _) hr0) gc_X_60 hd_X_mend ⟨rfl, rfl⟩ ⟨Nat.le_of_ble_eq_true rfl, Nat.le_of_ble_eq_true rfl⟩ rfl hG hl.1 rfl (Nat.le_of_ble_eq_true rfl) dx_X_mount_40 (fun H locs hG => ?_)
      refine lv_aload_n S.1 S.2.1 dx_X_mount_43 rfl (lv_at hl 1 rfl) ?_
      refine lv_iconst (v := (-1)) S.1 S.2.1 dx_X_mount_44 (by decide) ?_
      refine rx_p7 S hG dx_X_mount_45 (fun H locs hG => ?_)
      rw [px_mount, if_pos c_4, if_neg c_14, nI_clamp (by omega)]
      exact tl_X_mount_48 S hr hlk hG (lv_sub hl [1] rfl)
  · skip
    refine lv_iconst (v := (-1)) S.1 S.2.1 dx_X_mount_7 (by decide) ?_
    exact rg_ri S hr hlk hG dx_X_mount_8 (by rw [px_mount, if_neg c_4]; exact ⟨rfl, rfl⟩)

def px_fd (d : Nat → Int32) (k n : Nat) : Nat → Int32 := px_itr (fun r d => upd d (k * 16 + r) (1515870810 ^^^ nI r)) n d
def px_fail (d g : Nat → Int32) (ru fm st mv cp op q : Int32) : Int32 × XS :=
  if ru = 0 then (-1, (d, g, ru, fm, st, mv, cp, op)) else if q < 0 then (-2, (d, g, ru, fm, st, mv, cp, op)) else if q < px_ms st then (if fm = -1 then (0, (px_fd d q.toNatClampNeg 16, g, ru, q, st, mv, cp, op)) else (-3, (d, g, ru, fm, st, mv, cp, op))) else (-2, (d, g, ru, fm, st, mv, cp, op))
set_option maxHeartbeats 4000000 in
set_option maxRecDepth 100000 in
theorem lp_X_fail {p : Program} {l : Launch} {e : Env} {s : State} {m : MethodId} {args : Array Value} {below : List Frame} {meth : Method} {c : Code} {D : va_G} {A : Nat → Prop} {K : XK} {Q : State → Prop} {d g : Nat → Int32} {ru fm st mv cp op x2 : Int32} {k : Nat} (S : CallFix p m c b_X_fail 4 s args lw_gd R_X) (hk : k < 5)
    (kx : ∀ (H : Heap) (locs : List Loc) (ls : Array Slot), gG D A s (xw K) (xt K) ((px_fd d k 16), g, ru, fm, st, mv, cp, op) H locs → lv_has ls 4 [(3, .int (nI 16)), (0, .ref K.1), (1, .int (nI k)), (2, .int x2)] → W p l e (rm_n 1) s m args below meth c H locs 0 0 Q (F0 m 71 ls [])) :
    ∀ (n i : Nat), i + n = 16 → ∀ (H : Heap) (locs : List Loc) (ls : Array Slot), gG D A s (xw K) (xt K) ((px_fd d k i), g, ru, fm, st, mv, cp, op) H locs → lv_has ls 4 [(3, .int (nI i)), (0, .ref K.1), (1, .int (nI k)), (2, .int x2)] → W p l e (rm_n 1) s m args below meth c H locs 0 0 Q (F0 m 44 ls []) := by
  intro n
  induction n with
  | zero =>
    intro i hi H locs ls hG hl
    have hi : i = 16 := by omega
    subst hi
    refine lv_iload_n S.1 S.2.1 dx_X_fail_44 rfl (lv_at hl 0 rfl) ?_
    refine lv_bipush (v := 16) S.1 S.2.1 dx_X_fail_45 (by decide) ?_
    refine lv_icmp_ge (tgt := 71) S.1 S.2.1 dx_X_fail_47 (by decide) (fun _ => ?_) (fun h9 => absurd (nI_le (Nat.le_refl 16) (by omega)) h9)
    exact kx _ _ _ hG (lv_sub hl [0, 1, 2, 3] rfl)
  | succ n ih =>
    intro i hi H locs ls hG hl
    refine lv_iload_n S.1 S.2.1 dx_X_fail_44 rfl (lv_at hl 0 rfl) ?_
    refine lv_bipush (v := 16) S.1 S.2.1 dx_X_fail_45 (by decide) ?_
    refine lv_icmp_ge (tgt := 71) S.1 S.2.1 dx_X_fail_47 (by decide) (fun h9 => absurd h9 (nI_ge (a := i) (b := 16) (by omega) (by omega))) (fun _ => ?_)
    refine lv_aload_n S.1 S.2.1 dx_X_fail_50 rfl (lv_at hl 1 rfl) ?_
    refine rx_g0 S hG dx_X_fail_51 ?_
    refine lv_iload_n S.1 S.2.1 dx_X_fail_54 rfl (lv_at hl 2 rfl) ?_
    refine lv_bipush (v := 16) S.1 S.2.1 dx_X_fail_55 (by decide) ?_
    refine lv_imul S.1 S.2.1 dx_X_fail_57 ?_
    refine lv_iload_n S.1 S.2.1 dx_X_fail_58 rfl (lv_at hl 0 rfl) ?_
    refine lv_iadd S.1 S.2.1 dx_X_fail_59 ?_
    refine rg_top (y := nI (k * 16 + i)) (nx_16 k i) ?_
    refine lv_ldc S.1 S.2.1 S.2.2.2.1 (S.2.2.2.2 _ kw_ldc) dx_X_fail_60 ?_
    refine lv_iload_n S.1 S.2.1 dx_X_fail_62 rfl (lv_at hl 0 rfl) ?_
    refine lv_ixor S.1 S.2.1 dx_X_fail_63 ?_
    refine rx_ds (i := k * 16 + i) (by omega) S hG dx_X_fail_64 (fun H locs hG => ?_)
    refine lv_iinc (v := nI (i + 1)) (lv' := [(3, .int (nI (i + 1))), (0, .ref K.1), (1, .int (nI k)), (2, .int x2)]) S.1 S.2.1 dx_X_fail_65 hl (k := 0) rfl (nI_1 i) (by decide) rfl (fun ls hl => ?_)
    refine lv_goto (tgt := 44) S.1 S.2.1 dx_X_fail_68 (by decide) ?_
    exact ih (i + 1) (by omega) _ _ _ hG (lv_sub hl [0, 1, 2, 3] rfl)

set_option maxHeartbeats 4000000 in
set_option maxRecDepth 100000 in
theorem cx_X_fail (l : Launch) (d g : Nat → Int32) (ru fm st mv cp op : Int32) (q : Int32) : xMi l y_X_fail c_X_fail (rm_n 1) [.int q] (d, g, ru, fm, st, mv, cp, op) ((px_fail d g ru fm st mv cp op q).1) (px_fail d g ru fm st mv cp op q).2 := by
  intro K
  refine gMi_of (own := R_X) (by decide) rfl (Nat.le_of_ble_eq_true rfl) ?_
  intro p e s m args below meth c D A S hr hlk hG ls hl
  have hl : lv_has ls 4 [(0, .ref K.1), (1, .int q)] := hl
  refine lv_aload_n S.1 S.2.1 dx_X_fail_0 rfl (lv_at hl 0 rfl) ?_
  refine rx_g2 S hG dx_X_fail_1 ?_
  refine lv_if_ne (tgt := 9) S.1 S.2.1 dx_X_fail_4 (by decide) (fun c_4 => ?_) (fun c_4 => ?_)
  · skip
    refine lv_aload_n S.1 S.2.1 dx_X_fail_9 rfl (lv_at hl 0 rfl) ?_
    refine rx_ci (rest := []) S (cx_X_members l d g ru fm st mv cp op) gc_X_73 hd_X_members ⟨rfl, rfl⟩ ⟨Nat.le_of_ble_eq_true rfl, Nat.le_of_ble_eq_true rfl⟩ rfl hG hl.1 rfl (Nat.le_of_ble_eq_true rfl) dx_X_fail_10 (fun H locs hG => ?_)
    refine lv_istore_n (lv' := [(2, .int (px_ms st)), (0, .ref K.1), (1, .int q)]) S.1 S.2.1 dx_X_fail_13 rfl hl (by decide) rfl (fun ls hl => ?_)
    refine lv_iload_n S.1 S.2.1 dx_X_fail_14 rfl (lv_at hl 2 rfl) ?_
    refine lv_if_lt (tgt := 23) S.1 S.2.1 dx_X_fail_15 (by decide) (fun c_15 => ?_) (fun c_15 => ?_)
    · skip
      refine lv_bipush (v := (-2)) S.1 S.2.1 dx_X_fail_23 (by decide) ?_
      exact rg_ri S hr hlk hG dx_X_fail_25 (by rw [px_fail, if_neg c_4, if_pos c_15]; exact ⟨rfl, rfl⟩)
    · skip
      refine lv_iload_n S.1 S.2.1 dx_X_fail_18 rfl (lv_at hl 2 rfl) ?_
      refine lv_iload_n S.1 S.2.1 dx_X_fail_19 rfl (lv_at hl 0 rfl) ?_
      refine lv_icmp_lt (tgt := 26) S.1 S.2.1 dx_X_fail_20 (by decide) (fun c_20 => ?_) (fun c_20 => ?_)
      · skip
        obtain ⟨k, hk, rfl⟩ := px_fail_n c_15 c_20
        refine lv_aload_n S.1 S.2.1 dx_X_fail_26 rfl (lv_at hl 1 rfl) ?_
        refine rx_g3 S hG dx_X_fail_27 ?_
        refine lv_iconst (v := (-1)) S.1 S.2.1 dx_X_fail_30 (by decide) ?_
        refine lv_icmp_eq (tgt := 37) S.1 S.2.1 dx_X_fail_31 (by decide) (fun c_31 => ?_) (fun c_31 => ?_)
        · skip
          refine lv_aload_n S.1 S.2.1 dx_X_fail_37 rfl (lv_at hl 1 rfl) ?_
          refine lv_iload_n S.1 S.2.1 dx_X_fail_38 rfl (lv_at hl 2 rfl) ?_
          refine rx_p3 S hG dx_X_fail_39 (fun H locs hG => ?_)
          refine lv_iconst (v := 0) S.1 S.2.1 dx_X_fail_42 (by decide) ?_
          refine lv_istore_n (lv' := [(3, .int 0), (2, .int (px_ms st)), (0, .ref K.1), (1, .int (nI k))]) S.1 S.2.1 dx_X_fail_43 rfl hl (by decide) rfl (fun ls hl => ?_)
          refine lp_X_fail (d := d) (k := k) S hk (fun H locs ls hG hl => ?_) 16 0 rfl _ _ _ hG (lv_sub hl [0, 2, 3, 1] rfl)
          refine lv_iconst (v := 0) S.1 S.2.1 dx_X_fail_71 (by decide) ?_
          exact rg_ri S hr hlk hG dx_X_fail_72 (by rw [px_fail, if_neg c_4, if_neg c_15, if_pos c_20, if_pos c_31, nI_clamp (by omega)]; exact ⟨rfl, rfl⟩)
        · skip
          refine lv_bipush (v := (-3)) S.1 S.2.1 dx_X_fail_34 (by decide) ?_
          exact rg_ri S hr hlk hG dx_X_fail_36 (by rw [px_fail, if_neg c_4, if_neg c_15, if_pos c_20, if_neg c_31]; exact ⟨rfl, rfl⟩)
      · skip
        refine lv_bipush (v := (-2)) S.1 S.2.1 dx_X_fail_23 (by decide) ?_
        exact rg_ri S hr hlk hG dx_X_fail_25 (by rw [px_fail, if_neg c_4, if_neg c_15, if_neg c_20]; exact ⟨rfl, rfl⟩)
  · skip
    refine lv_iconst (v := (-1)) S.1 S.2.1 dx_X_fail_7 (by decide) ?_
    exact rg_ri S hr hlk hG dx_X_fail_8 (by rw [px_fail, if_pos c_4]; exact ⟨rfl, rfl⟩)

def px_rz (d : Nat → Int32) (k n : Nat) : Nat → Int32 := px_itr (fun r d => upd d (k * 16 + r) 0) n d
def px_rr (d : Nat → Int32) (st mv : Int32) (k n : Nat) : Nat → Int32 := px_itr (fun r d => if bI (px_iu st mv (nI r)) = 0 then d else if bI (px_iw st mv (nI r)) = 0 then (if 3 ≤ nI k then d else px_mend d (-1) r k (px_iw st mv (nI r))) else px_mend d (-1) r k (px_iw st mv (nI r))) n d
def px_replace (d g : Nat → Int32) (ru fm st mv cp op : Int32) : Int32 × XS :=
  if ru = 0 then (-1, (d, g, ru, fm, st, mv, cp, op)) else if fm = -1 then (-2, (d, g, ru, fm, st, mv, cp, op)) else (fm, (px_rr (px_rz d fm.toNatClampNeg 16) st mv fm.toNatClampNeg 12, g, ru, -1, st, mv, cp, op))
set_option maxHeartbeats 4000000 in
set_option maxRecDepth 100000 in
theorem lp_X_replace_a {p : Program} {l : Launch} {e : Env} {s : State} {m : MethodId} {args : Array Value} {below : List Frame} {meth : Method} {c : Code} {D : va_G} {A : Nat → Prop} {K : XK} {Q : State → Prop} {d g : Nat → Int32} {ru st mv cp op : Int32} {k : Nat} (S : CallFix p m c b_X_replace 4 s args lw_gd R_X) (hk : k < 5)
    (kx : ∀ (H : Heap) (locs : List Loc) (ls : Array Slot), gG D A s (xw K) (xt K) ((px_rz d k 16), g, ru, (-1), st, mv, cp, op) H locs → lv_has ls 4 [(2, .int (nI 16)), (0, .ref K.1), (1, .int (nI k))] → W p l e (rm_n 2) s m args below meth c H locs 0 0 Q (F0 m 56 ls [])) :
    ∀ (n i : Nat), i + n = 16 → ∀ (H : Heap) (locs : List Loc) (ls : Array Slot), gG D A s (xw K) (xt K) ((px_rz d k i), g, ru, (-1), st, mv, cp, op) H locs → lv_has ls 4 [(2, .int (nI i)), (0, .ref K.1), (1, .int (nI k))] → W p l e (rm_n 2) s m args below meth c H locs 0 0 Q (F0 m 32 ls []) := by
  intro n
  induction n with
  | zero =>
    intro i hi H locs ls hG hl
    have hi : i = 16 := by omega
    subst hi
    refine lv_iload_n S.1 S.2.1 dx_X_replace_32 rfl (lv_at hl 0 rfl) ?_
    refine lv_bipush (v := 16) S.1 S.2.1 dx_X_replace_33 (by decide) ?_
    refine lv_icmp_ge (tgt := 56) S.1 S.2.1 dx_X_replace_35 (by decide) (fun _ => ?_) (fun h9 => absurd (nI_le (Nat.le_refl 16) (by omega)) h9)
    exact kx _ _ _ hG (lv_sub hl [0, 1, 2] rfl)
  | succ n ih =>
    intro i hi H locs ls hG hl
    refine lv_iload_n S.1 S.2.1 dx_X_replace_32 rfl (lv_at hl 0 rfl) ?_
    refine lv_bipush (v := 16) S.1 S.2.1 dx_X_replace_33 (by decide) ?_
    refine lv_icmp_ge (tgt := 56) S.1 S.2.1 dx_X_replace_35 (by decide) (fun h9 => absurd h9 (nI_ge (a := i) (b := 16) (by omega) (by omega))) (fun _ => ?_)
    refine lv_aload_n S.1 S.2.1 dx_X_replace_38 rfl (lv_at hl 1 rfl) ?_
    refine rx_g0 S hG dx_X_replace_39 ?_
    refine lv_iload_n S.1 S.2.1 dx_X_replace_42 rfl (lv_at hl 2 rfl) ?_
    refine lv_bipush (v := 16) S.1 S.2.1 dx_X_replace_43 (by decide) ?_
    refine lv_imul S.1 S.2.1 dx_X_replace_45 ?_
    refine lv_iload_n S.1 S.2.1 dx_X_replace_46 rfl (lv_at hl 0 rfl) ?_
    refine lv_iadd S.1 S.2.1 dx_X_replace_47 ?_
    refine rg_top (y := nI (k * 16 + i)) (nx_16 k i) ?_
    refine lv_iconst (v := 0) S.1 S.2.1 dx_X_replace_48 (by decide) ?_
    refine rx_ds (i := k * 16 + i) (by omega) S hG dx_X_replace_49 (fun H locs hG => ?_)
    refine lv_iinc (v := nI (i + 1)) (lv' := [(2, .int (nI (i + 1))), (0, .ref K.1), (1, .int (nI k))]) S.1 S.2.1 dx_X_replace_50 hl (k := 0) rfl (nI_1 i) (by decide) rfl (fun ls hl => ?_)
    refine lv_goto (tgt := 32) S.1 S.2.1 dx_X_replace_53 (by decide) ?_
    exact ih (i + 1) (by omega) _ _ _ hG (lv_sub hl [0, 1, 2] rfl)

set_option maxHeartbeats 4000000 in
set_option maxRecDepth 100000 in
theorem lp_X_replace_b {p : Program} {l : Launch} {e : Env} {s : State} {m : MethodId} {args : Array Value} {below : List Frame} {meth : Method} {c : Code} {D : va_G} {A : Nat → Prop} {K : XK} {Q : State → Prop} {d g : Nat → Int32} {ru st mv cp op : Int32} {k : Nat} (S : CallFix p m c b_X_replace 4 s args lw_gd R_X) (hk : k < 5)
    (kx : ∀ (H : Heap) (locs : List Loc) (ls : Array Slot), gG D A s (xw K) (xt K) ((px_rr d st mv k 12), g, ru, (-1), st, mv, cp, op) H locs → lv_has ls 4 [(2, .int (nI 12)), (0, .ref K.1), (1, .int (nI k))] → W p l e (rm_n 2) s m args below meth c H locs 0 0 Q (F0 m 100 ls [])) :
    ∀ (n i : Nat), i + n = 12 → ∀ (H : Heap) (locs : List Loc) (ls : Array Slot), gG D A s (xw K) (xt K) ((px_rr d st mv k i), g, ru, (-1), st, mv, cp, op) H locs → lv_has ls 4 [(2, .int (nI i)), (0, .ref K.1), (1, .int (nI k))] → W p l e (rm_n 2) s m args below meth c H locs 0 0 Q (F0 m 58 ls []) := by
  intro n
  induction n with
  | zero =>
    intro i hi H locs ls hG hl
    have hi : i = 12 := by omega
    subst hi
    refine lv_iload_n S.1 S.2.1 dx_X_replace_58 rfl (lv_at hl 0 rfl) ?_
    refine lv_bipush (v := 12) S.1 S.2.1 dx_X_replace_59 (by decide) ?_
    refine lv_icmp_ge (tgt := 100) S.1 S.2.1 dx_X_replace_61 (by decide) (fun _ => ?_) (fun h9 => absurd (nI_le (Nat.le_refl 12) (by omega)) h9)
    exact kx _ _ _ hG (lv_sub hl [0, 1, 2] rfl)
  | succ n ih =>
    intro i hi H locs ls hG hl
    refine lv_iload_n S.1 S.2.1 dx_X_replace_58 rfl (lv_at hl 0 rfl) ?_
    refine lv_bipush (v := 12) S.1 S.2.1 dx_X_replace_59 (by decide) ?_
    refine lv_icmp_ge (tgt := 100) S.1 S.2.1 dx_X_replace_61 (by decide) (fun h9 => absurd h9 (nI_ge (a := i) (b := 12) (by omega) (by omega))) (fun _ => ?_)
    refine lv_aload_n S.1 S.2.1 dx_X_replace_64 rfl (lv_at hl 1 rfl) ?_
    refine lv_iload_n S.1 S.2.1 dx_X_replace_65 rfl (lv_at hl 0 rfl) ?_
    refine rx_ci (rest := []) S (cx_X_isWide l (px_rr d st mv k i) g ru (-1) st mv cp op (nI i)) gc_X_53 hd_X_isWide ⟨rfl, rfl⟩ ⟨Nat.le_of_ble_eq_true rfl, Nat.le_of_ble_eq_true rfl⟩ rfl hG hl.1 rfl (Nat.le_of_ble_eq_true rfl) dx_X_replace_66 (fun H locs hG => ?_)
    refine lv_istore_n (lv' := [(3, .int (bI (px_iw st mv (nI i)))), (2, .int (nI i)), (0, .ref K.1), (1, .int (nI k))]) S.1 S.2.1 dx_X_replace_69 rfl hl (by decide) rfl (fun ls hl => ?_)
    refine lv_aload_n S.1 S.2.1 dx_X_replace_70 rfl (lv_at hl 2 rfl) ?_
    refine lv_iload_n S.1 S.2.1 dx_X_replace_71 rfl (lv_at hl 1 rfl) ?_
    refine rx_ci (rest := []) S (cx_X_inUse l (px_rr d st mv k i) g ru (-1) st mv cp op (nI i)) gc_X_77 hd_X_inUse ⟨rfl, rfl⟩ ⟨Nat.le_of_ble_eq_true rfl, Nat.le_of_ble_eq_true rfl⟩ rfl hG hl.1 rfl (Nat.le_of_ble_eq_true rfl) dx_X_replace_72 (fun H locs hG => ?_)
    refine lv_if_eq (tgt := 94) S.1 S.2.1 dx_X_replace_75 (by decide) (fun c_75 => ?_) (fun c_75 => ?_)
    · skip
      have e0 : (px_rr d st mv k i) = px_rr d st mv k (i + 1) := by
        show _ = (if bI (px_iu st mv (nI i)) = 0 then px_rr d st mv k i else if bI (px_iw st mv (nI i)) = 0 then (if 3 ≤ nI k then px_rr d st mv k i else px_mend (px_rr d st mv k i) (-1) i k (px_iw st mv (nI i))) else px_mend (px_rr d st mv k i) (-1) i k (px_iw st mv (nI i)))
        rw [if_pos c_75]
      rw [e0] at hG
      refine lv_iinc (v := nI (i + 1)) (lv' := [(2, .int (nI (i + 1))), (3, .int (bI (px_iw st mv (nI i)))), (0, .ref K.1), (1, .int (nI k))]) S.1 S.2.1 dx_X_replace_94 hl (k := 1) rfl (nI_1 i) (by decide) rfl (fun ls hl => ?_)
      refine lv_goto (tgt := 58) S.1 S.2.1 dx_X_replace_97 (by decide) ?_
      exact ih (i + 1) (by omega) _ _ _ hG (lv_sub hl [0, 2, 3] rfl)
    · skip
      refine lv_iload_n S.1 S.2.1 dx_X_replace_78 rfl (lv_at hl 0 rfl) ?_
      refine lv_if_ne (tgt := 87) S.1 S.2.1 dx_X_replace_79 (by decide) (fun c_79 => ?_) (fun c_79 => ?_)
      · skip
        refine lv_aload_n S.1 S.2.1 dx_X_replace_87 rfl (lv_at hl 2 rfl) ?_
        refine lv_iload_n S.1 S.2.1 dx_X_replace_88 rfl (lv_at hl 1 rfl) ?_
        refine lv_iload_n S.1 S.2.1 dx_X_replace_89 rfl (lv_at hl 3 rfl) ?_
        refine lv_iload_n S.1 S.2.1 dx_X_replace_90 rfl (lv_at hl 0 rfl) ?_
        refine rx_cv (rest := []) S (cx_X_mend l (px_rr d st mv k i) g ru (-1) st mv cp op i k (px_iw st mv (nI i)) hk (by omega)) gc_X_60 hd_X_mend ⟨rfl, rfl⟩ ⟨Nat.le_of_ble_eq_true rfl, Nat.le_of_ble_eq_true rfl⟩ rfl hG hl.1 rfl (Nat.le_of_ble_eq_true rfl) dx_X_replace_91 (fun H locs hG => ?_)
        have e0 : (px_mend (px_rr d st mv k i) (-1) i k (px_iw st mv (nI i))) = px_rr d st mv k (i + 1) := by
          show _ = (if bI (px_iu st mv (nI i)) = 0 then px_rr d st mv k i else if bI (px_iw st mv (nI i)) = 0 then (if 3 ≤ nI k then px_rr d st mv k i else px_mend (px_rr d st mv k i) (-1) i k (px_iw st mv (nI i))) else px_mend (px_rr d st mv k i) (-1) i k (px_iw st mv (nI i)))
          rw [if_neg c_75, if_neg c_79]
        rw [e0] at hG
        refine lv_iinc (v := nI (i + 1)) (lv' := [(2, .int (nI (i + 1))), (3, .int (bI (px_iw st mv (nI i)))), (0, .ref K.1), (1, .int (nI k))]) S.1 S.2.1 dx_X_replace_94 hl (k := 1) rfl (nI_1 i) (by decide) rfl (fun ls hl => ?_)
        refine lv_goto (tgt := 58) S.1 S.2.1 dx_X_replace_97 (by decide) ?_
        exact ih (i + 1) (by omega) _ _ _ hG (lv_sub hl [0, 2, 3] rfl)
      · skip
        refine lv_iload_n S.1 S.2.1 dx_X_replace_82 rfl (lv_at hl 3 rfl) ?_
        refine lv_iconst (v := 3) S.1 S.2.1 dx_X_replace_83 (by decide) ?_
        refine lv_icmp_ge (tgt := 94) S.1 S.2.1 dx_X_replace_84 (by decide) (fun c_84 => ?_) (fun c_84 => ?_)
        · skip
          have e0 : (px_rr d st mv k i) = px_rr d st mv k (i + 1) := by
            show _ = (if bI (px_iu st mv (nI i)) = 0 then px_rr d st mv k i else if bI (px_iw st mv (nI i)) = 0 then (if 3 ≤ nI k then px_rr d st mv k i else px_mend (px_rr d st mv k i) (-1) i k (px_iw st mv (nI i))) else px_mend (px_rr d st mv k i) (-1) i k (px_iw st mv (nI i)))
            rw [if_neg c_75, if_pos c_79, if_pos c_84]
          rw [e0] at hG
          refine lv_iinc (v := nI (i + 1)) (lv' := [(2, .int (nI (i + 1))), (3, .int (bI (px_iw st mv (nI i)))), (0, .ref K.1), (1, .int (nI k))]) S.1 S.2.1 dx_X_replace_94 hl (k := 1) rfl (nI_1 i) (by decide) rfl (fun ls hl => ?_)
          refine lv_goto (tgt := 58) S.1 S.2.1 dx_X_replace_97 (by decide) ?_
          exact ih (i + 1) (by omega) _ _ _ hG (lv_sub hl [0, 2, 3] rfl)
        · skip
          refine lv_aload_n S.1 S.2.1 dx_X_replace_87 rfl (lv_at hl 2 rfl) ?_
          refine lv_iload_n S.1 S.2.1 dx_X_replace_88 rfl (lv_at hl 1 rfl) ?_
          refine lv_iload_n S.1 S.2.1 dx_X_replace_89 rfl (lv_at hl 3 rfl) ?_
          refine lv_iload_n S.1 S.2.1 dx_X_replace_90 rfl (lv_at hl 0 rfl) ?_
          refine rx_cv (rest := []) S (cx_X_mend l (px_rr d st mv k i) g ru (-1) st mv cp op i k (px_iw st mv (nI i)) hk (by omega)) gc_X_60 hd_X_mend ⟨rfl, rfl⟩ ⟨Nat.le_of_ble_eq_true rfl, Nat.le_of_ble_eq_true rfl⟩ rfl hG hl.1 rfl (Nat.le_of_ble_eq_true rfl) dx_X_replace_91 (fun H locs hG => ?_)
          have e0 : (px_mend (px_rr d st mv k i) (-1) i k (px_iw st mv (nI i))) = px_rr d st mv k (i + 1) := by
            show _ = (if bI (px_iu st mv (nI i)) = 0 then px_rr d st mv k i else if bI (px_iw st mv (nI i)) = 0 then (if 3 ≤ nI k then px_rr d st mv k i else px_mend (px_rr d st mv k i) (-1) i k (px_iw st mv (nI i))) else px_mend (px_rr d st mv k i) (-1) i k (px_iw st mv (nI i)))
            rw [if_neg c_75, if_pos c_79, if_neg c_84]
          rw [e0] at hG
          refine lv_iinc (v := nI (i + 1)) (lv' := [(2, .int (nI (i + 1))), (3, .int (bI (px_iw st mv (nI i)))), (0, .ref K.1), (1, .int (nI k))]) S.1 S.2.1 dx_X_replace_94 hl (k := 1) rfl (nI_1 i) (by decide) rfl (fun ls hl => ?_)
          refine lv_goto (tgt := 58) S.1 S.2.1 dx_X_replace_97 (by decide) ?_
          exact ih (i + 1) (by omega) _ _ _ hG (lv_sub hl [0, 2, 3] rfl)

set_option maxHeartbeats 4000000 in
set_option maxRecDepth 100000 in
theorem cx_X_replace (l : Launch) (d g : Nat → Int32) (ru fm st mv cp op : Int32) (hfm : fm = -1 ∨ ∃ k : Nat, k < 5 ∧ fm = nI k) : xMi l y_X_replace c_X_replace (rm_n 2) [] (d, g, ru, fm, st, mv, cp, op) ((px_replace d g ru fm st mv cp op).1) (px_replace d g ru fm st mv cp op).2 := by
  intro K
  refine gMi_of (own := R_X) (by decide) rfl (Nat.le_of_ble_eq_true rfl) ?_
  intro p e s m args below meth c D A S hr hlk hG ls hl
  have hl : lv_has ls 4 [(0, .ref K.1)] := hl
  refine lv_aload_n S.1 S.2.1 dx_X_replace_0 rfl (lv_at hl 0 rfl) ?_
  refine rx_g2 S hG dx_X_replace_1 ?_
  refine lv_if_ne (tgt := 9) S.1 S.2.1 dx_X_replace_4 (by decide) (fun c_4 => ?_) (fun c_4 => ?_)
  · skip
    refine lv_aload_n S.1 S.2.1 dx_X_replace_9 rfl (lv_at hl 0 rfl) ?_
    refine rx_g3 S hG dx_X_replace_10 ?_
    refine lv_iconst (v := (-1)) S.1 S.2.1 dx_X_replace_13 (by decide) ?_
    refine lv_icmp_ne (tgt := 20) S.1 S.2.1 dx_X_replace_14 (by decide) (fun c_14 => ?_) (fun c_14 => ?_)
    · skip
      obtain ⟨k, hk, rfl⟩ : ∃ k : Nat, k < 5 ∧ fm = nI k := by rcases hfm with h9 | h9; exact absurd h9 c_14; exact h9
      refine lv_aload_n S.1 S.2.1 dx_X_replace_20 rfl (lv_at hl 0 rfl) ?_
      refine rx_g3 S hG dx_X_replace_21 ?_
      refine lv_istore_n (lv' := [(1, .int (nI k)), (0, .ref K.1)]) S.1 S.2.1 dx_X_replace_24 rfl hl (by decide) rfl (fun ls hl => ?_)
      refine lv_aload_n S.1 S.2.1 dx_X_replace_25 rfl (lv_at hl 1 rfl) ?_
      refine lv_iconst (v := (-1)) S.1 S.2.1 dx_X_replace_26 (by decide) ?_
      refine rx_p3 S hG dx_X_replace_27 (fun H locs hG => ?_)
      refine lv_iconst (v := 0) S.1 S.2.1 dx_X_replace_30 (by decide) ?_
      refine lv_istore_n (lv' := [(2, .int 0), (1, .int (nI k)), (0, .ref K.1)]) S.1 S.2.1 dx_X_replace_31 rfl hl (by decide) rfl (fun ls hl => ?_)
      refine lp_X_replace_a (d := d) (k := k) S hk (fun H locs ls hG hl => ?_) 16 0 rfl _ _ _ hG (lv_sub hl [0, 2, 1] rfl)
      refine lv_iconst (v := 0) S.1 S.2.1 dx_X_replace_56 (by decide) ?_
      refine lv_istore_n (lv' := [(2, .int 0), (0, .ref K.1), (1, .int (nI k))]) S.1 S.2.1 dx_X_replace_57 rfl hl (by decide) rfl (fun ls hl => ?_)
      refine lp_X_replace_b (d := px_rz d k 16) (k := k) S hk (fun H locs ls hG hl => ?_) 12 0 rfl _ _ _ hG (lv_sub hl [0, 1, 2] rfl)
      refine lv_iload_n S.1 S.2.1 dx_X_replace_100 rfl (lv_at hl 2 rfl) ?_
      exact rg_ri S hr hlk hG dx_X_replace_101 (by rw [px_replace, if_neg c_4, if_neg c_14, nI_clamp (by omega)]; exact ⟨rfl, rfl⟩)
    · skip
      refine lv_bipush (v := (-2)) S.1 S.2.1 dx_X_replace_17 (by decide) ?_
      exact rg_ri S hr hlk hG dx_X_replace_19 (by rw [px_replace, if_neg c_4, if_pos c_14]; exact ⟨rfl, rfl⟩)
  · skip
    refine lv_iconst (v := (-1)) S.1 S.2.1 dx_X_replace_7 (by decide) ?_
    exact rg_ri S hr hlk hG dx_X_replace_8 (by rw [px_replace, if_pos c_4]; exact ⟨rfl, rfl⟩)

def px_sb (d : Nat → Int32) (st mv : Int32) (n : Nat) : Int32 := px_itr (fun r a => if bI (px_iu st mv (nI r)) = 0 then a else if px_oth d r (-1) (px_cnt (px_iw st mv (nI r))) = 0 then a else a + 1) n 0
def px_scrub (d : Nat → Int32) (ru fm st mv : Int32) : Int32 := if ru = 0 then -1 else if fm = -1 then px_sb d st mv 12 else -2
set_option maxHeartbeats 4000000 in
set_option maxRecDepth 100000 in
theorem lp_X_scrub {p : Program} {l : Launch} {e : Env} {s : State} {m : MethodId} {args : Array Value} {below : List Frame} {meth : Method} {c : Code} {D : va_G} {A : Nat → Prop} {K : XK} {Q : State → Prop} {d g : Nat → Int32} {ru fm st mv cp op : Int32} (S : CallFix p m c b_X_scrub 5 s args lw_gd R_X) 
    (kx : ∀ (H : Heap) (locs : List Loc) (ls : Array Slot), gG D A s (xw K) (xt K) (d, g, ru, fm, st, mv, cp, op) H locs → lv_has ls 5 [(2, .int (nI 12)), (1, .int (px_sb d st mv 12)), (0, .ref K.1)] → W p l e (rm_n 1) s m args below meth c H locs 0 0 Q (F0 m 67 ls [])) :
    ∀ (n i : Nat), i + n = 12 → ∀ (H : Heap) (locs : List Loc) (ls : Array Slot), gG D A s (xw K) (xt K) (d, g, ru, fm, st, mv, cp, op) H locs → lv_has ls 5 [(2, .int (nI i)), (1, .int (px_sb d st mv i)), (0, .ref K.1)] → W p l e (rm_n 1) s m args below meth c H locs 0 0 Q (F0 m 24 ls []) := by
  intro n
  induction n with
  | zero =>
    intro i hi H locs ls hG hl
    have hi : i = 12 := by omega
    subst hi
    refine lv_iload_n S.1 S.2.1 dx_X_scrub_24 rfl (lv_at hl 0 rfl) ?_
    refine lv_bipush (v := 12) S.1 S.2.1 dx_X_scrub_25 (by decide) ?_
    refine lv_icmp_ge (tgt := 67) S.1 S.2.1 dx_X_scrub_27 (by decide) (fun _ => ?_) (fun h9 => absurd (nI_le (Nat.le_refl 12) (by omega)) h9)
    exact kx _ _ _ hG (lv_sub hl [0, 1, 2] rfl)
  | succ n ih =>
    intro i hi H locs ls hG hl
    refine lv_iload_n S.1 S.2.1 dx_X_scrub_24 rfl (lv_at hl 0 rfl) ?_
    refine lv_bipush (v := 12) S.1 S.2.1 dx_X_scrub_25 (by decide) ?_
    refine lv_icmp_ge (tgt := 67) S.1 S.2.1 dx_X_scrub_27 (by decide) (fun h9 => absurd h9 (nI_ge (a := i) (b := 12) (by omega) (by omega))) (fun _ => ?_)
    refine lv_aload_n S.1 S.2.1 dx_X_scrub_30 rfl (lv_at hl 2 rfl) ?_
    refine lv_iload_n S.1 S.2.1 dx_X_scrub_31 rfl (lv_at hl 0 rfl) ?_
    refine rx_ci (rest := []) S (cx_X_inUse l d g ru fm st mv cp op (nI i)) gc_X_77 hd_X_inUse ⟨rfl, rfl⟩ ⟨Nat.le_of_ble_eq_true rfl, Nat.le_of_ble_eq_true rfl⟩ rfl hG hl.1 rfl (Nat.le_of_ble_eq_true rfl) dx_X_scrub_32 (fun H locs hG => ?_)
    refine lv_if_eq (tgt := 61) S.1 S.2.1 dx_X_scrub_35 (by decide) (fun c_35 => ?_) (fun c_35 => ?_)
    · skip
      have e1 : px_sb d st mv i = px_sb d st mv (i + 1) := by
        show _ = (if bI (px_iu st mv (nI i)) = 0 then px_sb d st mv i else if px_oth d i (-1) (px_cnt (px_iw st mv (nI i))) = 0 then px_sb d st mv i else px_sb d st mv i + 1)
        rw [if_pos c_35]
      rw [e1] at hl
      refine lv_iinc (v := nI (i + 1)) (lv' := [(2, .int (nI (i + 1))), (1, .int (px_sb d st mv (i + 1))), (0, .ref K.1)]) S.1 S.2.1 dx_X_scrub_61 hl (k := 0) rfl (nI_1 i) (by decide) rfl (fun ls hl => ?_)
      refine lv_goto (tgt := 24) S.1 S.2.1 dx_X_scrub_64 (by decide) ?_
      exact ih (i + 1) (by omega) _ _ _ hG (lv_sub hl [0, 1, 2] rfl)
    · skip
      refine lv_aload_n S.1 S.2.1 dx_X_scrub_38 rfl (lv_at hl 2 rfl) ?_
      refine lv_iload_n S.1 S.2.1 dx_X_scrub_39 rfl (lv_at hl 0 rfl) ?_
      refine rx_ci (rest := []) S (cx_X_isWide l d g ru fm st mv cp op (nI i)) gc_X_53 hd_X_isWide ⟨rfl, rfl⟩ ⟨Nat.le_of_ble_eq_true rfl, Nat.le_of_ble_eq_true rfl⟩ rfl hG hl.1 rfl (Nat.le_of_ble_eq_true rfl) dx_X_scrub_40 (fun H locs hG => ?_)
      refine lv_istore_n (lv' := [(3, .int (bI (px_iw st mv (nI i)))), (2, .int (nI i)), (1, .int (px_sb d st mv i)), (0, .ref K.1)]) S.1 S.2.1 dx_X_scrub_43 rfl hl (by decide) rfl (fun ls hl => ?_)
      refine lv_aload_n S.1 S.2.1 dx_X_scrub_44 rfl (lv_at hl 3 rfl) ?_
      refine lv_iload_n S.1 S.2.1 dx_X_scrub_45 rfl (lv_at hl 1 rfl) ?_
      refine lv_iconst (v := (-1)) S.1 S.2.1 dx_X_scrub_46 (by decide) ?_
      refine lv_iload_n S.1 S.2.1 dx_X_scrub_47 rfl (lv_at hl 0 rfl) ?_
      refine rx_ci (rest := []) S (cx_X_others l d g ru fm st mv cp op i (-1) (px_iw st mv (nI i)) (by omega)) gc_X_80 hd_X_others ⟨rfl, rfl⟩ ⟨Nat.le_of_ble_eq_true rfl, Nat.le_of_ble_eq_true rfl⟩ rfl hG hl.1 rfl (Nat.le_of_ble_eq_true rfl) dx_X_scrub_48 (fun H locs hG => ?_)
      refine lv_istore (lv' := [(4, .int (px_oth d i (-1) (px_cnt (px_iw st mv (nI i))))), (3, .int (bI (px_iw st mv (nI i)))), (2, .int (nI i)), (1, .int (px_sb d st mv i)), (0, .ref K.1)]) S.1 S.2.1 dx_X_scrub_51 hl (by decide) rfl (fun ls hl => ?_)
      refine lv_iload S.1 S.2.1 dx_X_scrub_53 (lv_at hl 0 rfl) ?_
      refine lv_if_eq (tgt := 61) S.1 S.2.1 dx_X_scrub_55 (by decide) (fun c_55 => ?_) (fun c_55 => ?_)
      · skip
        have e1 : px_sb d st mv i = px_sb d st mv (i + 1) := by
          show _ = (if bI (px_iu st mv (nI i)) = 0 then px_sb d st mv i else if px_oth d i (-1) (px_cnt (px_iw st mv (nI i))) = 0 then px_sb d st mv i else px_sb d st mv i + 1)
          rw [if_neg c_35, if_pos c_55]
        rw [e1] at hl
        refine lv_iinc (v := nI (i + 1)) (lv' := [(2, .int (nI (i + 1))), (4, .int (px_oth d i (-1) (px_cnt (px_iw st mv (nI i))))), (3, .int (bI (px_iw st mv (nI i)))), (1, .int (px_sb d st mv (i + 1))), (0, .ref K.1)]) S.1 S.2.1 dx_X_scrub_61 hl (k := 2) rfl (nI_1 i) (by decide) rfl (fun ls hl => ?_)
        refine lv_goto (tgt := 24) S.1 S.2.1 dx_X_scrub_64 (by decide) ?_
        exact ih (i + 1) (by omega) _ _ _ hG (lv_sub hl [0, 3, 4] rfl)
      · skip
        refine lv_iinc (v := (px_sb d st mv i) + 1) (lv' := [(1, .int ((px_sb d st mv i) + 1)), (4, .int (px_oth d i (-1) (px_cnt (px_iw st mv (nI i))))), (3, .int (bI (px_iw st mv (nI i)))), (2, .int (nI i)), (0, .ref K.1)]) S.1 S.2.1 dx_X_scrub_58 hl (k := 3) rfl (rfl) (by decide) rfl (fun ls hl => ?_)
        have e1 : (px_sb d st mv i) + 1 = px_sb d st mv (i + 1) := by
          show _ = (if bI (px_iu st mv (nI i)) = 0 then px_sb d st mv i else if px_oth d i (-1) (px_cnt (px_iw st mv (nI i))) = 0 then px_sb d st mv i else px_sb d st mv i + 1)
          rw [if_neg c_35, if_neg c_55]
        rw [e1] at hl
        refine lv_iinc (v := nI (i + 1)) (lv' := [(2, .int (nI (i + 1))), (1, .int (px_sb d st mv (i + 1))), (4, .int (px_oth d i (-1) (px_cnt (px_iw st mv (nI i))))), (3, .int (bI (px_iw st mv (nI i)))), (0, .ref K.1)]) S.1 S.2.1 dx_X_scrub_61 hl (k := 3) rfl (nI_1 i) (by decide) rfl (fun ls hl => ?_)
        refine lv_goto (tgt := 24) S.1 S.2.1 dx_X_scrub_64 (by decide) ?_
        exact ih (i + 1) (by omega) _ _ _ hG (lv_sub hl [0, 1, 4] rfl)

set_option maxHeartbeats 4000000 in
set_option maxRecDepth 100000 in
theorem cx_X_scrub (l : Launch) (d g : Nat → Int32) (ru fm st mv cp op : Int32) : xMi l y_X_scrub c_X_scrub (rm_n 1) [] (d, g, ru, fm, st, mv, cp, op) (px_scrub d ru fm st mv) (d, g, ru, fm, st, mv, cp, op) := by
  intro K
  refine gMi_of (own := R_X) (by decide) rfl (Nat.le_of_ble_eq_true rfl) ?_
  intro p e s m args below meth c D A S hr hlk hG ls hl
  have hl : lv_has ls 5 [(0, .ref K.1)] := hl
  refine lv_aload_n S.1 S.2.1 dx_X_scrub_0 rfl (lv_at hl 0 rfl) ?_
  refine rx_g2 S hG dx_X_scrub_1 ?_
  refine lv_if_ne (tgt := 9) S.1 S.2.1 dx_X_scrub_4 (by decide) (fun c_4 => ?_) (fun c_4 => ?_)
  · skip
    refine lv_aload_n S.1 S.2.1 dx_X_scrub_9 rfl (lv_at hl 0 rfl) ?_
    refine rx_g3 S hG dx_X_scrub_10 ?_
    refine lv_iconst (v := (-1)) S.1 S.2.1 dx_X_scrub_13 (by decide) ?_
    refine lv_icmp_eq (tgt := 20) S.1 S.2.1 dx_X_scrub_14 (by decide) (fun c_14 => ?_) (fun c_14 => ?_)
    · skip
      refine lv_iconst (v := 0) S.1 S.2.1 dx_X_scrub_20 (by decide) ?_
      refine lv_istore_n (lv' := [(1, .int 0), (0, .ref K.1)]) S.1 S.2.1 dx_X_scrub_21 rfl hl (by decide) rfl (fun ls hl => ?_)
      refine lv_iconst (v := 0) S.1 S.2.1 dx_X_scrub_22 (by decide) ?_
      refine lv_istore_n (lv' := [(2, .int 0), (1, .int 0), (0, .ref K.1)]) S.1 S.2.1 dx_X_scrub_23 rfl hl (by decide) rfl (fun ls hl => ?_)
      refine lp_X_scrub (d := d) S (fun H locs ls hG hl => ?_) 12 0 rfl _ _ _ hG (lv_sub hl [0, 1, 2] rfl)
      refine lv_iload_n S.1 S.2.1 dx_X_scrub_67 rfl (lv_at hl 1 rfl) ?_
      exact rg_ri S hr hlk hG dx_X_scrub_68 (by rw [px_scrub, if_neg c_4, if_pos c_14]; exact ⟨rfl, rfl⟩)
    · skip
      refine lv_bipush (v := (-2)) S.1 S.2.1 dx_X_scrub_17 (by decide) ?_
      exact rg_ri S hr hlk hG dx_X_scrub_19 (by rw [px_scrub, if_neg c_4, if_neg c_14]; exact ⟨rfl, rfl⟩)
  · skip
    refine lv_iconst (v := (-1)) S.1 S.2.1 dx_X_scrub_7 (by decide) ?_
    exact rg_ri S hr hlk hG dx_X_scrub_8 (by rw [px_scrub, if_pos c_4]; exact ⟨rfl, rfl⟩)
end
section
def pm_up (dn : Int32) : Int32 := if dn = 0 then 1 else 0
def pm_ms (bg : Int32) : Int32 := if bg = 0 then 3 else 5
def pm_gr (bg mv : Int32) : Int32 := if bg = 0 then 0 else if mv = 6 then 2 else 1
def pm_nb (mv b : Int32) : Int32 := if b < 0 then 1 else if px_sz mv ≤ b then 1 else if b < 48 then 0 else 1
theorem pm_nb_n {mv b : Int32} (h : pm_nb mv b = 0) : ∃ j : Nat, j < 48 ∧ b = nI j := by
  rw [pm_nb] at h
  by_cases h1 : b < 0
  · rw [if_pos h1] at h; exact absurd h (by decide)
  · rw [if_neg h1] at h
    by_cases h2 : px_sz mv ≤ b
    · rw [if_pos h2] at h; exact absurd h (by decide)
    · rw [if_neg h2] at h
      by_cases h3 : b < 48
      · obtain ⟨j, hj, rfl⟩ := nI_of h1
        exact ⟨j, (nI_ltI (b := 48) hj (by omega)).mp h3, rfl⟩
      · rw [if_neg h3] at h; exact absurd h (by decide)
set_option maxHeartbeats 4000000 in
set_option maxRecDepth 100000 in
theorem cx_M_up (l : Launch) (bl : Nat → Int32) (dn bg mv lo : Int32) : mMi l y_M_up c_M_up (rm_n 0) [] (bl, dn, bg, mv, lo) (pm_up dn) (bl, dn, bg, mv, lo) := by
  intro K
  refine gMi_of (own := R_M) (by decide) rfl (Nat.le_of_ble_eq_true rfl) ?_
  intro p e s m args below meth c D A S hr hlk hG ls hl
  have hl : lv_has ls 1 [(0, .ref K.1)] := hl
  refine lv_aload_n S.1 S.2.1 dx_M_up_0 rfl (lv_at hl 0 rfl) ?_
  refine rm_g1 S hG dx_M_up_1 ?_
  refine lv_if_eq (tgt := 11) S.1 S.2.1 dx_M_up_4 (by decide) (fun c_4 => ?_) (fun c_4 => ?_)
  · skip
    refine lv_iconst (v := 1) S.1 S.2.1 dx_M_up_11 (by decide) ?_
    exact rg_ri S hr hlk hG dx_M_up_12 (by rw [pm_up, if_pos c_4]; exact ⟨rfl, rfl⟩)
  · skip
    refine lv_iconst (v := 0) S.1 S.2.1 dx_M_up_7 (by decide) ?_
    refine lv_goto (tgt := 12) S.1 S.2.1 dx_M_up_8 (by decide) ?_
    exact rg_ri S hr hlk hG dx_M_up_12 (by rw [pm_up, if_neg c_4]; exact ⟨rfl, rfl⟩)

set_option maxHeartbeats 4000000 in
set_option maxRecDepth 100000 in
theorem cx_M_size (l : Launch) (bl : Nat → Int32) (dn bg mv lo : Int32) : mMi l y_M_size c_M_size (rm_n 0) [] (bl, dn, bg, mv, lo) (px_sz mv) (bl, dn, bg, mv, lo) := by
  intro K
  refine gMi_of (own := R_M) (by decide) rfl (Nat.le_of_ble_eq_true rfl) ?_
  intro p e s m args below meth c D A S hr hlk hG ls hl
  have hl : lv_has ls 1 [(0, .ref K.1)] := hl
  refine lv_aload_n S.1 S.2.1 dx_M_size_0 rfl (lv_at hl 0 rfl) ?_
  refine rm_g3 S hG dx_M_size_1 ?_
  refine lv_bipush (v := 6) S.1 S.2.1 dx_M_size_4 (by decide) ?_
  refine lv_icmp_ne (tgt := 14) S.1 S.2.1 dx_M_size_6 (by decide) (fun c_6 => ?_) (fun c_6 => ?_)
  · skip
    refine lv_bipush (v := 24) S.1 S.2.1 dx_M_size_14 (by decide) ?_
    exact rg_ri S hr hlk hG dx_M_size_16 (by rw [px_sz, if_neg c_6]; exact ⟨rfl, rfl⟩)
  · skip
    refine lv_bipush (v := 48) S.1 S.2.1 dx_M_size_9 (by decide) ?_
    refine lv_goto (tgt := 16) S.1 S.2.1 dx_M_size_11 (by decide) ?_
    exact rg_ri S hr hlk hG dx_M_size_16 (by rw [px_sz, if_pos c_6]; exact ⟨rfl, rfl⟩)

set_option maxHeartbeats 4000000 in
set_option maxRecDepth 100000 in
theorem cx_M_members (l : Launch) (bl : Nat → Int32) (dn bg mv lo : Int32) : mMi l y_M_members c_M_members (rm_n 0) [] (bl, dn, bg, mv, lo) (pm_ms bg) (bl, dn, bg, mv, lo) := by
  intro K
  refine gMi_of (own := R_M) (by decide) rfl (Nat.le_of_ble_eq_true rfl) ?_
  intro p e s m args below meth c D A S hr hlk hG ls hl
  have hl : lv_has ls 1 [(0, .ref K.1)] := hl
  refine lv_aload_n S.1 S.2.1 dx_M_members_0 rfl (lv_at hl 0 rfl) ?_
  refine rm_g2 S hG dx_M_members_1 ?_
  refine lv_if_eq (tgt := 11) S.1 S.2.1 dx_M_members_4 (by decide) (fun c_4 => ?_) (fun c_4 => ?_)
  · skip
    refine lv_iconst (v := 3) S.1 S.2.1 dx_M_members_11 (by decide) ?_
    exact rg_ri S hr hlk hG dx_M_members_12 (by rw [pm_ms, if_pos c_4]; exact ⟨rfl, rfl⟩)
  · skip
    refine lv_iconst (v := 5) S.1 S.2.1 dx_M_members_7 (by decide) ?_
    refine lv_goto (tgt := 12) S.1 S.2.1 dx_M_members_8 (by decide) ?_
    exact rg_ri S hr hlk hG dx_M_members_12 (by rw [pm_ms, if_neg c_4]; exact ⟨rfl, rfl⟩)

set_option maxHeartbeats 4000000 in
set_option maxRecDepth 100000 in
theorem cx_M_failed (l : Launch) (bl : Nat → Int32) (dn bg mv lo : Int32) : mMi l y_M_failed c_M_failed (rm_n 0) [] (bl, dn, bg, mv, lo) lo (bl, dn, bg, mv, lo) := by
  intro K
  refine gMi_of (own := R_M) (by decide) rfl (Nat.le_of_ble_eq_true rfl) ?_
  intro p e s m args below meth c D A S hr hlk hG ls hl
  have hl : lv_has ls 1 [(0, .ref K.1)] := hl
  refine lv_aload_n S.1 S.2.1 dx_M_failed_0 rfl (lv_at hl 0 rfl) ?_
  refine rm_g4 S hG dx_M_failed_1 ?_
  exact rg_ri S hr hlk hG dx_M_failed_4 (by exact ⟨rfl, rfl⟩)

set_option maxHeartbeats 4000000 in
set_option maxRecDepth 100000 in
theorem cx_M_growth (l : Launch) (bl : Nat → Int32) (dn bg mv lo : Int32) : mMi l y_M_growth c_M_growth (rm_n 0) [] (bl, dn, bg, mv, lo) (pm_gr bg mv) (bl, dn, bg, mv, lo) := by
  intro K
  refine gMi_of (own := R_M) (by decide) rfl (Nat.le_of_ble_eq_true rfl) ?_
  intro p e s m args below meth c D A S hr hlk hG ls hl
  have hl : lv_has ls 1 [(0, .ref K.1)] := hl
  refine lv_aload_n S.1 S.2.1 dx_M_growth_0 rfl (lv_at hl 0 rfl) ?_
  refine rm_g2 S hG dx_M_growth_1 ?_
  refine lv_if_ne (tgt := 9) S.1 S.2.1 dx_M_growth_4 (by decide) (fun c_4 => ?_) (fun c_4 => ?_)
  · skip
    refine lv_aload_n S.1 S.2.1 dx_M_growth_9 rfl (lv_at hl 0 rfl) ?_
    refine rm_g3 S hG dx_M_growth_10 ?_
    refine lv_bipush (v := 6) S.1 S.2.1 dx_M_growth_13 (by decide) ?_
    refine lv_icmp_ne (tgt := 22) S.1 S.2.1 dx_M_growth_15 (by decide) (fun c_15 => ?_) (fun c_15 => ?_)
    · skip
      refine lv_iconst (v := 1) S.1 S.2.1 dx_M_growth_22 (by decide) ?_
      exact rg_ri S hr hlk hG dx_M_growth_23 (by rw [pm_gr, if_neg c_4, if_neg c_15]; exact ⟨rfl, rfl⟩)
    · skip
      refine lv_iconst (v := 2) S.1 S.2.1 dx_M_growth_18 (by decide) ?_
      refine lv_goto (tgt := 23) S.1 S.2.1 dx_M_growth_19 (by decide) ?_
      exact rg_ri S hr hlk hG dx_M_growth_23 (by rw [pm_gr, if_neg c_4, if_pos c_15]; exact ⟨rfl, rfl⟩)
  · skip
    refine lv_iconst (v := 0) S.1 S.2.1 dx_M_growth_7 (by decide) ?_
    exact rg_ri S hr hlk hG dx_M_growth_8 (by rw [pm_gr, if_pos c_4]; exact ⟨rfl, rfl⟩)

set_option maxHeartbeats 4000000 in
set_option maxRecDepth 100000 in
theorem cx_M_groups (l : Launch) (bl : Nat → Int32) (dn bg mv lo : Int32) : mMi l y_M_groups c_M_groups (rm_n 0) [] (bl, dn, bg, mv, lo) mv (bl, dn, bg, mv, lo) := by
  intro K
  refine gMi_of (own := R_M) (by decide) rfl (Nat.le_of_ble_eq_true rfl) ?_
  intro p e s m args below meth c D A S hr hlk hG ls hl
  have hl : lv_has ls 1 [(0, .ref K.1)] := hl
  refine lv_aload_n S.1 S.2.1 dx_M_groups_0 rfl (lv_at hl 0 rfl) ?_
  refine rm_g3 S hG dx_M_groups_1 ?_
  exact rg_ri S hr hlk hG dx_M_groups_4 (by exact ⟨rfl, rfl⟩)

set_option maxHeartbeats 4000000 in
set_option maxRecDepth 100000 in
theorem cx_M_noBlock (l : Launch) (bl : Nat → Int32) (dn bg mv lo : Int32) (b : Int32) : mMi l y_M_noBlock c_M_noBlock (rm_n 1) [.int b] (bl, dn, bg, mv, lo) (pm_nb mv b) (bl, dn, bg, mv, lo) := by
  intro K
  refine gMi_of (own := R_M) (by decide) rfl (Nat.le_of_ble_eq_true rfl) ?_
  intro p e s m args below meth c D A S hr hlk hG ls hl
  have hl : lv_has ls 2 [(0, .ref K.1), (1, .int b)] := hl
  refine lv_iload_n S.1 S.2.1 dx_M_noBlock_0 rfl (lv_at hl 1 rfl) ?_
  refine lv_if_lt (tgt := 18) S.1 S.2.1 dx_M_noBlock_1 (by decide) (fun c_1 => ?_) (fun c_1 => ?_)
  · skip
    refine lv_iconst (v := 1) S.1 S.2.1 dx_M_noBlock_18 (by decide) ?_
    refine lv_goto (tgt := 23) S.1 S.2.1 dx_M_noBlock_19 (by decide) ?_
    exact rg_rz S hr hlk hG dx_M_noBlock_23 (rfl) (by rw [pm_nb, if_pos c_1]; exact ⟨rfl, rfl⟩)
  · skip
    refine lv_iload_n S.1 S.2.1 dx_M_noBlock_4 rfl (lv_at hl 1 rfl) ?_
    refine lv_aload_n S.1 S.2.1 dx_M_noBlock_5 rfl (lv_at hl 0 rfl) ?_
    refine rm_ci (rest := [.int b]) S (cx_M_size l bl dn bg mv lo) gc_M_27 hd_M_size ⟨rfl, rfl⟩ ⟨Nat.le_of_ble_eq_true rfl, Nat.le_of_ble_eq_true rfl⟩ rfl hG hl.1 rfl (Nat.le_of_ble_eq_true rfl) dx_M_noBlock_6 (fun H locs hG => ?_)
    refine lv_icmp_ge (tgt := 18) S.1 S.2.1 dx_M_noBlock_9 (by decide) (fun c_9 => ?_) (fun c_9 => ?_)
    · skip
      refine lv_iconst (v := 1) S.1 S.2.1 dx_M_noBlock_18 (by decide) ?_
      refine lv_goto (tgt := 23) S.1 S.2.1 dx_M_noBlock_19 (by decide) ?_
      exact rg_rz S hr hlk hG dx_M_noBlock_23 (rfl) (by rw [pm_nb, if_neg c_1, if_pos c_9]; exact ⟨rfl, rfl⟩)
    · skip
      refine lv_iload_n S.1 S.2.1 dx_M_noBlock_12 rfl (lv_at hl 1 rfl) ?_
      refine lv_bipush (v := 48) S.1 S.2.1 dx_M_noBlock_13 (by decide) ?_
      refine lv_icmp_lt (tgt := 22) S.1 S.2.1 dx_M_noBlock_15 (by decide) (fun c_15 => ?_) (fun c_15 => ?_)
      · skip
        refine lv_iconst (v := 0) S.1 S.2.1 dx_M_noBlock_22 (by decide) ?_
        exact rg_rz S hr hlk hG dx_M_noBlock_23 (rfl) (by rw [pm_nb, if_neg c_1, if_neg c_9, if_pos c_15]; exact ⟨rfl, rfl⟩)
      · skip
        refine lv_iconst (v := 1) S.1 S.2.1 dx_M_noBlock_18 (by decide) ?_
        refine lv_goto (tgt := 23) S.1 S.2.1 dx_M_noBlock_19 (by decide) ?_
        exact rg_rz S hr hlk hG dx_M_noBlock_23 (rfl) (by rw [pm_nb, if_neg c_1, if_neg c_9, if_neg c_15]; exact ⟨rfl, rfl⟩)

def pm_read (bl : Nat → Int32) (dn mv b : Int32) : Int32 := if dn = 0 then (if pm_nb mv b = 0 then bl b.toNatClampNeg else 0) else 0
set_option maxHeartbeats 4000000 in
set_option maxRecDepth 100000 in
theorem cx_M_read (l : Launch) (bl : Nat → Int32) (dn bg mv lo : Int32) (b : Int32) : mMi l y_M_read c_M_read (rm_n 2) [.int b] (bl, dn, bg, mv, lo) (pm_read bl dn mv b) (bl, dn, bg, mv, lo) := by
  intro K
  refine gMi_of (own := R_M) (by decide) rfl (Nat.le_of_ble_eq_true rfl) ?_
  intro p e s m args below meth c D A S hr hlk hG ls hl
  have hl : lv_has ls 2 [(0, .ref K.1), (1, .int b)] := hl
  refine lv_aload_n S.1 S.2.1 dx_M_read_0 rfl (lv_at hl 0 rfl) ?_
  refine rm_g1 S hG dx_M_read_1 ?_
  refine lv_if_ne (tgt := 15) S.1 S.2.1 dx_M_read_4 (by decide) (fun c_4 => ?_) (fun c_4 => ?_)
  · skip
    refine lv_iconst (v := 0) S.1 S.2.1 dx_M_read_15 (by decide) ?_
    exact rg_ri S hr hlk hG dx_M_read_16 (by rw [pm_read, if_neg c_4]; exact ⟨rfl, rfl⟩)
  · skip
    refine lv_aload_n S.1 S.2.1 dx_M_read_7 rfl (lv_at hl 0 rfl) ?_
    refine lv_iload_n S.1 S.2.1 dx_M_read_8 rfl (lv_at hl 1 rfl) ?_
    refine rm_ci (rest := []) S (cx_M_noBlock l bl dn bg mv lo b) gc_M_31 hd_M_noBlock ⟨rfl, rfl⟩ ⟨Nat.le_of_ble_eq_true rfl, Nat.le_of_ble_eq_true rfl⟩ rfl hG hl.1 rfl (Nat.le_of_ble_eq_true rfl) dx_M_read_9 (fun H locs hG => ?_)
    refine lv_if_eq (tgt := 17) S.1 S.2.1 dx_M_read_12 (by decide) (fun c_12 => ?_) (fun c_12 => ?_)
    · skip
      obtain ⟨j, hj, rfl⟩ := pm_nb_n c_12
      refine lv_aload_n S.1 S.2.1 dx_M_read_17 rfl (lv_at hl 0 rfl) ?_
      refine rm_g0 S hG dx_M_read_18 ?_
      refine lv_iload_n S.1 S.2.1 dx_M_read_21 rfl (lv_at hl 1 rfl) ?_
      refine rm_bl (i := j) (hj) S hG dx_M_read_22 ?_
      exact rg_ri S hr hlk hG dx_M_read_23 (by rw [pm_read, if_pos c_4, if_pos c_12, nI_clamp (by omega)]; exact ⟨rfl, rfl⟩)
    · skip
      refine lv_iconst (v := 0) S.1 S.2.1 dx_M_read_15 (by decide) ?_
      exact rg_ri S hr hlk hG dx_M_read_16 (by rw [pm_read, if_pos c_4, if_neg c_12]; exact ⟨rfl, rfl⟩)

def pm_su (bl : Nat → Int32) (n : Nat) : Int32 := px_itr (fun b a => a + bl b) n 0
def pm_sum (bl : Nat → Int32) (dn mv : Int32) : Int32 := if dn = 0 then pm_su bl (px_szn mv) else 0
set_option maxHeartbeats 4000000 in
set_option maxRecDepth 100000 in
theorem lp_M_sum {p : Program} {l : Launch} {e : Env} {s : State} {m : MethodId} {args : Array Value} {below : List Frame} {meth : Method} {c : Code} {D : va_G} {A : Nat → Prop} {K : MK} {Q : State → Prop} {bl : Nat → Int32} {dn bg mv lo : Int32} (S : CallFix p m c b_M_sum 3 s args lw_gd R_M) 
    (kx : ∀ (H : Heap) (locs : List Loc) (ls : Array Slot), gG D A s (mw K) (mt K) (bl, dn, bg, mv, lo) H locs → lv_has ls 3 [(2, .int (nI (px_szn mv))), (1, .int (pm_su bl (px_szn mv))), (0, .ref K.1)] → W p l e (rm_n 1) s m args below meth c H locs 0 0 Q (F0 m 42 ls [])) :
    ∀ (n i : Nat), i + n = (px_szn mv) → ∀ (H : Heap) (locs : List Loc) (ls : Array Slot), gG D A s (mw K) (mt K) (bl, dn, bg, mv, lo) H locs → lv_has ls 3 [(2, .int (nI i)), (1, .int (pm_su bl i)), (0, .ref K.1)] → W p l e (rm_n 1) s m args below meth c H locs 0 0 Q (F0 m 13 ls []) := by
  intro n
  induction n with
  | zero =>
    intro i hi H locs ls hG hl
    have hi : i = (px_szn mv) := by omega
    subst hi
    refine lv_iload_n S.1 S.2.1 dx_M_sum_13 rfl (lv_at hl 0 rfl) ?_
    refine lv_aload_n S.1 S.2.1 dx_M_sum_14 rfl (lv_at hl 2 rfl) ?_
    refine rm_ci (rest := [.int (nI (px_szn mv))]) S (cx_M_size l bl dn bg mv lo) gc_M_27 hd_M_size ⟨rfl, rfl⟩ ⟨Nat.le_of_ble_eq_true rfl, Nat.le_of_ble_eq_true rfl⟩ rfl hG hl.1 rfl (Nat.le_of_ble_eq_true rfl) dx_M_sum_15 (fun H locs hG => ?_)
    refine rg_top (y := nI (px_szn mv)) (px_sz_n mv) ?_
    refine lv_icmp_ge (tgt := 42) S.1 S.2.1 dx_M_sum_18 (by decide) (fun _ => ?_) (fun h9 => absurd (nI_le (Nat.le_refl _) (by have := px_szn_le mv; omega)) h9)
    exact kx _ _ _ hG (lv_sub hl [0, 1, 2] rfl)
  | succ n ih =>
    intro i hi H locs ls hG hl
    refine lv_iload_n S.1 S.2.1 dx_M_sum_13 rfl (lv_at hl 0 rfl) ?_
    refine lv_aload_n S.1 S.2.1 dx_M_sum_14 rfl (lv_at hl 2 rfl) ?_
    refine rm_ci (rest := [.int (nI i)]) S (cx_M_size l bl dn bg mv lo) gc_M_27 hd_M_size ⟨rfl, rfl⟩ ⟨Nat.le_of_ble_eq_true rfl, Nat.le_of_ble_eq_true rfl⟩ rfl hG hl.1 rfl (Nat.le_of_ble_eq_true rfl) dx_M_sum_15 (fun H locs hG => ?_)
    refine rg_top (y := nI (px_szn mv)) (px_sz_n mv) ?_
    refine lv_icmp_ge (tgt := 42) S.1 S.2.1 dx_M_sum_18 (by decide) (fun h9 => absurd h9 (nI_ge (by omega) (by have := px_szn_le mv; omega))) (fun _ => ?_)
    refine lv_iload_n S.1 S.2.1 dx_M_sum_21 rfl (lv_at hl 0 rfl) ?_
    refine lv_bipush (v := 48) S.1 S.2.1 dx_M_sum_22 (by decide) ?_
    refine lv_icmp_ge (tgt := 42) S.1 S.2.1 dx_M_sum_24 (by decide) (fun h9 => absurd h9 (nI_ge (a := i) (b := 48) (by have := px_szn_le mv; omega) (by omega))) (fun _ => ?_)
    refine lv_iload_n S.1 S.2.1 dx_M_sum_27 rfl (lv_at hl 1 rfl) ?_
    refine lv_aload_n S.1 S.2.1 dx_M_sum_28 rfl (lv_at hl 2 rfl) ?_
    refine rm_g0 S hG dx_M_sum_29 ?_
    refine lv_iload_n S.1 S.2.1 dx_M_sum_32 rfl (lv_at hl 0 rfl) ?_
    refine rm_bl (i := i) (by have := px_szn_le mv; omega) S hG dx_M_sum_33 ?_
    refine lv_iadd S.1 S.2.1 dx_M_sum_34 ?_
    refine lv_istore_n (lv' := [(1, .int ((pm_su bl i) + (bl i))), (2, .int (nI i)), (0, .ref K.1)]) S.1 S.2.1 dx_M_sum_35 rfl hl (by decide) rfl (fun ls hl => ?_)
    refine lv_iinc (v := nI (i + 1)) (lv' := [(2, .int (nI (i + 1))), (1, .int ((pm_su bl i) + (bl i))), (0, .ref K.1)]) S.1 S.2.1 dx_M_sum_36 hl (k := 1) rfl (nI_1 i) (by decide) rfl (fun ls hl => ?_)
    refine lv_goto (tgt := 13) S.1 S.2.1 dx_M_sum_39 (by decide) ?_
    exact ih (i + 1) (by omega) _ _ _ hG (lv_sub hl [0, 1, 2] rfl)

set_option maxHeartbeats 4000000 in
set_option maxRecDepth 100000 in
theorem cx_M_sum (l : Launch) (bl : Nat → Int32) (dn bg mv lo : Int32) : mMi l y_M_sum c_M_sum (rm_n 1) [] (bl, dn, bg, mv, lo) (pm_sum bl dn mv) (bl, dn, bg, mv, lo) := by
  intro K
  refine gMi_of (own := R_M) (by decide) rfl (Nat.le_of_ble_eq_true rfl) ?_
  intro p e s m args below meth c D A S hr hlk hG ls hl
  have hl : lv_has ls 3 [(0, .ref K.1)] := hl
  refine lv_aload_n S.1 S.2.1 dx_M_sum_0 rfl (lv_at hl 0 rfl) ?_
  refine rm_g1 S hG dx_M_sum_1 ?_
  refine lv_if_eq (tgt := 9) S.1 S.2.1 dx_M_sum_4 (by decide) (fun c_4 => ?_) (fun c_4 => ?_)
  · skip
    refine lv_iconst (v := 0) S.1 S.2.1 dx_M_sum_9 (by decide) ?_
    refine lv_istore_n (lv' := [(1, .int 0), (0, .ref K.1)]) S.1 S.2.1 dx_M_sum_10 rfl hl (by decide) rfl (fun ls hl => ?_)
    refine lv_iconst (v := 0) S.1 S.2.1 dx_M_sum_11 (by decide) ?_
    refine lv_istore_n (lv' := [(2, .int 0), (1, .int 0), (0, .ref K.1)]) S.1 S.2.1 dx_M_sum_12 rfl hl (by decide) rfl (fun ls hl => ?_)
    refine lp_M_sum (bl := bl) S (fun H locs ls hG hl => ?_) (px_szn mv) 0 (Nat.zero_add _) _ _ _ hG (lv_sub hl [0, 1, 2] rfl)
    refine lv_iload_n S.1 S.2.1 dx_M_sum_42 rfl (lv_at hl 1 rfl) ?_
    exact rg_ri S hr hlk hG dx_M_sum_43 (by rw [pm_sum, if_pos c_4]; exact ⟨rfl, rfl⟩)
  · skip
    refine lv_iconst (v := 0) S.1 S.2.1 dx_M_sum_7 (by decide) ?_
    exact rg_ri S hr hlk hG dx_M_sum_8 (by rw [pm_sum, if_neg c_4]; exact ⟨rfl, rfl⟩)

def pm_write (bl : Nat → Int32) (dn bg mv lo : Int32) (b v : Int32) : Int32 × MS :=
  if dn = 0 then (if pm_nb mv b = 0 then (0, (upd bl b.toNatClampNeg v, dn, bg, mv, lo)) else (-2, (bl, dn, bg, mv, lo))) else (-1, (bl, dn, bg, mv, lo))
set_option maxHeartbeats 4000000 in
set_option maxRecDepth 100000 in
theorem cx_M_write (l : Launch) (bl : Nat → Int32) (dn bg mv lo : Int32) (b v : Int32) : mMi l y_M_write c_M_write (rm_n 2) [.int b, .int v] (bl, dn, bg, mv, lo) ((pm_write bl dn bg mv lo b v).1) (pm_write bl dn bg mv lo b v).2 := by
  intro K
  refine gMi_of (own := R_M) (by decide) rfl (Nat.le_of_ble_eq_true rfl) ?_
  intro p e s m args below meth c D A S hr hlk hG ls hl
  have hl : lv_has ls 3 [(0, .ref K.1), (1, .int b), (2, .int v)] := hl
  refine lv_aload_n S.1 S.2.1 dx_M_write_0 rfl (lv_at hl 0 rfl) ?_
  refine rm_g1 S hG dx_M_write_1 ?_
  refine lv_if_eq (tgt := 9) S.1 S.2.1 dx_M_write_4 (by decide) (fun c_4 => ?_) (fun c_4 => ?_)
  · skip
    refine lv_aload_n S.1 S.2.1 dx_M_write_9 rfl (lv_at hl 0 rfl) ?_
    refine lv_iload_n S.1 S.2.1 dx_M_write_10 rfl (lv_at hl 1 rfl) ?_
    refine rm_ci (rest := []) S (cx_M_noBlock l bl dn bg mv lo b) gc_M_31 hd_M_noBlock ⟨rfl, rfl⟩ ⟨Nat.le_of_ble_eq_true rfl, Nat.le_of_ble_eq_true rfl⟩ rfl hG hl.1 rfl (Nat.le_of_ble_eq_true rfl) dx_M_write_11 (fun H locs hG => ?_)
    refine lv_if_eq (tgt := 20) S.1 S.2.1 dx_M_write_14 (by decide) (fun c_14 => ?_) (fun c_14 => ?_)
    · skip
      obtain ⟨j, hj, rfl⟩ := pm_nb_n c_14
      refine lv_aload_n S.1 S.2.1 dx_M_write_20 rfl (lv_at hl 0 rfl) ?_
      refine rm_g0 S hG dx_M_write_21 ?_
      refine lv_iload_n S.1 S.2.1 dx_M_write_24 rfl (lv_at hl 1 rfl) ?_
      refine lv_iload_n S.1 S.2.1 dx_M_write_25 rfl (lv_at hl 2 rfl) ?_
      refine rm_bs (i := j) (hj) S hG dx_M_write_26 (fun H locs hG => ?_)
      refine lv_iconst (v := 0) S.1 S.2.1 dx_M_write_27 (by decide) ?_
      exact rg_ri S hr hlk hG dx_M_write_28 (by rw [pm_write, if_pos c_4, if_pos c_14, nI_clamp (by omega)]; exact ⟨rfl, rfl⟩)
    · skip
      refine lv_bipush (v := (-2)) S.1 S.2.1 dx_M_write_17 (by decide) ?_
      exact rg_ri S hr hlk hG dx_M_write_19 (by rw [pm_write, if_pos c_4, if_neg c_14]; exact ⟨rfl, rfl⟩)
  · skip
    refine lv_iconst (v := (-1)) S.1 S.2.1 dx_M_write_7 (by decide) ?_
    exact rg_ri S hr hlk hG dx_M_write_8 (by rw [pm_write, if_neg c_4]; exact ⟨rfl, rfl⟩)

def pm_fl (bl : Nat → Int32) (b n v a : Int32) (m : Nat) : Nat → Int32 := px_itr (fun k bl => if nI k < b then bl else if b + n ≤ nI k then bl else upd bl k (v + a * (nI k - b))) m bl
def pm_fill (bl : Nat → Int32) (dn bg mv lo b n v a : Int32) : Int32 × MS :=
  if dn = 0 then (if n < 1 then (-2, (bl, dn, bg, mv, lo)) else if n ≤ 24 then (if b < 0 then (-3, (bl, dn, bg, mv, lo)) else if b ≤ px_sz mv - n then (0, (pm_fl bl b n v a 48, dn, bg, mv, lo)) else (-3, (bl, dn, bg, mv, lo))) else (-2, (bl, dn, bg, mv, lo))) else (-1, (bl, dn, bg, mv, lo))
set_option maxHeartbeats 4000000 in
set_option maxRecDepth 100000 in
theorem lp_M_fill {p : Program} {l : Launch} {e : Env} {s : State} {m : MethodId} {args : Array Value} {below : List Frame} {meth : Method} {c : Code} {D : va_G} {A : Nat → Prop} {K : MK} {Q : State → Prop} {bl : Nat → Int32} {dn bg mv lo b n0 v a : Int32} (S : CallFix p m c b_M_fill 6 s args lw_gd R_M) 
    (kx : ∀ (H : Heap) (locs : List Loc) (ls : Array Slot), gG D A s (mw K) (mt K) ((pm_fl bl b n0 v a 48), dn, bg, mv, lo) H locs → lv_has ls 6 [(5, .int (nI 48)), (0, .ref K.1), (1, .int b), (2, .int n0), (3, .int v), (4, .int a)] → W p l e (rm_n 1) s m args below meth c H locs 0 0 Q (F0 m 86 ls [])) :
    ∀ (n i : Nat), i + n = 48 → ∀ (H : Heap) (locs : List Loc) (ls : Array Slot), gG D A s (mw K) (mt K) ((pm_fl bl b n0 v a i), dn, bg, mv, lo) H locs → lv_has ls 6 [(5, .int (nI i)), (0, .ref K.1), (1, .int b), (2, .int n0), (3, .int v), (4, .int a)] → W p l e (rm_n 1) s m args below meth c H locs 0 0 Q (F0 m 43 ls []) := by
  intro n
  induction n with
  | zero =>
    intro i hi H locs ls hG hl
    have hi : i = 48 := by omega
    subst hi
    refine lv_iload S.1 S.2.1 dx_M_fill_43 (lv_at hl 0 rfl) ?_
    refine lv_bipush (v := 48) S.1 S.2.1 dx_M_fill_45 (by decide) ?_
    refine lv_icmp_ge (tgt := 86) S.1 S.2.1 dx_M_fill_47 (by decide) (fun _ => ?_) (fun h9 => absurd (nI_le (Nat.le_refl 48) (by omega)) h9)
    exact kx _ _ _ hG (lv_sub hl [0, 1, 2, 3, 4, 5] rfl)
  | succ n ih =>
    intro i hi H locs ls hG hl
    refine lv_iload S.1 S.2.1 dx_M_fill_43 (lv_at hl 0 rfl) ?_
    refine lv_bipush (v := 48) S.1 S.2.1 dx_M_fill_45 (by decide) ?_
    refine lv_icmp_ge (tgt := 86) S.1 S.2.1 dx_M_fill_47 (by decide) (fun h9 => absurd h9 (nI_ge (a := i) (b := 48) (by omega) (by omega))) (fun _ => ?_)
    refine lv_iload S.1 S.2.1 dx_M_fill_50 (lv_at hl 0 rfl) ?_
    refine lv_iload_n S.1 S.2.1 dx_M_fill_52 rfl (lv_at hl 2 rfl) ?_
    refine lv_icmp_lt (tgt := 80) S.1 S.2.1 dx_M_fill_53 (by decide) (fun c_53 => ?_) (fun c_53 => ?_)
    · skip
      have e0 : (pm_fl bl b n0 v a i) = pm_fl bl b n0 v a (i + 1) := by
        show _ = (if nI i < b then pm_fl bl b n0 v a i else if b + n0 ≤ nI i then pm_fl bl b n0 v a i else upd (pm_fl bl b n0 v a i) i (v + a * (nI i - b)))
        rw [if_pos c_53]
      rw [e0] at hG
      refine lv_iinc (v := nI (i + 1)) (lv' := [(5, .int (nI (i + 1))), (0, .ref K.1), (1, .int b), (2, .int n0), (3, .int v), (4, .int a)]) S.1 S.2.1 dx_M_fill_80 hl (k := 0) rfl (nI_1 i) (by decide) rfl (fun ls hl => ?_)
      refine lv_goto (tgt := 43) S.1 S.2.1 dx_M_fill_83 (by decide) ?_
      exact ih (i + 1) (by omega) _ _ _ hG (lv_sub hl [0, 1, 2, 3, 4, 5] rfl)
    · skip
      refine lv_iload S.1 S.2.1 dx_M_fill_56 (lv_at hl 0 rfl) ?_
      refine lv_iload_n S.1 S.2.1 dx_M_fill_58 rfl (lv_at hl 2 rfl) ?_
      refine lv_iload_n S.1 S.2.1 dx_M_fill_59 rfl (lv_at hl 3 rfl) ?_
      refine lv_iadd S.1 S.2.1 dx_M_fill_60 ?_
      refine lv_icmp_ge (tgt := 80) S.1 S.2.1 dx_M_fill_61 (by decide) (fun c_61 => ?_) (fun c_61 => ?_)
      · skip
        have e0 : (pm_fl bl b n0 v a i) = pm_fl bl b n0 v a (i + 1) := by
          show _ = (if nI i < b then pm_fl bl b n0 v a i else if b + n0 ≤ nI i then pm_fl bl b n0 v a i else upd (pm_fl bl b n0 v a i) i (v + a * (nI i - b)))
          rw [if_neg c_53, if_pos c_61]
        rw [e0] at hG
        refine lv_iinc (v := nI (i + 1)) (lv' := [(5, .int (nI (i + 1))), (0, .ref K.1), (1, .int b), (2, .int n0), (3, .int v), (4, .int a)]) S.1 S.2.1 dx_M_fill_80 hl (k := 0) rfl (nI_1 i) (by decide) rfl (fun ls hl => ?_)
        refine lv_goto (tgt := 43) S.1 S.2.1 dx_M_fill_83 (by decide) ?_
        exact ih (i + 1) (by omega) _ _ _ hG (lv_sub hl [0, 1, 2, 3, 4, 5] rfl)
      · skip
        refine lv_aload_n S.1 S.2.1 dx_M_fill_64 rfl (lv_at hl 1 rfl) ?_
        refine rm_g0 S hG dx_M_fill_65 ?_
        refine lv_iload S.1 S.2.1 dx_M_fill_68 (lv_at hl 0 rfl) ?_
        refine lv_iload_n S.1 S.2.1 dx_M_fill_70 rfl (lv_at hl 4 rfl) ?_
        refine lv_iload S.1 S.2.1 dx_M_fill_71 (lv_at hl 5 rfl) ?_
        refine lv_iload S.1 S.2.1 dx_M_fill_73 (lv_at hl 0 rfl) ?_
        refine lv_iload_n S.1 S.2.1 dx_M_fill_75 rfl (lv_at hl 2 rfl) ?_
        refine lv_isub S.1 S.2.1 dx_M_fill_76 ?_
        refine lv_imul S.1 S.2.1 dx_M_fill_77 ?_
        refine lv_iadd S.1 S.2.1 dx_M_fill_78 ?_
        refine rm_bs (i := i) (by omega) S hG dx_M_fill_79 (fun H locs hG => ?_)
        have e0 : (upd (pm_fl bl b n0 v a i) i (v + (a * ((nI i) - b)))) = pm_fl bl b n0 v a (i + 1) := by
          show _ = (if nI i < b then pm_fl bl b n0 v a i else if b + n0 ≤ nI i then pm_fl bl b n0 v a i else upd (pm_fl bl b n0 v a i) i (v + a * (nI i - b)))
          rw [if_neg c_53, if_neg c_61]
        rw [e0] at hG
        refine lv_iinc (v := nI (i + 1)) (lv' := [(5, .int (nI (i + 1))), (0, .ref K.1), (1, .int b), (2, .int n0), (3, .int v), (4, .int a)]) S.1 S.2.1 dx_M_fill_80 hl (k := 0) rfl (nI_1 i) (by decide) rfl (fun ls hl => ?_)
        refine lv_goto (tgt := 43) S.1 S.2.1 dx_M_fill_83 (by decide) ?_
        exact ih (i + 1) (by omega) _ _ _ hG (lv_sub hl [0, 1, 2, 3, 4, 5] rfl)

set_option maxHeartbeats 4000000 in
set_option maxRecDepth 100000 in
theorem cx_M_fill (l : Launch) (bl : Nat → Int32) (dn bg mv lo : Int32) (b n v a : Int32) : mMi l y_M_fill c_M_fill (rm_n 1) [.int b, .int n, .int v, .int a] (bl, dn, bg, mv, lo) ((pm_fill bl dn bg mv lo b n v a).1) (pm_fill bl dn bg mv lo b n v a).2 := by
  intro K
  refine gMi_of (own := R_M) (by decide) rfl (Nat.le_of_ble_eq_true rfl) ?_
  intro p e s m args below meth c D A S hr hlk hG ls hl
  have hl : lv_has ls 6 [(0, .ref K.1), (1, .int b), (2, .int n), (3, .int v), (4, .int a)] := hl
  refine lv_aload_n S.1 S.2.1 dx_M_fill_0 rfl (lv_at hl 0 rfl) ?_
  refine rm_g1 S hG dx_M_fill_1 ?_
  refine lv_if_eq (tgt := 9) S.1 S.2.1 dx_M_fill_4 (by decide) (fun c_4 => ?_) (fun c_4 => ?_)
  · skip
    refine lv_iload_n S.1 S.2.1 dx_M_fill_9 rfl (lv_at hl 2 rfl) ?_
    refine lv_iconst (v := 1) S.1 S.2.1 dx_M_fill_10 (by decide) ?_
    refine lv_icmp_lt (tgt := 20) S.1 S.2.1 dx_M_fill_11 (by decide) (fun c_11 => ?_) (fun c_11 => ?_)
    · skip
      refine lv_bipush (v := (-2)) S.1 S.2.1 dx_M_fill_20 (by decide) ?_
      exact rg_ri S hr hlk hG dx_M_fill_22 (by rw [pm_fill, if_pos c_4, if_pos c_11]; exact ⟨rfl, rfl⟩)
    · skip
      refine lv_iload_n S.1 S.2.1 dx_M_fill_14 rfl (lv_at hl 2 rfl) ?_
      refine lv_bipush (v := 24) S.1 S.2.1 dx_M_fill_15 (by decide) ?_
      refine lv_icmp_le (tgt := 23) S.1 S.2.1 dx_M_fill_17 (by decide) (fun c_17 => ?_) (fun c_17 => ?_)
      · skip
        refine lv_iload_n S.1 S.2.1 dx_M_fill_23 rfl (lv_at hl 1 rfl) ?_
        refine lv_if_lt (tgt := 37) S.1 S.2.1 dx_M_fill_24 (by decide) (fun c_24 => ?_) (fun c_24 => ?_)
        · skip
          refine lv_bipush (v := (-3)) S.1 S.2.1 dx_M_fill_37 (by decide) ?_
          exact rg_ri S hr hlk hG dx_M_fill_39 (by rw [pm_fill, if_pos c_4, if_neg c_11, if_pos c_17, if_pos c_24]; exact ⟨rfl, rfl⟩)
        · skip
          refine lv_iload_n S.1 S.2.1 dx_M_fill_27 rfl (lv_at hl 1 rfl) ?_
          refine lv_aload_n S.1 S.2.1 dx_M_fill_28 rfl (lv_at hl 0 rfl) ?_
          refine rm_ci (rest := [.int b]) S (cx_M_size l bl dn bg mv lo) gc_M_27 hd_M_size ⟨rfl, rfl⟩ ⟨Nat.le_of_ble_eq_true rfl, Nat.le_of_ble_eq_true rfl⟩ rfl hG hl.1 rfl (Nat.le_of_ble_eq_true rfl) dx_M_fill_29 (fun H locs hG => ?_)
          refine lv_iload_n S.1 S.2.1 dx_M_fill_32 rfl (lv_at hl 2 rfl) ?_
          refine lv_isub S.1 S.2.1 dx_M_fill_33 ?_
          refine lv_icmp_le (tgt := 40) S.1 S.2.1 dx_M_fill_34 (by decide) (fun c_34 => ?_) (fun c_34 => ?_)
          · skip
            refine lv_iconst (v := 0) S.1 S.2.1 dx_M_fill_40 (by decide) ?_
            refine lv_istore (lv' := [(5, .int 0), (0, .ref K.1), (1, .int b), (2, .int n), (3, .int v), (4, .int a)]) S.1 S.2.1 dx_M_fill_41 hl (by decide) rfl (fun ls hl => ?_)
            refine lp_M_fill (bl := bl) (b := b) (n0 := n) (v := v) (a := a) S (fun H locs ls hG hl => ?_) 48 0 rfl _ _ _ hG (lv_sub hl [0, 1, 2, 3, 4, 5] rfl)
            refine lv_iconst (v := 0) S.1 S.2.1 dx_M_fill_86 (by decide) ?_
            exact rg_ri S hr hlk hG dx_M_fill_87 (by rw [pm_fill, if_pos c_4, if_neg c_11, if_pos c_17, if_neg c_24, if_pos c_34]; exact ⟨rfl, rfl⟩)
          · skip
            refine lv_bipush (v := (-3)) S.1 S.2.1 dx_M_fill_37 (by decide) ?_
            exact rg_ri S hr hlk hG dx_M_fill_39 (by rw [pm_fill, if_pos c_4, if_neg c_11, if_pos c_17, if_neg c_24, if_neg c_34]; exact ⟨rfl, rfl⟩)
      · skip
        refine lv_bipush (v := (-2)) S.1 S.2.1 dx_M_fill_20 (by decide) ?_
        exact rg_ri S hr hlk hG dx_M_fill_22 (by rw [pm_fill, if_pos c_4, if_neg c_11, if_neg c_17]; exact ⟨rfl, rfl⟩)
  · skip
    refine lv_iconst (v := (-1)) S.1 S.2.1 dx_M_fill_7 (by decide) ?_
    exact rg_ri S hr hlk hG dx_M_fill_8 (by rw [pm_fill, if_neg c_4]; exact ⟨rfl, rfl⟩)

def pm_wc (bl : Nat → Int32) (dn bg mv lo : Int32) (b v pt : Int32) : Int32 × MS :=
  if dn = 0 then (if pm_nb mv b = 0 then (if pt < 0 then (-3, (bl, dn, bg, mv, lo)) else if pt ≤ 3 then (if lo < 0 then (if pt ≤ 0 then (0, (bl, 1, bg, mv, lo)) else (0, (upd bl b.toNatClampNeg v, 1, bg, mv, lo))) else (-4, (bl, dn, bg, mv, lo))) else (-3, (bl, dn, bg, mv, lo))) else (-2, (bl, dn, bg, mv, lo))) else (-1, (bl, dn, bg, mv, lo))
set_option maxHeartbeats 4000000 in
set_option maxRecDepth 100000 in
theorem cx_M_writeCrash (l : Launch) (bl : Nat → Int32) (dn bg mv lo : Int32) (b v pt : Int32) : mMi l y_M_writeCrash c_M_writeCrash (rm_n 2) [.int b, .int v, .int pt] (bl, dn, bg, mv, lo) ((pm_wc bl dn bg mv lo b v pt).1) (pm_wc bl dn bg mv lo b v pt).2 := by
  intro K
  refine gMi_of (own := R_M) (by decide) rfl (Nat.le_of_ble_eq_true rfl) ?_
  intro p e s m args below meth c D A S hr hlk hG ls hl
  have hl : lv_has ls 4 [(0, .ref K.1), (1, .int b), (2, .int v), (3, .int pt)] := hl
  refine lv_aload_n S.1 S.2.1 dx_M_writeCrash_0 rfl (lv_at hl 0 rfl) ?_
  refine rm_g1 S hG dx_M_writeCrash_1 ?_
  refine lv_if_eq (tgt := 9) S.1 S.2.1 dx_M_writeCrash_4 (by decide) (fun c_4 => ?_) (fun c_4 => ?_)
  · skip
    refine lv_aload_n S.1 S.2.1 dx_M_writeCrash_9 rfl (lv_at hl 0 rfl) ?_
    refine lv_iload_n S.1 S.2.1 dx_M_writeCrash_10 rfl (lv_at hl 1 rfl) ?_
    refine rm_ci (rest := []) S (cx_M_noBlock l bl dn bg mv lo b) gc_M_31 hd_M_noBlock ⟨rfl, rfl⟩ ⟨Nat.le_of_ble_eq_true rfl, Nat.le_of_ble_eq_true rfl⟩ rfl hG hl.1 rfl (Nat.le_of_ble_eq_true rfl) dx_M_writeCrash_11 (fun H locs hG => ?_)
    refine lv_if_eq (tgt := 20) S.1 S.2.1 dx_M_writeCrash_14 (by decide) (fun c_14 => ?_) (fun c_14 => ?_)
    · skip
      refine lv_iload_n S.1 S.2.1 dx_M_writeCrash_20 rfl (lv_at hl 3 rfl) ?_
      refine lv_if_lt (tgt := 29) S.1 S.2.1 dx_M_writeCrash_21 (by decide) (fun c_21 => ?_) (fun c_21 => ?_)
      · skip
        refine lv_bipush (v := (-3)) S.1 S.2.1 dx_M_writeCrash_29 (by decide) ?_
        exact rg_ri S hr hlk hG dx_M_writeCrash_31 (by rw [pm_wc, if_pos c_4, if_pos c_14, if_pos c_21]; exact ⟨rfl, rfl⟩)
      · skip
        refine lv_iload_n S.1 S.2.1 dx_M_writeCrash_24 rfl (lv_at hl 3 rfl) ?_
        refine lv_iconst (v := 3) S.1 S.2.1 dx_M_writeCrash_25 (by decide) ?_
        refine lv_icmp_le (tgt := 32) S.1 S.2.1 dx_M_writeCrash_26 (by decide) (fun c_26 => ?_) (fun c_26 => ?_)
        · skip
          refine lv_aload_n S.1 S.2.1 dx_M_writeCrash_32 rfl (lv_at hl 0 rfl) ?_
          refine rm_g4 S hG dx_M_writeCrash_33 ?_
          refine lv_if_lt (tgt := 42) S.1 S.2.1 dx_M_writeCrash_36 (by decide) (fun c_36 => ?_) (fun c_36 => ?_)
          · skip
            refine lv_iload_n S.1 S.2.1 dx_M_writeCrash_42 rfl (lv_at hl 3 rfl) ?_
            refine lv_if_le (tgt := 53) S.1 S.2.1 dx_M_writeCrash_43 (by decide) (fun c_43 => ?_) (fun c_43 => ?_)
            · skip
              refine lv_aload_n S.1 S.2.1 dx_M_writeCrash_53 rfl (lv_at hl 0 rfl) ?_
              refine lv_iconst (v := 1) S.1 S.2.1 dx_M_writeCrash_54 (by decide) ?_
              refine rm_p1 S hG dx_M_writeCrash_55 rfl rfl (fun H locs hG => ?_)
              refine lv_iconst (v := 0) S.1 S.2.1 dx_M_writeCrash_58 (by decide) ?_
              exact rg_ri S hr hlk hG dx_M_writeCrash_59 (by rw [pm_wc, if_pos c_4, if_pos c_14, if_neg c_21, if_pos c_26, if_pos c_36, if_pos c_43]; exact ⟨rfl, rfl⟩)
            · skip
              obtain ⟨j, hj, rfl⟩ := pm_nb_n c_14
              refine lv_aload_n S.1 S.2.1 dx_M_writeCrash_46 rfl (lv_at hl 0 rfl) ?_
              refine rm_g0 S hG dx_M_writeCrash_47 ?_
              refine lv_iload_n S.1 S.2.1 dx_M_writeCrash_50 rfl (lv_at hl 1 rfl) ?_
              refine lv_iload_n S.1 S.2.1 dx_M_writeCrash_51 rfl (lv_at hl 2 rfl) ?_
              refine rm_bs (i := j) (hj) S hG dx_M_writeCrash_52 (fun H locs hG => ?_)
              refine lv_aload_n S.1 S.2.1 dx_M_writeCrash_53 rfl (lv_at hl 0 rfl) ?_
              refine lv_iconst (v := 1) S.1 S.2.1 dx_M_writeCrash_54 (by decide) ?_
              refine rm_p1 S hG dx_M_writeCrash_55 rfl rfl (fun H locs hG => ?_)
              refine lv_iconst (v := 0) S.1 S.2.1 dx_M_writeCrash_58 (by decide) ?_
              exact rg_ri S hr hlk hG dx_M_writeCrash_59 (by rw [pm_wc, if_pos c_4, if_pos c_14, if_neg c_21, if_pos c_26, if_pos c_36, if_neg c_43, nI_clamp (by omega)]; exact ⟨rfl, rfl⟩)
          · skip
            refine lv_bipush (v := (-4)) S.1 S.2.1 dx_M_writeCrash_39 (by decide) ?_
            exact rg_ri S hr hlk hG dx_M_writeCrash_41 (by rw [pm_wc, if_pos c_4, if_pos c_14, if_neg c_21, if_pos c_26, if_neg c_36]; exact ⟨rfl, rfl⟩)
        · skip
          refine lv_bipush (v := (-3)) S.1 S.2.1 dx_M_writeCrash_29 (by decide) ?_
          exact rg_ri S hr hlk hG dx_M_writeCrash_31 (by rw [pm_wc, if_pos c_4, if_pos c_14, if_neg c_21, if_neg c_26]; exact ⟨rfl, rfl⟩)
    · skip
      refine lv_bipush (v := (-2)) S.1 S.2.1 dx_M_writeCrash_17 (by decide) ?_
      exact rg_ri S hr hlk hG dx_M_writeCrash_19 (by rw [pm_wc, if_pos c_4, if_neg c_14]; exact ⟨rfl, rfl⟩)
  · skip
    refine lv_iconst (v := (-1)) S.1 S.2.1 dx_M_writeCrash_7 (by decide) ?_
    exact rg_ri S hr hlk hG dx_M_writeCrash_8 (by rw [pm_wc, if_neg c_4]; exact ⟨rfl, rfl⟩)

def pm_begin (bl : Nat → Int32) (dn bg mv lo : Int32) : Int32 × MS :=
  if dn = 0 then (if bg = 0 then (if lo < 0 then (0, (bl, dn, 1, mv, lo)) else (-3, (bl, dn, bg, mv, lo))) else (-2, (bl, dn, bg, mv, lo))) else (-1, (bl, dn, bg, mv, lo))
set_option maxHeartbeats 4000000 in
set_option maxRecDepth 100000 in
theorem cx_M_begin (l : Launch) (bl : Nat → Int32) (dn bg mv lo : Int32) : mMi l y_M_begin c_M_begin (rm_n 0) [] (bl, dn, bg, mv, lo) ((pm_begin bl dn bg mv lo).1) (pm_begin bl dn bg mv lo).2 := by
  intro K
  refine gMi_of (own := R_M) (by decide) rfl (Nat.le_of_ble_eq_true rfl) ?_
  intro p e s m args below meth c D A S hr hlk hG ls hl
  have hl : lv_has ls 1 [(0, .ref K.1)] := hl
  refine lv_aload_n S.1 S.2.1 dx_M_begin_0 rfl (lv_at hl 0 rfl) ?_
  refine rm_g1 S hG dx_M_begin_1 ?_
  refine lv_if_eq (tgt := 9) S.1 S.2.1 dx_M_begin_4 (by decide) (fun c_4 => ?_) (fun c_4 => ?_)
  · skip
    refine lv_aload_n S.1 S.2.1 dx_M_begin_9 rfl (lv_at hl 0 rfl) ?_
    refine rm_g2 S hG dx_M_begin_10 ?_
    refine lv_if_eq (tgt := 19) S.1 S.2.1 dx_M_begin_13 (by decide) (fun c_13 => ?_) (fun c_13 => ?_)
    · skip
      refine lv_aload_n S.1 S.2.1 dx_M_begin_19 rfl (lv_at hl 0 rfl) ?_
      refine rm_g4 S hG dx_M_begin_20 ?_
      refine lv_if_lt (tgt := 29) S.1 S.2.1 dx_M_begin_23 (by decide) (fun c_23 => ?_) (fun c_23 => ?_)
      · skip
        refine lv_aload_n S.1 S.2.1 dx_M_begin_29 rfl (lv_at hl 0 rfl) ?_
        refine lv_iconst (v := 1) S.1 S.2.1 dx_M_begin_30 (by decide) ?_
        refine rm_p2 S hG dx_M_begin_31 rfl rfl (fun H locs hG => ?_)
        refine lv_iconst (v := 0) S.1 S.2.1 dx_M_begin_34 (by decide) ?_
        exact rg_ri S hr hlk hG dx_M_begin_35 (by rw [pm_begin, if_pos c_4, if_pos c_13, if_pos c_23]; exact ⟨rfl, rfl⟩)
      · skip
        refine lv_bipush (v := (-3)) S.1 S.2.1 dx_M_begin_26 (by decide) ?_
        exact rg_ri S hr hlk hG dx_M_begin_28 (by rw [pm_begin, if_pos c_4, if_pos c_13, if_neg c_23]; exact ⟨rfl, rfl⟩)
    · skip
      refine lv_bipush (v := (-2)) S.1 S.2.1 dx_M_begin_16 (by decide) ?_
      exact rg_ri S hr hlk hG dx_M_begin_18 (by rw [pm_begin, if_pos c_4, if_neg c_13]; exact ⟨rfl, rfl⟩)
  · skip
    refine lv_iconst (v := (-1)) S.1 S.2.1 dx_M_begin_7 (by decide) ?_
    exact rg_ri S hr hlk hG dx_M_begin_8 (by rw [pm_begin, if_neg c_4]; exact ⟨rfl, rfl⟩)

def pm_crash (bl : Nat → Int32) (dn bg mv lo : Int32) : Int32 × MS :=
  if dn = 0 then (0, (bl, 1, bg, mv, lo)) else (-1, (bl, dn, bg, mv, lo))
set_option maxHeartbeats 4000000 in
set_option maxRecDepth 100000 in
theorem cx_M_crash (l : Launch) (bl : Nat → Int32) (dn bg mv lo : Int32) : mMi l y_M_crash c_M_crash (rm_n 0) [] (bl, dn, bg, mv, lo) ((pm_crash bl dn bg mv lo).1) (pm_crash bl dn bg mv lo).2 := by
  intro K
  refine gMi_of (own := R_M) (by decide) rfl (Nat.le_of_ble_eq_true rfl) ?_
  intro p e s m args below meth c D A S hr hlk hG ls hl
  have hl : lv_has ls 1 [(0, .ref K.1)] := hl
  refine lv_aload_n S.1 S.2.1 dx_M_crash_0 rfl (lv_at hl 0 rfl) ?_
  refine rm_g1 S hG dx_M_crash_1 ?_
  refine lv_if_eq (tgt := 9) S.1 S.2.1 dx_M_crash_4 (by decide) (fun c_4 => ?_) (fun c_4 => ?_)
  · skip
    refine lv_aload_n S.1 S.2.1 dx_M_crash_9 rfl (lv_at hl 0 rfl) ?_
    refine lv_iconst (v := 1) S.1 S.2.1 dx_M_crash_10 (by decide) ?_
    refine rm_p1 S hG dx_M_crash_11 rfl rfl (fun H locs hG => ?_)
    refine lv_iconst (v := 0) S.1 S.2.1 dx_M_crash_14 (by decide) ?_
    exact rg_ri S hr hlk hG dx_M_crash_15 (by rw [pm_crash, if_pos c_4]; exact ⟨rfl, rfl⟩)
  · skip
    refine lv_iconst (v := (-1)) S.1 S.2.1 dx_M_crash_7 (by decide) ?_
    exact rg_ri S hr hlk hG dx_M_crash_8 (by rw [pm_crash, if_neg c_4]; exact ⟨rfl, rfl⟩)

def pm_mount (bl : Nat → Int32) (dn bg mv lo : Int32) : Int32 × MS :=
  if dn = 0 then (-1, (bl, dn, bg, mv, lo)) else (0, (bl, 0, bg, mv, lo))
set_option maxHeartbeats 4000000 in
set_option maxRecDepth 100000 in
theorem cx_M_mount (l : Launch) (bl : Nat → Int32) (dn bg mv lo : Int32) : mMi l y_M_mount c_M_mount (rm_n 0) [] (bl, dn, bg, mv, lo) ((pm_mount bl dn bg mv lo).1) (pm_mount bl dn bg mv lo).2 := by
  intro K
  refine gMi_of (own := R_M) (by decide) rfl (Nat.le_of_ble_eq_true rfl) ?_
  intro p e s m args below meth c D A S hr hlk hG ls hl
  have hl : lv_has ls 1 [(0, .ref K.1)] := hl
  refine lv_aload_n S.1 S.2.1 dx_M_mount_0 rfl (lv_at hl 0 rfl) ?_
  refine rm_g1 S hG dx_M_mount_1 ?_
  refine lv_if_ne (tgt := 9) S.1 S.2.1 dx_M_mount_4 (by decide) (fun c_4 => ?_) (fun c_4 => ?_)
  · skip
    refine lv_aload_n S.1 S.2.1 dx_M_mount_9 rfl (lv_at hl 0 rfl) ?_
    refine lv_iconst (v := 0) S.1 S.2.1 dx_M_mount_10 (by decide) ?_
    refine rm_p1 S hG dx_M_mount_11 rfl rfl (fun H locs hG => ?_)
    refine lv_iconst (v := 0) S.1 S.2.1 dx_M_mount_14 (by decide) ?_
    exact rg_ri S hr hlk hG dx_M_mount_15 (by rw [pm_mount, if_neg c_4]; exact ⟨rfl, rfl⟩)
  · skip
    refine lv_iconst (v := (-1)) S.1 S.2.1 dx_M_mount_7 (by decide) ?_
    exact rg_ri S hr hlk hG dx_M_mount_8 (by rw [pm_mount, if_pos c_4]; exact ⟨rfl, rfl⟩)

def pm_fail (bl : Nat → Int32) (dn bg mv lo : Int32) (q : Int32) : Int32 × MS :=
  if dn = 0 then (if q < 0 then (-2, (bl, dn, bg, mv, lo)) else if q < pm_ms bg then (if lo < 0 then (0, (bl, dn, bg, mv, q)) else (-3, (bl, dn, bg, mv, lo))) else (-2, (bl, dn, bg, mv, lo))) else (-1, (bl, dn, bg, mv, lo))
set_option maxHeartbeats 4000000 in
set_option maxRecDepth 100000 in
theorem cx_M_fail (l : Launch) (bl : Nat → Int32) (dn bg mv lo : Int32) (q : Int32) : mMi l y_M_fail c_M_fail (rm_n 1) [.int q] (bl, dn, bg, mv, lo) ((pm_fail bl dn bg mv lo q).1) (pm_fail bl dn bg mv lo q).2 := by
  intro K
  refine gMi_of (own := R_M) (by decide) rfl (Nat.le_of_ble_eq_true rfl) ?_
  intro p e s m args below meth c D A S hr hlk hG ls hl
  have hl : lv_has ls 2 [(0, .ref K.1), (1, .int q)] := hl
  refine lv_aload_n S.1 S.2.1 dx_M_fail_0 rfl (lv_at hl 0 rfl) ?_
  refine rm_g1 S hG dx_M_fail_1 ?_
  refine lv_if_eq (tgt := 9) S.1 S.2.1 dx_M_fail_4 (by decide) (fun c_4 => ?_) (fun c_4 => ?_)
  · skip
    refine lv_iload_n S.1 S.2.1 dx_M_fail_9 rfl (lv_at hl 1 rfl) ?_
    refine lv_if_lt (tgt := 21) S.1 S.2.1 dx_M_fail_10 (by decide) (fun c_10 => ?_) (fun c_10 => ?_)
    · skip
      refine lv_bipush (v := (-2)) S.1 S.2.1 dx_M_fail_21 (by decide) ?_
      exact rg_ri S hr hlk hG dx_M_fail_23 (by rw [pm_fail, if_pos c_4, if_pos c_10]; exact ⟨rfl, rfl⟩)
    · skip
      refine lv_iload_n S.1 S.2.1 dx_M_fail_13 rfl (lv_at hl 1 rfl) ?_
      refine lv_aload_n S.1 S.2.1 dx_M_fail_14 rfl (lv_at hl 0 rfl) ?_
      refine rm_ci (rest := [.int q]) S (cx_M_members l bl dn bg mv lo) gc_M_41 hd_M_members ⟨rfl, rfl⟩ ⟨Nat.le_of_ble_eq_true rfl, Nat.le_of_ble_eq_true rfl⟩ rfl hG hl.1 rfl (Nat.le_of_ble_eq_true rfl) dx_M_fail_15 (fun H locs hG => ?_)
      refine lv_icmp_lt (tgt := 24) S.1 S.2.1 dx_M_fail_18 (by decide) (fun c_18 => ?_) (fun c_18 => ?_)
      · skip
        refine lv_aload_n S.1 S.2.1 dx_M_fail_24 rfl (lv_at hl 0 rfl) ?_
        refine rm_g4 S hG dx_M_fail_25 ?_
        refine lv_if_lt (tgt := 34) S.1 S.2.1 dx_M_fail_28 (by decide) (fun c_28 => ?_) (fun c_28 => ?_)
        · skip
          refine lv_aload_n S.1 S.2.1 dx_M_fail_34 rfl (lv_at hl 0 rfl) ?_
          refine lv_iload_n S.1 S.2.1 dx_M_fail_35 rfl (lv_at hl 1 rfl) ?_
          refine rm_p4 S hG dx_M_fail_36 (fun H locs hG => ?_)
          refine lv_iconst (v := 0) S.1 S.2.1 dx_M_fail_39 (by decide) ?_
          exact rg_ri S hr hlk hG dx_M_fail_40 (by rw [pm_fail, if_pos c_4, if_neg c_10, if_pos c_18, if_pos c_28]; exact ⟨rfl, rfl⟩)
        · skip
          refine lv_bipush (v := (-3)) S.1 S.2.1 dx_M_fail_31 (by decide) ?_
          exact rg_ri S hr hlk hG dx_M_fail_33 (by rw [pm_fail, if_pos c_4, if_neg c_10, if_pos c_18, if_neg c_28]; exact ⟨rfl, rfl⟩)
      · skip
        refine lv_bipush (v := (-2)) S.1 S.2.1 dx_M_fail_21 (by decide) ?_
        exact rg_ri S hr hlk hG dx_M_fail_23 (by rw [pm_fail, if_pos c_4, if_neg c_10, if_neg c_18]; exact ⟨rfl, rfl⟩)
  · skip
    refine lv_iconst (v := (-1)) S.1 S.2.1 dx_M_fail_7 (by decide) ?_
    exact rg_ri S hr hlk hG dx_M_fail_8 (by rw [pm_fail, if_neg c_4]; exact ⟨rfl, rfl⟩)

def pm_replace (bl : Nat → Int32) (dn bg mv lo : Int32) : Int32 × MS :=
  if dn = 0 then (if 0 ≤ lo then (lo, (bl, dn, bg, mv, -1)) else (-2, (bl, dn, bg, mv, lo))) else (-1, (bl, dn, bg, mv, lo))
set_option maxHeartbeats 4000000 in
set_option maxRecDepth 100000 in
theorem cx_M_replace (l : Launch) (bl : Nat → Int32) (dn bg mv lo : Int32) : mMi l y_M_replace c_M_replace (rm_n 0) [] (bl, dn, bg, mv, lo) ((pm_replace bl dn bg mv lo).1) (pm_replace bl dn bg mv lo).2 := by
  intro K
  refine gMi_of (own := R_M) (by decide) rfl (Nat.le_of_ble_eq_true rfl) ?_
  intro p e s m args below meth c D A S hr hlk hG ls hl
  have hl : lv_has ls 2 [(0, .ref K.1)] := hl
  refine lv_aload_n S.1 S.2.1 dx_M_replace_0 rfl (lv_at hl 0 rfl) ?_
  refine rm_g1 S hG dx_M_replace_1 ?_
  refine lv_if_eq (tgt := 9) S.1 S.2.1 dx_M_replace_4 (by decide) (fun c_4 => ?_) (fun c_4 => ?_)
  · skip
    refine lv_aload_n S.1 S.2.1 dx_M_replace_9 rfl (lv_at hl 0 rfl) ?_
    refine rm_g4 S hG dx_M_replace_10 ?_
    refine lv_if_ge (tgt := 19) S.1 S.2.1 dx_M_replace_13 (by decide) (fun c_13 => ?_) (fun c_13 => ?_)
    · skip
      refine lv_aload_n S.1 S.2.1 dx_M_replace_19 rfl (lv_at hl 0 rfl) ?_
      refine rm_g4 S hG dx_M_replace_20 ?_
      refine lv_istore_n (lv' := [(1, .int lo), (0, .ref K.1)]) S.1 S.2.1 dx_M_replace_23 rfl hl (by decide) rfl (fun ls hl => ?_)
      refine lv_aload_n S.1 S.2.1 dx_M_replace_24 rfl (lv_at hl 1 rfl) ?_
      refine lv_iconst (v := (-1)) S.1 S.2.1 dx_M_replace_25 (by decide) ?_
      refine rm_p4 S hG dx_M_replace_26 (fun H locs hG => ?_)
      refine lv_iload_n S.1 S.2.1 dx_M_replace_29 rfl (lv_at hl 0 rfl) ?_
      exact rg_ri S hr hlk hG dx_M_replace_30 (by rw [pm_replace, if_pos c_4, if_pos c_13]; exact ⟨rfl, rfl⟩)
    · skip
      refine lv_bipush (v := (-2)) S.1 S.2.1 dx_M_replace_16 (by decide) ?_
      exact rg_ri S hr hlk hG dx_M_replace_18 (by rw [pm_replace, if_pos c_4, if_neg c_13]; exact ⟨rfl, rfl⟩)
  · skip
    refine lv_iconst (v := (-1)) S.1 S.2.1 dx_M_replace_7 (by decide) ?_
    exact rg_ri S hr hlk hG dx_M_replace_8 (by rw [pm_replace, if_neg c_4]; exact ⟨rfl, rfl⟩)

def pm_scrub (bl : Nat → Int32) (dn bg mv lo : Int32) : Int32 × MS :=
  if dn = 0 then (if lo < 0 then (0, (bl, dn, bg, mv, lo)) else (-2, (bl, dn, bg, mv, lo))) else (-1, (bl, dn, bg, mv, lo))
set_option maxHeartbeats 4000000 in
set_option maxRecDepth 100000 in
theorem cx_M_scrub (l : Launch) (bl : Nat → Int32) (dn bg mv lo : Int32) : mMi l y_M_scrub c_M_scrub (rm_n 0) [] (bl, dn, bg, mv, lo) ((pm_scrub bl dn bg mv lo).1) (pm_scrub bl dn bg mv lo).2 := by
  intro K
  refine gMi_of (own := R_M) (by decide) rfl (Nat.le_of_ble_eq_true rfl) ?_
  intro p e s m args below meth c D A S hr hlk hG ls hl
  have hl : lv_has ls 1 [(0, .ref K.1)] := hl
  refine lv_aload_n S.1 S.2.1 dx_M_scrub_0 rfl (lv_at hl 0 rfl) ?_
  refine rm_g1 S hG dx_M_scrub_1 ?_
  refine lv_if_eq (tgt := 9) S.1 S.2.1 dx_M_scrub_4 (by decide) (fun c_4 => ?_) (fun c_4 => ?_)
  · skip
    refine lv_aload_n S.1 S.2.1 dx_M_scrub_9 rfl (lv_at hl 0 rfl) ?_
    refine rm_g4 S hG dx_M_scrub_10 ?_
    refine lv_if_lt (tgt := 19) S.1 S.2.1 dx_M_scrub_13 (by decide) (fun c_13 => ?_) (fun c_13 => ?_)
    · skip
      refine lv_iconst (v := 0) S.1 S.2.1 dx_M_scrub_19 (by decide) ?_
      exact rg_ri S hr hlk hG dx_M_scrub_20 (by rw [pm_scrub, if_pos c_4, if_pos c_13]; exact ⟨rfl, rfl⟩)
    · skip
      refine lv_bipush (v := (-2)) S.1 S.2.1 dx_M_scrub_16 (by decide) ?_
      exact rg_ri S hr hlk hG dx_M_scrub_18 (by rw [pm_scrub, if_pos c_4, if_neg c_13]; exact ⟨rfl, rfl⟩)
  · skip
    refine lv_iconst (v := (-1)) S.1 S.2.1 dx_M_scrub_7 (by decide) ?_
    exact rg_ri S hr hlk hG dx_M_scrub_8 (by rw [pm_scrub, if_neg c_4]; exact ⟨rfl, rfl⟩)

def pm_z (bl : Nat → Int32) (n : Nat) : Nat → Int32 := px_itr (fun i bl => upd bl (24 + i) 0) n bl
def pm_mo (bl : Nat → Int32) (mv : Int32) : Nat → Int32 := if mv + 1 = 6 then pm_z bl 24 else bl
set_option maxHeartbeats 4000000 in
set_option maxRecDepth 100000 in
theorem lp_M_move {p : Program} {l : Launch} {e : Env} {s : State} {m : MethodId} {args : Array Value} {below : List Frame} {meth : Method} {c : Code} {D : va_G} {A : Nat → Prop} {K : MK} {Q : State → Prop} {bl : Nat → Int32} {dn bg mv lo : Int32} (S : CallFix p m c b_M_move 2 s args lw_gd R_M) 
    (kx : ∀ (H : Heap) (locs : List Loc) (ls : Array Slot), gG D A s (mw K) (mt K) ((pm_z bl 24), dn, bg, mv, lo) H locs → lv_has ls 2 [(1, .int (nI (24 + 24))), (0, .ref K.1)] → W p l e (rm_n 0) s m args below meth c H locs 0 0 Q (F0 m 41 ls [])) :
    ∀ (n i : Nat), i + n = 24 → ∀ (H : Heap) (locs : List Loc) (ls : Array Slot), gG D A s (mw K) (mt K) ((pm_z bl i), dn, bg, mv, lo) H locs → lv_has ls 2 [(1, .int (nI (24 + i))), (0, .ref K.1)] → W p l e (rm_n 0) s m args below meth c H locs 0 0 Q (F0 m 22 ls []) := by
  intro n
  induction n with
  | zero =>
    intro i hi H locs ls hG hl
    have hi : i = 24 := by omega
    subst hi
    refine lv_iload_n S.1 S.2.1 dx_M_move_22 rfl (lv_at hl 0 rfl) ?_
    refine lv_bipush (v := 48) S.1 S.2.1 dx_M_move_23 (by decide) ?_
    refine lv_icmp_ge (tgt := 41) S.1 S.2.1 dx_M_move_25 (by decide) (fun _ => ?_) (fun h9 => absurd (nI_le (Nat.le_refl 48) (by omega)) h9)
    exact kx _ _ _ hG (lv_sub hl [0, 1] rfl)
  | succ n ih =>
    intro i hi H locs ls hG hl
    refine lv_iload_n S.1 S.2.1 dx_M_move_22 rfl (lv_at hl 0 rfl) ?_
    refine lv_bipush (v := 48) S.1 S.2.1 dx_M_move_23 (by decide) ?_
    refine lv_icmp_ge (tgt := 41) S.1 S.2.1 dx_M_move_25 (by decide) (fun h9 => absurd h9 (nI_ge (a := 24 + i) (b := 48) (by omega) (by omega))) (fun _ => ?_)
    refine lv_aload_n S.1 S.2.1 dx_M_move_28 rfl (lv_at hl 1 rfl) ?_
    refine rm_g0 S hG dx_M_move_29 ?_
    refine lv_iload_n S.1 S.2.1 dx_M_move_32 rfl (lv_at hl 0 rfl) ?_
    refine lv_iconst (v := 0) S.1 S.2.1 dx_M_move_33 (by decide) ?_
    refine rm_bs (i := 24 + i) (by omega) S hG dx_M_move_34 (fun H locs hG => ?_)
    refine lv_iinc (v := nI (24 + (i + 1))) (lv' := [(1, .int (nI (24 + (i + 1)))), (0, .ref K.1)]) S.1 S.2.1 dx_M_move_35 hl (k := 0) rfl (nI_1 (24 + i)) (by decide) rfl (fun ls hl => ?_)
    refine lv_goto (tgt := 22) S.1 S.2.1 dx_M_move_38 (by decide) ?_
    exact ih (i + 1) (by omega) _ _ _ hG (lv_sub hl [0, 1] rfl)

set_option maxHeartbeats 4000000 in
set_option maxRecDepth 100000 in
theorem cx_M_move (l : Launch) (bl : Nat → Int32) (dn bg mv lo : Int32) : mMv l y_M_move c_M_move (rm_n 0) [] (bl, dn, bg, mv, lo) (pm_mo bl mv, dn, bg, mv + 1, lo) := by
  intro K
  refine gMv_of (own := R_M) (by decide) rfl (Nat.le_of_ble_eq_true rfl) ?_
  intro p e s m args below meth c D A S hr hlk hG ls hl
  have hl : lv_has ls 2 [(0, .ref K.1)] := hl
  refine lv_aload_n S.1 S.2.1 dx_M_move_0 rfl (lv_at hl 0 rfl) ?_
  refine lv_dup S.1 S.2.1 dx_M_move_1 rfl ?_
  refine rm_g3 S hG dx_M_move_2 ?_
  refine lv_iconst (v := 1) S.1 S.2.1 dx_M_move_5 (by decide) ?_
  refine lv_iadd S.1 S.2.1 dx_M_move_6 ?_
  refine rm_p3 S hG dx_M_move_7 (fun H locs hG => ?_)
  refine lv_aload_n S.1 S.2.1 dx_M_move_10 rfl (lv_at hl 0 rfl) ?_
  refine rm_g3 S hG dx_M_move_11 ?_
  refine lv_bipush (v := 6) S.1 S.2.1 dx_M_move_14 (by decide) ?_
  refine lv_icmp_ne (tgt := 41) S.1 S.2.1 dx_M_move_16 (by decide) (fun c_16 => ?_) (fun c_16 => ?_)
  · skip
    exact rg_rv S hr hlk hG dx_M_move_41 (by rw [pm_mo, if_neg c_16])
  · skip
    refine lv_bipush (v := 24) S.1 S.2.1 dx_M_move_19 (by decide) ?_
    refine lv_istore_n (lv' := [(1, .int 24), (0, .ref K.1)]) S.1 S.2.1 dx_M_move_21 rfl hl (by decide) rfl (fun ls hl => ?_)
    refine lp_M_move (bl := bl) S (fun H locs ls hG hl => ?_) 24 0 rfl _ _ _ hG (lv_sub hl [0, 1] rfl)
    exact rg_rv S hr hlk hG dx_M_move_41 (by rw [pm_mo, if_pos c_16])

def pm_step (bl : Nat → Int32) (dn bg mv lo : Int32) : Int32 × MS :=
  if dn = 0 then (if pm_gr bg mv = 1 then (mv + 1, (pm_mo bl mv, dn, bg, mv + 1, lo)) else (-2, (bl, dn, bg, mv, lo))) else (-1, (bl, dn, bg, mv, lo))
set_option maxHeartbeats 4000000 in
set_option maxRecDepth 100000 in
theorem cx_M_step (l : Launch) (bl : Nat → Int32) (dn bg mv lo : Int32) : mMi l y_M_step c_M_step (rm_n 1) [] (bl, dn, bg, mv, lo) ((pm_step bl dn bg mv lo).1) (pm_step bl dn bg mv lo).2 := by
  intro K
  refine gMi_of (own := R_M) (by decide) rfl (Nat.le_of_ble_eq_true rfl) ?_
  intro p e s m args below meth c D A S hr hlk hG ls hl
  have hl : lv_has ls 1 [(0, .ref K.1)] := hl
  refine lv_aload_n S.1 S.2.1 dx_M_step_0 rfl (lv_at hl 0 rfl) ?_
  refine rm_g1 S hG dx_M_step_1 ?_
  refine lv_if_eq (tgt := 9) S.1 S.2.1 dx_M_step_4 (by decide) (fun c_4 => ?_) (fun c_4 => ?_)
  · skip
    refine lv_aload_n S.1 S.2.1 dx_M_step_9 rfl (lv_at hl 0 rfl) ?_
    refine rm_ci (rest := []) S (cx_M_growth l bl dn bg mv lo) gc_M_35 hd_M_growth ⟨rfl, rfl⟩ ⟨Nat.le_of_ble_eq_true rfl, Nat.le_of_ble_eq_true rfl⟩ rfl hG hl.1 rfl (Nat.le_of_ble_eq_true rfl) dx_M_step_10 (fun H locs hG => ?_)
    refine lv_iconst (v := 1) S.1 S.2.1 dx_M_step_13 (by decide) ?_
    refine lv_icmp_eq (tgt := 20) S.1 S.2.1 dx_M_step_14 (by decide) (fun c_14 => ?_) (fun c_14 => ?_)
    · skip
      refine lv_aload_n S.1 S.2.1 dx_M_step_20 rfl (lv_at hl 0 rfl) ?_
      refine rm_cv (rest := []) S (cx_M_move l bl dn bg mv lo) gc_M_38 hd_M_move ⟨rfl, rfl⟩ ⟨Nat.le_of_ble_eq_true rfl, Nat.le_of_ble_eq_true rfl⟩ rfl hG hl.1 rfl (Nat.le_of_ble_eq_true rfl) dx_M_step_21 (fun H locs hG => ?_)
      refine lv_aload_n S.1 S.2.1 dx_M_step_24 rfl (lv_at hl 0 rfl) ?_
      refine rm_g3 S hG dx_M_step_25 ?_
      exact rg_ri S hr hlk hG dx_M_step_28 (by rw [pm_step, if_pos c_4, if_pos c_14]; exact ⟨rfl, rfl⟩)
    · skip
      refine lv_bipush (v := (-2)) S.1 S.2.1 dx_M_step_17 (by decide) ?_
      exact rg_ri S hr hlk hG dx_M_step_19 (by rw [pm_step, if_pos c_4, if_neg c_14]; exact ⟨rfl, rfl⟩)
  · skip
    refine lv_iconst (v := (-1)) S.1 S.2.1 dx_M_step_7 (by decide) ?_
    exact rg_ri S hr hlk hG dx_M_step_8 (by rw [pm_step, if_neg c_4]; exact ⟨rfl, rfl⟩)

def pm_sc (bl : Nat → Int32) (dn bg mv lo : Int32) (pt : Int32) : Int32 × MS :=
  if dn = 0 then (if pm_gr bg mv = 1 then (if pt < 0 then (-3, (bl, dn, bg, mv, lo)) else if pt ≤ 4 then (if pt = 4 then (mv + 1, (pm_mo bl mv, 1, bg, mv + 1, lo)) else (mv, (bl, 1, bg, mv, lo))) else (-3, (bl, dn, bg, mv, lo))) else (-2, (bl, dn, bg, mv, lo))) else (-1, (bl, dn, bg, mv, lo))
set_option maxHeartbeats 4000000 in
set_option maxRecDepth 100000 in
theorem cx_M_stepCrash (l : Launch) (bl : Nat → Int32) (dn bg mv lo : Int32) (pt : Int32) : mMi l y_M_stepCrash c_M_stepCrash (rm_n 1) [.int pt] (bl, dn, bg, mv, lo) ((pm_sc bl dn bg mv lo pt).1) (pm_sc bl dn bg mv lo pt).2 := by
  intro K
  refine gMi_of (own := R_M) (by decide) rfl (Nat.le_of_ble_eq_true rfl) ?_
  intro p e s m args below meth c D A S hr hlk hG ls hl
  have hl : lv_has ls 2 [(0, .ref K.1), (1, .int pt)] := hl
  refine lv_aload_n S.1 S.2.1 dx_M_stepCrash_0 rfl (lv_at hl 0 rfl) ?_
  refine rm_g1 S hG dx_M_stepCrash_1 ?_
  refine lv_if_eq (tgt := 9) S.1 S.2.1 dx_M_stepCrash_4 (by decide) (fun c_4 => ?_) (fun c_4 => ?_)
  · skip
    refine lv_aload_n S.1 S.2.1 dx_M_stepCrash_9 rfl (lv_at hl 0 rfl) ?_
    refine rm_ci (rest := []) S (cx_M_growth l bl dn bg mv lo) gc_M_35 hd_M_growth ⟨rfl, rfl⟩ ⟨Nat.le_of_ble_eq_true rfl, Nat.le_of_ble_eq_true rfl⟩ rfl hG hl.1 rfl (Nat.le_of_ble_eq_true rfl) dx_M_stepCrash_10 (fun H locs hG => ?_)
    refine lv_iconst (v := 1) S.1 S.2.1 dx_M_stepCrash_13 (by decide) ?_
    refine lv_icmp_eq (tgt := 20) S.1 S.2.1 dx_M_stepCrash_14 (by decide) (fun c_14 => ?_) (fun c_14 => ?_)
    · skip
      refine lv_iload_n S.1 S.2.1 dx_M_stepCrash_20 rfl (lv_at hl 1 rfl) ?_
      refine lv_if_lt (tgt := 29) S.1 S.2.1 dx_M_stepCrash_21 (by decide) (fun c_21 => ?_) (fun c_21 => ?_)
      · skip
        refine lv_bipush (v := (-3)) S.1 S.2.1 dx_M_stepCrash_29 (by decide) ?_
        exact rg_ri S hr hlk hG dx_M_stepCrash_31 (by rw [pm_sc, if_pos c_4, if_pos c_14, if_pos c_21]; exact ⟨rfl, rfl⟩)
      · skip
        refine lv_iload_n S.1 S.2.1 dx_M_stepCrash_24 rfl (lv_at hl 1 rfl) ?_
        refine lv_iconst (v := 4) S.1 S.2.1 dx_M_stepCrash_25 (by decide) ?_
        refine lv_icmp_le (tgt := 32) S.1 S.2.1 dx_M_stepCrash_26 (by decide) (fun c_26 => ?_) (fun c_26 => ?_)
        · skip
          refine lv_iload_n S.1 S.2.1 dx_M_stepCrash_32 rfl (lv_at hl 1 rfl) ?_
          refine lv_iconst (v := 4) S.1 S.2.1 dx_M_stepCrash_33 (by decide) ?_
          refine lv_icmp_ne (tgt := 41) S.1 S.2.1 dx_M_stepCrash_34 (by decide) (fun c_34 => ?_) (fun c_34 => ?_)
          · skip
            refine lv_aload_n S.1 S.2.1 dx_M_stepCrash_41 rfl (lv_at hl 0 rfl) ?_
            refine lv_iconst (v := 1) S.1 S.2.1 dx_M_stepCrash_42 (by decide) ?_
            refine rm_p1 S hG dx_M_stepCrash_43 rfl rfl (fun H locs hG => ?_)
            refine lv_aload_n S.1 S.2.1 dx_M_stepCrash_46 rfl (lv_at hl 0 rfl) ?_
            refine rm_g3 S hG dx_M_stepCrash_47 ?_
            exact rg_ri S hr hlk hG dx_M_stepCrash_50 (by rw [pm_sc, if_pos c_4, if_pos c_14, if_neg c_21, if_pos c_26, if_neg c_34]; exact ⟨rfl, rfl⟩)
          · skip
            refine lv_aload_n S.1 S.2.1 dx_M_stepCrash_37 rfl (lv_at hl 0 rfl) ?_
            refine rm_cv (rest := []) S (cx_M_move l bl dn bg mv lo) gc_M_38 hd_M_move ⟨rfl, rfl⟩ ⟨Nat.le_of_ble_eq_true rfl, Nat.le_of_ble_eq_true rfl⟩ rfl hG hl.1 rfl (Nat.le_of_ble_eq_true rfl) dx_M_stepCrash_38 (fun H locs hG => ?_)
            refine lv_aload_n S.1 S.2.1 dx_M_stepCrash_41 rfl (lv_at hl 0 rfl) ?_
            refine lv_iconst (v := 1) S.1 S.2.1 dx_M_stepCrash_42 (by decide) ?_
            refine rm_p1 S hG dx_M_stepCrash_43 rfl rfl (fun H locs hG => ?_)
            refine lv_aload_n S.1 S.2.1 dx_M_stepCrash_46 rfl (lv_at hl 0 rfl) ?_
            refine rm_g3 S hG dx_M_stepCrash_47 ?_
            exact rg_ri S hr hlk hG dx_M_stepCrash_50 (by rw [pm_sc, if_pos c_4, if_pos c_14, if_neg c_21, if_pos c_26, if_pos c_34]; exact ⟨rfl, rfl⟩)
        · skip
          refine lv_bipush (v := (-3)) S.1 S.2.1 dx_M_stepCrash_29 (by decide) ?_
          exact rg_ri S hr hlk hG dx_M_stepCrash_31 (by rw [pm_sc, if_pos c_4, if_pos c_14, if_neg c_21, if_neg c_26]; exact ⟨rfl, rfl⟩)
    · skip
      refine lv_bipush (v := (-2)) S.1 S.2.1 dx_M_stepCrash_17 (by decide) ?_
      exact rg_ri S hr hlk hG dx_M_stepCrash_19 (by rw [pm_sc, if_pos c_4, if_neg c_14]; exact ⟨rfl, rfl⟩)
  · skip
    refine lv_iconst (v := (-1)) S.1 S.2.1 dx_M_stepCrash_7 (by decide) ?_
    exact rg_ri S hr hlk hG dx_M_stepCrash_8 (by rw [pm_sc, if_neg c_4]; exact ⟨rfl, rfl⟩)
end
section
/-! the two constructors, and calls from the law's frame: the world of five cells -/
def x0 : XS := (fun _ => 0, fun _ => 0, 1, -1, 0, 0, 0, -1)
def m0 : MS := (fun _ => 0, 0, 0, 0, -1)
def xn (h0 : Nat) : va_W := [(h0, .inr (0, [.null, .null, .int 0, .int 0, .int 0, .int 0, .int 0, .int 0]))]
def mn (h0 : Nat) : va_W := [(h0, .inr (1, [.null, .int 0, .int 0, .int 0, .int 0]))]
set_option maxHeartbeats 4000000 in
set_option maxRecDepth 100000 in
/-- X(): two new arrays of 80 and 4 slots -/
theorem cx_X_init (l : Launch) (D : va_G) (h0 sz : Nat) : Met l y_X_init (c_X_init :: lw_gd) ({ frames := 1, cells := 2, slots := 84, locals := 12 }) (va_Pc [.ref h0] (fun U => U.heap.size = sz ∧ va_P D classes (xn h0) U.heap ∧ va_K D classes [] U ∧ va_D (fun _ => True) (xn h0))) (va_Qv (fun K : XK => K.1 = h0) (fun K t => gAt D (xw K) (xt K) (va_A (xn h0) sz) x0 t) (va_A (xn h0) sz)) 2 84 (va_A (xn h0) sz) := by
  refine Met.ofW (cc := b_X_init) (maxL := 1) (ret := none) (by decide) rfl ?_
  intro p e s m args below meth c s₁ B hml hv
  obtain ⟨rfl, hsz, hP, hK, hD0⟩ := hv
  have hx := B.exec
  have hb := B.bytes
  have hr := B.returns
  have hts0 := atoms_spec (ws := c_X_init :: lw_gd) B.pre
  have hts : ∀ w ∈ lw_gd, w.before #[.ref h0] s = true := fun w h => hts0 w (List.mem_cons_of_mem _ h)
  have hown : s.vm.findClass R_X = some m.cls := findClass_of_methodNamed B.named
  have hlocks := B.notSynchronized
  have hin : meth.name = "<init>" := (name_of_methodNamed B.named B.method).1
  subst hsz
  have hD := hD0.self (sz := s.heap.size)
  generalize hAe : va_A (xn h0) s.heap.size = A at hD ⊢
  have hA : ∀ q : Nat, s.heap.size ≤ q → A q := fun q h => by rw [← hAe]; exact Or.inr h
  have hS : va_S A s.heap s.heap [] := va_S.rf
  have hl := lv_entry ([.ref h0]) (n := 1) (Nat.le_of_ble_eq_true rfl)
  rw [lg_entry_eq]
  generalize (lg_sl ([.ref h0]) ++ List.replicate (1 - (lg_sl ([.ref h0])).length) Slot.unset).toArray = ls at hl ⊢
  have hl : lv_has ls 1 [(0, .ref h0)] := hl
  refine lv_aload_n hx hb dx_X_init_0 rfl (lv_at hl 0 rfl) ?_
  refine W.objInit hx hb hown (hts _ kw_8) (hts _ kw_9) (hts _ kw_10) rfl (by rw [hml]; exact hl.1) rfl dx_X_init_1 (Nat.le_of_ble_eq_true rfl) (Nat.le_of_ble_eq_true rfl) ?_
  refine W.eq (g2 := F0 m 4 ls []) rfl ?_
  refine lv_aload_n hx hb dx_X_init_4 rfl (lv_at hl 0 rfl) ?_
  refine lv_bipush (v := 80) hx hb dx_X_init_5 (by decide) ?_
  refine va_newa (atype := .int) (ty := .int) (N' := 80) (a0 := (80, .inl (fun _ => 0))) hx hb (hts _ kw_36) rfl hK hP hD hS hA (fun _ => rfl) (by decide) (by decide) (by decide) (Nat.le_of_ble_eq_true rfl) (Nat.le_of_ble_eq_true rfl) dx_X_init_7 (fun q1 cA H hK hP hD hS => ?_)
  have hP : va_P D classes [(h0, .inr (0, [.null, .null, .int 0, .int 0, .int 0, .int 0, .int 0, .int 0])), (q1, .inl (cA, 80, .inl (fun _ => 0)))] H := hP
  have hD : va_D A [(h0, .inr (0, [.null, .null, .int 0, .int 0, .int 0, .int 0, .int 0, .int 0])), (q1, .inl (cA, 80, .inl (fun _ => 0)))] := hD
  refine va_putF (D := D) (ci := 0) (v := .ref q1) (ty := .array .int) (C := R_X) (T := F_X) (N := 8) hx hb hts i_X t_X t_X_ok n_X hown hK hP hD hS 0 rfl rfl 0 (by decide) (hts _ kw_11) (fun _ h9 => h9) rfl hin rfl (by decide +kernel) rfl rfl (Nat.le_of_ble_eq_true rfl) dx_X_init_9 (fun H locs hP hD hS => ?_)
  refine lv_aload_n hx hb dx_X_init_12 rfl (lv_at hl 0 rfl) ?_
  refine lv_iconst (v := 4) hx hb dx_X_init_13 (by decide) ?_
  refine va_newa (atype := .int) (ty := .int) (N' := 4) (a0 := (4, .inl (fun _ => 0))) hx hb (hts _ kw_36) rfl hK hP hD hS hA (fun _ => rfl) (by decide) (by decide) (by decide) (Nat.le_of_ble_eq_true rfl) (Nat.le_of_ble_eq_true rfl) dx_X_init_14 (fun q2 cB H hK hP hD hS => ?_)
  have hP : va_P D classes [(h0, .inr (0, [.ref q1, .null, .int 0, .int 0, .int 0, .int 0, .int 0, .int 0])), (q1, .inl (cA, 80, .inl (fun _ => 0))), (q2, .inl (cB, 4, .inl (fun _ => 0)))] H := hP
  have hD : va_D A [(h0, .inr (0, [.ref q1, .null, .int 0, .int 0, .int 0, .int 0, .int 0, .int 0])), (q1, .inl (cA, 80, .inl (fun _ => 0))), (q2, .inl (cB, 4, .inl (fun _ => 0)))] := hD
  have hK : va_K D classes [(cA, .int), (cB, .int)] s := hK
  refine va_putF (D := D) (ci := 0) (v := .ref q2) (ty := .array .int) (C := R_X) (T := F_X) (N := 8) hx hb hts i_X t_X t_X_ok n_X hown hK hP hD hS 0 rfl rfl 1 (by decide) (hts _ kw_12) (fun _ h9 => h9) rfl hin rfl (by decide +kernel) rfl rfl (Nat.le_of_ble_eq_true rfl) dx_X_init_16 (fun H locs hP hD hS => ?_)
  obtain ⟨K, hKe⟩ : ∃ K : XK, K = (h0, q1, q2, cA, cB) := ⟨_, rfl⟩
  have hG : gG D A s (xw K) (xt K) (fun _ => 0, fun _ => 0, 0, 0, 0, 0, 0, 0) H locs := by rw [hKe]; exact ⟨hP, hD, hK, hS, hA⟩
  have e0 : h0 = K.1 := by rw [hKe]
  have S : CallFix p m c b_X_init 1 s #[.ref h0] lw_gd R_X := ⟨hx, hb, hml, hown, hts⟩
  have hl : lv_has ls 1 [(0, .ref K.1)] := by rw [← e0]; exact hl
  refine lv_aload_n hx hb dx_X_init_19 rfl (lv_at hl 0 rfl) ?_
  refine lv_iconst (v := 1) hx hb dx_X_init_20 (by decide) ?_
  refine rx_p2 S hG dx_X_init_21 rfl rfl (fun H locs hG => ?_)
  refine lv_aload_n hx hb dx_X_init_24 rfl (lv_at hl 0 rfl) ?_
  refine lv_iconst (v := -1) hx hb dx_X_init_25 (by decide) ?_
  refine rx_p3 S hG dx_X_init_26 (fun H locs hG => ?_)
  refine lv_aload_n hx hb dx_X_init_29 rfl (lv_at hl 0 rfl) ?_
  refine lv_iconst (v := -1) hx hb dx_X_init_30 (by decide) ?_
  refine rx_p7 S hG dx_X_init_31 (fun H locs hG => ?_)
  refine W.widen (k := 2) (n := 84) (by decide) (by decide) ?_
  obtain ⟨hP, hD, hK, hS, hA⟩ := hG
  exact W.vret hx hb hr (fun t ht hW => ⟨⟨K, rfl, e0.symm, by rw [ht]; exact hP, va_K.moved hW.alike hK, hD⟩, hS.F ht⟩) hS.2.2 dx_X_init_34
set_option maxHeartbeats 4000000 in
set_option maxRecDepth 100000 in
/-- M(): one new array of 48 slots -/
theorem cx_M_init (l : Launch) (D : va_G) (h0 sz : Nat) : Met l y_M_init (c_M_init :: lw_gd) ({ frames := 1, cells := 1, slots := 48, locals := 12 }) (va_Pc [.ref h0] (fun U => U.heap.size = sz ∧ va_P D classes (mn h0) U.heap ∧ va_K D classes [] U ∧ va_D (fun _ => True) (mn h0))) (va_Qv (fun K : MK => K.1 = h0) (fun K t => gAt D (mw K) (mt K) (va_A (mn h0) sz) m0 t) (va_A (mn h0) sz)) 1 48 (va_A (mn h0) sz) := by
  refine Met.ofW (cc := b_M_init) (maxL := 1) (ret := none) (by decide) rfl ?_
  intro p e s m args below meth c s₁ B hml hv
  obtain ⟨rfl, hsz, hP, hK, hD0⟩ := hv
  have hx := B.exec
  have hb := B.bytes
  have hr := B.returns
  have hts0 := atoms_spec (ws := c_M_init :: lw_gd) B.pre
  have hts : ∀ w ∈ lw_gd, w.before #[.ref h0] s = true := fun w h => hts0 w (List.mem_cons_of_mem _ h)
  have hown : s.vm.findClass R_M = some m.cls := findClass_of_methodNamed B.named
  have hlocks := B.notSynchronized
  subst hsz
  have hD := hD0.self (sz := s.heap.size)
  generalize hAe : va_A (mn h0) s.heap.size = A at hD ⊢
  have hA : ∀ q : Nat, s.heap.size ≤ q → A q := fun q h => by rw [← hAe]; exact Or.inr h
  have hS : va_S A s.heap s.heap [] := va_S.rf
  have hl := lv_entry ([.ref h0]) (n := 1) (Nat.le_of_ble_eq_true rfl)
  rw [lg_entry_eq]
  generalize (lg_sl ([.ref h0]) ++ List.replicate (1 - (lg_sl ([.ref h0])).length) Slot.unset).toArray = ls at hl ⊢
  have hl : lv_has ls 1 [(0, .ref h0)] := hl
  refine lv_aload_n hx hb dx_M_init_0 rfl (lv_at hl 0 rfl) ?_
  refine W.objInit hx hb hown (hts _ kw_186) (hts _ kw_9) (hts _ kw_10) rfl (by rw [hml]; exact hl.1) rfl dx_M_init_1 (Nat.le_of_ble_eq_true rfl) (Nat.le_of_ble_eq_true rfl) ?_
  refine W.eq (g2 := F0 m 4 ls []) rfl ?_
  refine lv_aload_n hx hb dx_M_init_4 rfl (lv_at hl 0 rfl) ?_
  refine lv_bipush (v := 48) hx hb dx_M_init_5 (by decide) ?_
  refine va_newa (atype := .int) (ty := .int) (N' := 48) (a0 := (48, .inl (fun _ => 0))) hx hb (hts _ kw_36) rfl hK hP hD hS hA (fun _ => rfl) (by decide) (by decide) (by decide) (Nat.le_of_ble_eq_true rfl) (Nat.le_of_ble_eq_true rfl) dx_M_init_7 (fun q1 cA H hK hP hD hS => ?_)
  have hP : va_P D classes [(h0, .inr (1, [.null, .int 0, .int 0, .int 0, .int 0])), (q1, .inl (cA, 48, .inl (fun _ => 0)))] H := hP
  have hD : va_D A [(h0, .inr (1, [.null, .int 0, .int 0, .int 0, .int 0])), (q1, .inl (cA, 48, .inl (fun _ => 0)))] := hD
  have hK : va_K D classes [(cA, .int)] s := hK
  refine va_put (D := D) (ci := 1) (v := .ref q1) (ty := .array .int) (C := R_M) (T := F_M) (N := 5) hx hb hts i_M t_M t_M_ok n_M hown hK hP hD hS 0 rfl rfl 0 (by decide) (hts _ kw_187) (fun _ h9 => h9) rfl (by decide +kernel) rfl rfl (Nat.le_of_ble_eq_true rfl) dx_M_init_9 (fun H locs hP hD hS => ?_)
  obtain ⟨K, hKe⟩ : ∃ K : MK, K = (h0, q1, cA) := ⟨_, rfl⟩
  have hG : gG D A s (mw K) (mt K) (fun _ => 0, 0, 0, 0, 0) H locs := by rw [hKe]; exact ⟨hP, hD, hK, hS, hA⟩
  have e0 : h0 = K.1 := by rw [hKe]
  have S : CallFix p m c b_M_init 1 s #[.ref h0] lw_gd R_M := ⟨hx, hb, hml, hown, hts⟩
  have hl : lv_has ls 1 [(0, .ref K.1)] := by rw [← e0]; exact hl
  refine lv_aload_n hx hb dx_M_init_12 rfl (lv_at hl 0 rfl) ?_
  refine lv_iconst (v := -1) hx hb dx_M_init_13 (by decide) ?_
  refine rm_p4 S hG dx_M_init_14 (fun H locs hG => ?_)
  refine W.widen (k := 1) (n := 48) (by decide) (by decide) ?_
  obtain ⟨hP, hD, hK, hS, hA⟩ := hG
  exact W.vret hx hb hr (fun t ht hW => ⟨⟨K, rfl, e0.symm, by rw [ht]; exact hP, va_K.moved hW.alike hK, hD⟩, hS.F ht⟩) hS.2.2 dx_M_init_17
/-- the law's world: X's three cells, M's two -/
def gL (D : va_G) (s : State) (K : XK) (J : MK) (u : XS) (v : MS) (H : Heap) (locs : List Loc) : Prop :=
  va_P D classes (xw K u ++ mw J v) H ∧ va_D (fun q : Nat => s.heap.size ≤ q) (xw K u ++ mw J v) ∧ va_K D classes (xt K ++ mt J) s ∧ va_S (fun q : Nat => s.heap.size ≤ q) s.heap H locs
section RL
variable {p : Program} {l : Launch} {e : Env} {R : Room} {s : State} {m : MethodId} {args : Array Value} {below : List Frame} {meth : Method} {c : Code} {H : Heap} {locs : List Loc} {Q : State → Prop}
variable {cc : ByteArray} {nL pc cells slots : Nat} {ls : Array Slot} {rest : List Value} {D : va_G} {own : String} {K : XK} {J : MK}
theorem rl_xi {y : MethodName} {bytes : ByteArray} {maxL n idx : Nat} {ret : Option FieldType} {rm : Room} {as st0 : List Value} {u u' : XS} {v : MS} {r : Int32}
    (S : CallFix p m c cc nL s args lw_gd own) (hM : xMi l y (.code y bytes maxL ret) rm as u r u') (hg : GoodIn lw_gd (wsV own idx R_X y (.code y bytes maxL ret :: lw_gd))) (hd : y.cls = R_X ∧ y.cls ≠ "java/lang/invoke/MethodHandle" ∧ y.cls ≠ "java/lang/invoke/VarHandle" ∧ (parseMethodDescriptor y.desc).map (fun d => d.parameters.length) = some n)
    (hrc : rm.cells = 0 ∧ rm.slots = 0) (hR : rm.frames + 1 ≤ R.frames ∧ 8 + (maxL + 11) + rm.locals ≤ R.locals) (hn : as.length = n)
    (hG : gL D s K J u v H locs) (hls : ls.size = nL) (hst : st0 = as.reverse ++ .ref K.1 :: rest) (hW : (rest.map fun v => v.category).sum ≤ 8) (hdg : decode cc pc = .ok (.invokevirtual idx, 3)) (hf : cells ≤ R.cells ∧ slots ≤ R.slots)
    (kk : ∀ (H1 : Heap) (locs1 : List Loc), gL D s K J u' v H1 locs1 → W p l e R s m args below meth c H1 locs1 cells slots Q (F0 m (pc + 3) ls (.int r :: rest))) : W p l e R s m args below meth c H locs cells slots Q (F0 m pc ls st0) := by
  obtain ⟨hP, hD, hK, hS⟩ := hG
  have hA : ∀ q : Nat, s.heap.size ≤ q → (fun q : Nat => s.heap.size ≤ q) q := fun _ h => h
  have hPc := hP.sub (ws' := xw K u) [0, 1, 2] rfl
  have hDc := hD.sub (ws' := xw K u) [0, 1, 2] (by decide) rfl
  have hKc := hK.sub (tys' := xt K) [0, 1] rfl
  have hFc := va_free (wc := xw K u) hD hS hA [0, 1, 2] rfl
  refine va_calli (va_runV (As := as) (rest := rest) S (hM K D H.size) (cwV n S.2.2.2.2 hg rfl hrc.1 hrc.2 hd hR) ⟨fun a U g mk q => ?_, va_recv hKc hPc (ci := 0) (q0 := 0) rfl rfl, fun U hU hW => ⟨rfl, by rw [hU], by rw [hU]; exact hPc, va_K.moved hW.alike hKc, hDc.weaken (fun _ _ _ _ => trivial)⟩⟩ rfl hn hls hst (lv_room hW) hdg hf) hS (fun q _ h => hFc q h) hFc (fun r9 u9 t H1 locs1 ht hvm hw hB hz1 hk1 hS => ?_)
  · obtain ⟨q0, q1, qP, qK, qD⟩ := q
    exact ⟨q0, q1, qP, va_K.moved (u := U) (U := U.calling g mk a) (Vm.Alike.refl U.vm) qK, qD⟩
  · obtain ⟨e1, e2⟩ := hw
    subst e1 e2
    obtain ⟨hP1, hK1, hD1⟩ := hB
    rw [ht] at hP1
    obtain ⟨hP2, hD2⟩ := va_join (wr := mw J v) (w1 := xw K u9) hP hD [0, 1, 2] [3, 4] rfl rfl (by decide) (by decide) hk1 hFc hP1 hD1
    exact kk H1 locs1 ⟨hP2.sub [2, 3, 4, 0, 1] rfl, hD2.sub [2, 3, 4, 0, 1] (by decide) rfl, hK, hS⟩
theorem rl_mi {y : MethodName} {bytes : ByteArray} {maxL n idx : Nat} {ret : Option FieldType} {rm : Room} {as st0 : List Value} {u : XS} {v v' : MS} {r : Int32}
    (S : CallFix p m c cc nL s args lw_gd own) (hM : mMi l y (.code y bytes maxL ret) rm as v r v') (hg : GoodIn lw_gd (wsV own idx R_M y (.code y bytes maxL ret :: lw_gd))) (hd : y.cls = R_M ∧ y.cls ≠ "java/lang/invoke/MethodHandle" ∧ y.cls ≠ "java/lang/invoke/VarHandle" ∧ (parseMethodDescriptor y.desc).map (fun d => d.parameters.length) = some n)
    (hrc : rm.cells = 0 ∧ rm.slots = 0) (hR : rm.frames + 1 ≤ R.frames ∧ 8 + (maxL + 11) + rm.locals ≤ R.locals) (hn : as.length = n)
    (hG : gL D s K J u v H locs) (hls : ls.size = nL) (hst : st0 = as.reverse ++ .ref J.1 :: rest) (hW : (rest.map fun v => v.category).sum ≤ 8) (hdg : decode cc pc = .ok (.invokevirtual idx, 3)) (hf : cells ≤ R.cells ∧ slots ≤ R.slots)
    (kk : ∀ (H1 : Heap) (locs1 : List Loc), gL D s K J u v' H1 locs1 → W p l e R s m args below meth c H1 locs1 cells slots Q (F0 m (pc + 3) ls (.int r :: rest))) : W p l e R s m args below meth c H locs cells slots Q (F0 m pc ls st0) := by
  obtain ⟨hP, hD, hK, hS⟩ := hG
  have hA : ∀ q : Nat, s.heap.size ≤ q → (fun q : Nat => s.heap.size ≤ q) q := fun _ h => h
  have hPc := hP.sub (ws' := mw J v) [3, 4] rfl
  have hDc := hD.sub (ws' := mw J v) [3, 4] (by decide) rfl
  have hKc := hK.sub (tys' := mt J) [2] rfl
  have hFc := va_free (wc := mw J v) hD hS hA [3, 4] rfl
  refine va_calli (va_runV (As := as) (rest := rest) S (hM J D H.size) (cwV n S.2.2.2.2 hg rfl hrc.1 hrc.2 hd hR) ⟨fun a U g mk q => ?_, va_recv hKc hPc (ci := 1) (q0 := 0) rfl rfl, fun U hU hW => ⟨rfl, by rw [hU], by rw [hU]; exact hPc, va_K.moved hW.alike hKc, hDc.weaken (fun _ _ _ _ => trivial)⟩⟩ rfl hn hls hst (lv_room hW) hdg hf) hS (fun q _ h => hFc q h) hFc (fun r9 u9 t H1 locs1 ht hvm hw hB hz1 hk1 hS => ?_)
  · obtain ⟨q0, q1, qP, qK, qD⟩ := q
    exact ⟨q0, q1, qP, va_K.moved (u := U) (U := U.calling g mk a) (Vm.Alike.refl U.vm) qK, qD⟩
  · obtain ⟨e1, e2⟩ := hw
    subst e1 e2
    obtain ⟨hP1, hK1, hD1⟩ := hB
    rw [ht] at hP1
    obtain ⟨hP2, hD2⟩ := va_join (wr := xw K u) (w1 := mw J u9) hP hD [3, 4] [0, 1, 2] rfl rfl (by decide) (by decide) hk1 hFc hP1 hD1
    exact kk H1 locs1 ⟨hP2.sub [0, 1, 2, 3, 4] rfl, hD2.sub [0, 1, 2, 3, 4] (by decide) rfl, hK, hS⟩
end RL
end
section
/-! the plain law, first part: rows, their ideal contents, exclusive or -/
theorem xr_lc (a b c : Int32) : a ^^^ (b ^^^ c) = b ^^^ (a ^^^ c) := by rw [← Int32.xor_assoc, Int32.xor_comm a b, Int32.xor_assoc]
theorem xr_cc (a b : Int32) : a ^^^ (a ^^^ b) = b := by rw [← Int32.xor_assoc, Int32.xor_self, Int32.zero_xor]
theorem bI_0 {w : Bool} : bI w = 0 ↔ w = false := by cases w <;> simp [bI]
theorem px_itr_inv {α : Type} {f : Nat → α → α} {P : Nat → α → Prop} {a : α} : ∀ n : Nat, P 0 a → (∀ i b, i < n → P i b → P (i + 1) (f i b)) → P n (px_itr f n a)
  | 0, h0, _ => h0
  | n + 1, h0, hs => hs n _ (Nat.lt_succ_self n) (px_itr_inv n h0 (fun i b hi hb => hs i b (Nat.lt_succ_of_lt hi) hb))
def iv_lay (st : Int32) (k : Nat) (w : Bool) (r : Nat) : Prop := match w with
  | true => st = 2 ∨ (st = 1 ∧ r < k)
  | false => st = 0 ∨ (st = 1 ∧ 2 * k ≤ r)
/-- what member m of row r should hold, the blocks being bl -/
def iv_id (bl : Nat → Int32) (w : Bool) (r m : Nat) : Int32 := match w with
  | true => if m = r % 5 then bl (4 * r) ^^^ bl (4 * r + 1) ^^^ bl (4 * r + 2) ^^^ bl (4 * r + 3) else bl (4 * r + (if m < r % 5 then m else m - 1))
  | false => if m = r % 3 then bl (2 * r) ^^^ bl (2 * r + 1) else bl (2 * r + (if m < r % 3 then m else m - 1))
/-- row r holds what it should, but on the failed member -/
def iv_row (d : Nat → Int32) (fm : Int32) (bl : Nat → Int32) (w : Bool) (r : Nat) : Prop := ∀ m, m < px_cnt w → ¬ nI m = fm → d (m * 16 + r) = iv_id bl w r m
def iv_all (d : Nat → Int32) (fm st : Int32) (k : Nat) (bl : Nat → Int32) : Prop := ∀ w r, r < 12 → iv_lay st k w r → iv_row d fm bl w r
theorem px_cnt_le (w : Bool) : px_cnt w ≤ 5 := by cases w <;> simp [px_cnt]
theorem px_mem_c (b : Nat) (w : Bool) : px_mem b w < px_cnt w := by
  cases w <;> simp only [px_mem, px_idx, px_cnt, Bool.false_eq_true, if_true, if_false] <;> split <;> omega
theorem px_par_c (r : Nat) (w : Bool) : px_par r w < px_cnt w := by
  cases w <;> simp only [px_par, px_cnt, Bool.false_eq_true, if_true, if_false] <;> omega
theorem px_mem_p (b : Nat) (w : Bool) : px_mem b w ≠ px_par (px_row b w) w := by
  rw [px_mem]; split <;> omega
theorem iv_id_mem (bl : Nat → Int32) (b : Nat) (w : Bool) : iv_id bl w (px_row b w) (px_mem b w) = bl b := by
  have hp := px_mem_p b w
  cases w with
  | true =>
    simp only [px_row, px_par, if_true] at hp
    show (if px_mem b true = (b / 4) % 5 then _ else bl (4 * (b / 4) + (if px_mem b true < (b / 4) % 5 then px_mem b true else px_mem b true - 1))) = bl b
    rw [if_neg hp]
    apply congrArg
    have e : px_mem b true = if b % 4 < (b / 4) % 5 then b % 4 else b % 4 + 1 := rfl
    rw [e]
    split <;> (try split) <;> omega
  | false =>
    simp only [px_row, px_par, Bool.false_eq_true, if_false] at hp
    show (if px_mem b false = (b / 2) % 3 then _ else bl (2 * (b / 2) + (if px_mem b false < (b / 2) % 3 then px_mem b false else px_mem b false - 1))) = bl b
    rw [if_neg hp]
    apply congrArg
    have e : px_mem b false = if b % 2 < (b / 2) % 3 then b % 2 else b % 2 + 1 := rfl
    rw [e]
    split <;> (try split) <;> omega
/-- the ideal contents of a row depend on its own blocks alone -/
theorem iv_id_congr {bl bl' : Nat → Int32} {w : Bool} {r m : Nat} (hm : m < px_cnt w) (h : ∀ b, px_row b w = r → bl b = bl' b) : iv_id bl w r m = iv_id bl' w r m := by
  cases w with
  | true =>
    have h' : ∀ i, i < 4 → bl (4 * r + i) = bl' (4 * r + i) := fun i hi => h _ (by show (4 * r + i) / 4 = r; omega)
    have hm5 : m < 5 := hm
    have h0 := h' 0 (by omega)
    simp only [iv_id, h' 1 (by omega), h' 2 (by omega), h' 3 (by omega), show bl (4 * r) = bl' (4 * r) from h0]
    by_cases hp : m = r % 5
    · rw [if_pos hp, if_pos hp]
    · rw [if_neg hp, if_neg hp]
      exact h' _ (by split <;> omega)
  | false =>
    have h' : ∀ i, i < 2 → bl (2 * r + i) = bl' (2 * r + i) := fun i hi => h _ (by show (2 * r + i) / 2 = r; omega)
    have hm5 : m < 3 := hm
    have h0 := h' 0 (by omega)
    simp only [iv_id, h' 1 (by omega), show bl (2 * r) = bl' (2 * r) from h0]
    by_cases hp : m = r % 3
    · rw [if_pos hp, if_pos hp]
    · rw [if_neg hp, if_neg hp]
      exact h' _ (by split <;> omega)
theorem upd_s (f : Nat → Int32) (k : Nat) (v : Int32) : upd f k v k = v := if_pos rfl
theorem upd_n (f : Nat → Int32) {k j : Nat} (v : Int32) (h : j ≠ k) : upd f k v j = f j := if_neg h
theorem iv_id_far {bl : Nat → Int32} {w : Bool} {r m b : Nat} {v : Int32} (hm : m < px_cnt w) (h : px_row b w ≠ r) : iv_id (upd bl b v) w r m = iv_id bl w r m :=
  iv_id_congr hm (fun j hj => upd_n _ _ (fun e => h (by rw [← e]; exact hj)))
theorem iv_id_at (bl : Nat → Int32) (b : Nat) (w : Bool) (v : Int32) : iv_id (upd bl b v) w (px_row b w) (px_mem b w) = v := by
  rw [iv_id_mem, upd_s]
theorem iv_id_par (bl : Nat → Int32) (b : Nat) (w : Bool) (v : Int32) : iv_id (upd bl b v) w (px_row b w) (px_par (px_row b w) w) = iv_id bl w (px_row b w) (px_par (px_row b w) w) ^^^ bl b ^^^ v := by
  cases w with
  | true =>
    show (if (b / 4) % 5 = (b / 4) % 5 then upd bl b v (4 * (b / 4)) ^^^ upd bl b v (4 * (b / 4) + 1) ^^^ upd bl b v (4 * (b / 4) + 2) ^^^ upd bl b v (4 * (b / 4) + 3) else _) = (if (b / 4) % 5 = (b / 4) % 5 then bl (4 * (b / 4)) ^^^ bl (4 * (b / 4) + 1) ^^^ bl (4 * (b / 4) + 2) ^^^ bl (4 * (b / 4) + 3) else _) ^^^ bl b ^^^ v
    rw [if_pos rfl, if_pos rfl]
    generalize hq : b / 4 = q
    rcases (show b = 4 * q ∨ b = 4 * q + 1 ∨ b = 4 * q + 2 ∨ b = 4 * q + 3 by omega) with e | e | e | e <;> subst e <;> simp only [upd_s, upd_n _ _ (show 4 * q ≠ 4 * q + 1 by omega), upd_n _ _ (show 4 * q ≠ 4 * q + 2 by omega), upd_n _ _ (show 4 * q ≠ 4 * q + 3 by omega), upd_n _ _ (show 4 * q + 1 ≠ 4 * q by omega), upd_n _ _ (show 4 * q + 1 ≠ 4 * q + 2 by omega), upd_n _ _ (show 4 * q + 1 ≠ 4 * q + 3 by omega), upd_n _ _ (show 4 * q + 2 ≠ 4 * q by omega), upd_n _ _ (show 4 * q + 2 ≠ 4 * q + 1 by omega), upd_n _ _ (show 4 * q + 2 ≠ 4 * q + 3 by omega), upd_n _ _ (show 4 * q + 3 ≠ 4 * q by omega), upd_n _ _ (show 4 * q + 3 ≠ 4 * q + 1 by omega), upd_n _ _ (show 4 * q + 3 ≠ 4 * q + 2 by omega)]
      <;> (generalize bl (4 * q) = x0) <;> (generalize bl (4 * q + 1) = x1) <;> (generalize bl (4 * q + 2) = x2) <;> (generalize bl (4 * q + 3) = x3)
      <;> simp only [Int32.xor_assoc, Int32.xor_comm, xr_lc, xr_cc, Int32.xor_self, Int32.xor_zero, Int32.zero_xor]
  | false =>
    show (if (b / 2) % 3 = (b / 2) % 3 then upd bl b v (2 * (b / 2)) ^^^ upd bl b v (2 * (b / 2) + 1) else _) = (if (b / 2) % 3 = (b / 2) % 3 then bl (2 * (b / 2)) ^^^ bl (2 * (b / 2) + 1) else _) ^^^ bl b ^^^ v
    rw [if_pos rfl, if_pos rfl]
    generalize hq : b / 2 = q
    rcases (show b = 2 * q ∨ b = 2 * q + 1 by omega) with e | e <;> subst e <;> simp only [upd_s, upd_n _ _ (show 2 * q ≠ 2 * q + 1 by omega), upd_n _ _ (show 2 * q + 1 ≠ 2 * q by omega)]
      <;> (generalize bl (2 * q) = x0) <;> (generalize bl (2 * q + 1) = x1)
      <;> simp only [Int32.xor_assoc, Int32.xor_comm, xr_lc, xr_cc, Int32.xor_self, Int32.xor_zero, Int32.zero_xor]
theorem iv_id_oth {bl : Nat → Int32} {b : Nat} {w : Bool} {v : Int32} {m : Nat} (hm : m < px_cnt w) (h1 : m ≠ px_mem b w) (h2 : m ≠ px_par (px_row b w) w) : iv_id (upd bl b v) w (px_row b w) m = iv_id bl w (px_row b w) m := by
  cases w with
  | true =>
    have hm5 : m < 5 := hm
    have e : px_mem b true = if b % 4 < (b / 4) % 5 then b % 4 else b % 4 + 1 := rfl
    have h2 : m ≠ (b / 4) % 5 := h2
    rw [e] at h1
    show (if m = (b / 4) % 5 then _ else _) = (if m = (b / 4) % 5 then _ else _)
    rw [if_neg h2, if_neg h2]
    refine upd_n _ _ ?_
    split at h1 <;> split <;> omega
  | false =>
    have hm5 : m < 3 := hm
    have e : px_mem b false = if b % 2 < (b / 2) % 3 then b % 2 else b % 2 + 1 := rfl
    have h2 : m ≠ (b / 2) % 3 := h2
    rw [e] at h1
    show (if m = (b / 2) % 3 then _ else _) = (if m = (b / 2) % 3 then _ else _)
    rw [if_neg h2, if_neg h2]
    refine upd_n _ _ ?_
    split at h1 <;> split <;> omega
/-- exclusive or over the members but one -/
def px_xn (e : Nat → Int32) (k n : Nat) : Int32 := px_itr (fun m a => if m = k then a else a ^^^ e m) n 0
theorem iv_tot5 (bl : Nat → Int32) (r : Nat) : iv_id bl true r 0 ^^^ iv_id bl true r 1 ^^^ iv_id bl true r 2 ^^^ iv_id bl true r 3 ^^^ iv_id bl true r 4 = 0 := by
  rcases (show r % 5 = 0 ∨ r % 5 = 1 ∨ r % 5 = 2 ∨ r % 5 = 3 ∨ r % 5 = 4 by omega) with h | h | h | h | h <;> simp [iv_id, h]
    <;> (generalize bl (4 * r) = x0) <;> (generalize bl (4 * r + 1) = x1) <;> (generalize bl (4 * r + 2) = x2) <;> (generalize bl (4 * r + 3) = x3)
    <;> simp only [Int32.xor_assoc, Int32.xor_comm, xr_lc, xr_cc, Int32.xor_self, Int32.xor_zero, Int32.zero_xor]
theorem iv_tot3 (bl : Nat → Int32) (r : Nat) : iv_id bl false r 0 ^^^ iv_id bl false r 1 ^^^ iv_id bl false r 2 = 0 := by
  rcases (show r % 3 = 0 ∨ r % 3 = 1 ∨ r % 3 = 2 by omega) with h | h | h <;> simp [iv_id, h]
    <;> (generalize bl (2 * r) = x0) <;> (generalize bl (2 * r + 1) = x1)
    <;> simp only [Int32.xor_assoc, Int32.xor_comm, xr_lc, xr_cc, Int32.xor_self, Int32.xor_zero, Int32.zero_xor]
theorem iv_xn (bl : Nat → Int32) (w : Bool) (r k : Nat) (hk : k < px_cnt w) : px_xn (iv_id bl w r) k (px_cnt w) = iv_id bl w r k := by
  cases w with
  | true =>
    have hk : k < 5 := hk
    have T := iv_tot5 bl r
    show px_xn (iv_id bl true r) k 5 = _
    generalize iv_id bl true r = e at T ⊢
    rw [← Int32.xor_eq_zero_iff, ← T]
    rcases (show k = 0 ∨ k = 1 ∨ k = 2 ∨ k = 3 ∨ k = 4 by omega) with h | h | h | h | h <;> subst h <;> simp [px_xn, px_itr] <;> ac_rfl
  | false =>
    have hk : k < 3 := hk
    have T := iv_tot3 bl r
    show px_xn (iv_id bl false r) k 3 = _
    generalize iv_id bl false r = e at T ⊢
    rw [← Int32.xor_eq_zero_iff, ← T]
    rcases (show k = 0 ∨ k = 1 ∨ k = 2 by omega) with h | h | h <;> subst h <;> simp [px_xn, px_itr] <;> ac_rfl
theorem iv_x0 (bl : Nat → Int32) (w : Bool) (r : Nat) : px_xn (iv_id bl w r) 5 (px_cnt w) = 0 := by
  cases w with
  | true =>
    have T := iv_tot5 bl r
    show px_xn (iv_id bl true r) 5 5 = _
    generalize iv_id bl true r = e at T ⊢
    rw [← T]
    simp [px_xn, px_itr]
  | false =>
    have T := iv_tot3 bl r
    show px_xn (iv_id bl false r) 5 3 = _
    generalize iv_id bl false r = e at T ⊢
    rw [← T]
    simp [px_xn, px_itr]
theorem px_oth_n {d e : Nat → Int32} {r k : Nat} (hk : k < 2 ^ 31) : ∀ n : Nat, n ≤ 5 → (∀ m, m < n → m ≠ k → d (m * 16 + r) = e m) → px_oth d r (nI k) n = px_xn e k n
  | 0, _, _ => rfl
  | n + 1, hn, h => by
    show (if nI n = nI k then px_oth d r (nI k) n else px_oth d r (nI k) n ^^^ d (n * 16 + r)) = (if n = k then px_xn e k n else px_xn e k n ^^^ e n)
    rw [px_oth_n hk n (by omega) (fun m hm hne => h m (by omega) hne)]
    by_cases hnk : n = k
    · rw [if_pos hnk, if_pos (by rw [hnk])]
    · rw [if_neg hnk, if_neg (fun e9 => hnk ((nI_eq (by omega) hk).mp e9)), h n (by omega) hnk]
theorem nI_m1 {m : Nat} (h : m < 2 ^ 31) : ¬ nI m = -1 := fun e => nI_pos h (by rw [e]; decide)
theorem px_oth_1 {d e : Nat → Int32} {r : Nat} : ∀ n : Nat, n ≤ 5 → (∀ m, m < n → d (m * 16 + r) = e m) → px_oth d r (-1) n = px_xn e 5 n
  | 0, _, _ => rfl
  | n + 1, hn, h => by
    show (if nI n = -1 then px_oth d r (-1) n else px_oth d r (-1) n ^^^ d (n * 16 + r)) = (if n = 5 then px_xn e 5 n else px_xn e 5 n ^^^ e n)
    rw [px_oth_1 n (by omega) (fun m hm => h m (by omega)), if_neg (nI_m1 (by omega)), if_neg (by omega), h n (by omega)]
/-- what the other members say of member k -/
theorem iv_oth {d bl : Nat → Int32} {w : Bool} {r k : Nat} (hk : k < px_cnt w) (h : ∀ m, m < px_cnt w → m ≠ k → d (m * 16 + r) = iv_id bl w r m) : px_oth d r (nI k) (px_cnt w) = iv_id bl w r k := by
  have := px_cnt_le w
  rw [px_oth_n (e := iv_id bl w r) (by omega) _ this h, iv_xn bl w r k hk]
theorem iv_oth1 {d bl : Nat → Int32} {w : Bool} {r : Nat} (h : ∀ m, m < px_cnt w → d (m * 16 + r) = iv_id bl w r m) : px_oth d r (-1) (px_cnt w) = 0 := by
  rw [px_oth_1 (e := iv_id bl w r) _ (px_cnt_le w) h, iv_x0]
-- writes
theorem px_put_row {d : Nat → Int32} {fm v : Int32} {m r m' r' : Nat} (h : r < 16) (h' : r' < 16) (hr : r' ≠ r) : px_put d fm m r v (m' * 16 + r') = d (m' * 16 + r') := by
  rw [px_put]; split
  · rfl
  · exact upd_n _ _ (by omega)
theorem px_put_mem {d : Nat → Int32} {fm v : Int32} {m r m' : Nat} (hr : m' ≠ m) : px_put d fm m r v (m' * 16 + r) = d (m' * 16 + r) := by
  rw [px_put]; split
  · rfl
  · exact upd_n _ _ (by omega)
theorem px_put_self {d : Nat → Int32} {fm v : Int32} {m r : Nat} (h : ¬ nI m = fm) : px_put d fm m r v (m * 16 + r) = v := by
  rw [px_put, if_neg h, upd_s]
-- a row's blocks are read back
theorem iv_ff {d bl : Nat → Int32} {fm : Int32} {b : Nat} {w : Bool} (h : iv_row d fm bl w (px_row b w)) : px_ff d fm b w = bl b := by
  rw [px_ff]
  have hm := px_mem_c b w
  have h5 := px_cnt_le w
  split
  · rename_i e
    rw [iv_oth hm (fun m hm' hne => h m hm' (fun e9 => hne ((nI_eq (by omega) (by omega)).mp (by rw [e9, e])))), iv_id_mem]
  · rename_i e
    rw [h _ hm e, iv_id_mem]
-- a block written into its row
theorem iv_sd2 {d bl : Nat → Int32} {fm : Int32} {b : Nat} {w : Bool} {v : Int32} (hr : px_row b w < 16) (h : iv_row d fm bl w (px_row b w)) : iv_row (px_sd2 d fm b w v) fm (upd bl b v) w (px_row b w) := by
  intro m hm hf
  have hp := px_mem_p b w
  rw [px_sd2, px_sd1]
  by_cases h1 : m = px_par (px_row b w) w
  · subst h1
    rw [px_put_self hf, px_sp, iv_ff h, h _ hm hf, iv_id_par]
  · rw [px_put_mem h1]
    by_cases h2 : m = px_mem b w
    · subst h2
      rw [px_put_self hf, iv_id_at]
    · rw [px_put_mem h2, h _ hm hf, iv_id_oth hm h2 h1]
theorem px_sd2_row {d : Nat → Int32} {fm : Int32} {b : Nat} {w : Bool} {v : Int32} {m r : Nat} (hr : px_row b w < 16) (hr' : r < 16) (hne : r ≠ px_row b w) : px_sd2 d fm b w v (m * 16 + r) = d (m * 16 + r) := by
  rw [px_sd2, px_sd1, px_put_row hr hr' hne, px_put_row hr hr' hne]
-- numbers
theorem nx_4k (k : Nat) : 4 * nI k = nI (4 * k) := by rw [show (4 : Int32) = nI 4 from rfl, pk_mul]
theorem nx_2k (k : Nat) : 2 * nI k = nI (2 * k) := by rw [show (2 : Int32) = nI 2 from rfl, pk_mul]
theorem px_bw_n {st : Int32} {k b : Nat} (hk : k ≤ 6) (hb : b < 2 ^ 31) : px_bw st (nI k) (nI b) = if st = 2 then true else if st = 1 then (if 4 * k ≤ b then false else true) else false := by
  rw [px_bw, nx_4k]
  simp only [nI_leI (show 4 * k < 2 ^ 31 by omega) hb]
theorem px_iw_n {st : Int32} {k r : Nat} (hk : k ≤ 6) (hb : r < 2 ^ 31) : px_iw st (nI k) (nI r) = if st = 2 then true else if st = 1 then (if k ≤ r then false else true) else false := by
  rw [px_iw]
  simp only [nI_leI (show k < 2 ^ 31 by omega) hb]
theorem px_iu_n {st : Int32} {k r : Nat} (hk : k ≤ 6) (hb : r < 2 ^ 31) : px_iu st (nI k) (nI r) = if st = 1 then (if r < k then true else if r < 2 * k then false else true) else true := by
  rw [px_iu, nx_2k]
  simp only [nI_ltI hb (show k < 2 ^ 31 by omega), nI_ltI hb (show 2 * k < 2 ^ 31 by omega)]
theorem nI_6 {k : Nat} (hk : k ≤ 6) : nI k = 6 ↔ k = 6 := nI_eq (b := 6) (by omega) (by omega)
theorem px_szn_n {k : Nat} (hk : k ≤ 6) : px_szn (nI k) = if k = 6 then 48 else 24 := by
  rw [px_szn]; simp only [nI_6 hk]
/-- stage and number of moved groups fit, as they do while it runs -/
def iv_ok (st : Int32) (k : Nat) : Prop := (st = 0 ∧ k = 0) ∨ (st = 1 ∧ k < 6) ∨ (st = 2 ∧ k = 6)
theorem iv_one {st : Int32} {k r : Nat} {w w' : Bool} (h : iv_lay st k w r) (h' : iv_lay st k w' r) : w = w' := by
  cases w <;> cases w' <;> first | rfl | skip
  · rcases h with h | ⟨h, h1⟩ <;> rcases h' with h2 | ⟨h2, h3⟩ <;> first | omega | (rw [h] at h2; exact absurd h2 (by decide))
  · rcases h with h | ⟨h, h1⟩ <;> rcases h' with h2 | ⟨h2, h3⟩ <;> first | omega | (rw [h] at h2; exact absurd h2 (by decide))
/-- where a block in reach lies -/
theorem iv_loc {st : Int32} {k b : Nat} (ho : iv_ok st k) (hb : b < px_szn (nI k)) : iv_lay st k (px_bw st (nI k) (nI b)) (px_row b (px_bw st (nI k) (nI b))) ∧ px_row b (px_bw st (nI k) (nI b)) < 12 ∧ ∀ w' r, iv_lay st k w' r → px_row b w' = r → w' = px_bw st (nI k) (nI b) := by
  have hk : k ≤ 6 := by rcases ho with h | h | h <;> omega
  rw [px_szn_n hk] at hb
  have hb48 : b < 48 := by split at hb <;> omega
  rw [px_bw_n hk (by omega)]
  rcases ho with ⟨rfl, rfl⟩ | ⟨rfl, h⟩ | ⟨rfl, rfl⟩
  · rw [if_neg (by decide), if_neg (by decide)]
    rw [if_neg (by omega)] at hb
    refine ⟨Or.inl rfl, by show b / 2 < 12; omega, fun w' r h1 h2 => ?_⟩
    cases w' with
    | false => rfl
    | true => rcases h1 with h1 | ⟨h1, _⟩ <;> exact absurd h1 (by decide)
  · rw [if_neg (by decide), if_pos rfl]
    rw [if_neg (by omega)] at hb
    by_cases h4 : 4 * k ≤ b
    · rw [if_pos h4]
      refine ⟨Or.inr ⟨rfl, by show 2 * k ≤ b / 2; omega⟩, by show b / 2 < 12; omega, fun w' r h1 h2 => ?_⟩
      cases w' with
      | false => rfl
      | true =>
        have h2 : b / 4 = r := h2
        rcases h1 with h1 | ⟨_, h1⟩
        · exact absurd h1 (by decide)
        · omega
    · rw [if_neg h4]
      refine ⟨Or.inr ⟨rfl, by show b / 4 < k; omega⟩, by show b / 4 < 12; omega, fun w' r h1 h2 => ?_⟩
      cases w' with
      | true => rfl
      | false =>
        have h2 : b / 2 = r := h2
        rcases h1 with h1 | ⟨_, h1⟩
        · exact absurd h1 (by decide)
        · omega
  · rw [if_pos rfl]
    rw [if_pos rfl] at hb
    refine ⟨Or.inl rfl, by show b / 4 < 12; omega, fun w' r h1 h2 => ?_⟩
    cases w' with
    | true => rfl
    | false => rcases h1 with h1 | ⟨h1, _⟩ <;> exact absurd h1 (by decide)
theorem iv_okb {st : Int32} {k : Nat} (ho : iv_ok st k) : px_okb st (nI k) := fun b hb => by
  have := (iv_loc ho hb).2.1
  omega
/-- reading -/
theorem iv_fe {d bl : Nat → Int32} {fm st : Int32} {k b : Nat} (ho : iv_ok st k) (h : iv_all d fm st k bl) (hb : b < px_szn (nI k)) : px_fe d fm st (nI k) b = bl b := by
  obtain ⟨h1, h2, _⟩ := iv_loc ho hb
  exact iv_ff (h _ _ h2 h1)
/-- writing a block, row closed -/
theorem iv_st {d bl : Nat → Int32} {fm st : Int32} {k b : Nat} (v : Int32) (ho : iv_ok st k) (h : iv_all d fm st k bl) (hb : b < px_szn (nI k)) : iv_all (px_sd2 d fm b (px_bw st (nI k) (nI b)) v) fm st k (upd bl b v) := by
  obtain ⟨h1, h2, h3⟩ := iv_loc ho hb
  intro w' r hr hl
  by_cases hw : px_row b w' = r
  · have e := h3 w' r hl hw
    subst e
    subst hw
    exact iv_sd2 (by omega) (h _ _ hr hl)
  · intro m hm hf
    have hne : r ≠ px_row b (px_bw st (nI k) (nI b)) := fun e => by
      subst e
      have e2 := iv_one hl h1
      rw [e2] at hw
      exact hw rfl
    rw [px_sd2_row (by omega) (by omega) hne, iv_id_far hm hw]
    exact h w' r hr hl m hm hf
end
section
/-! the plain law, second part: what the loops leave -/
theorem iw_lay {st : Int32} {k r : Nat} {w : Bool} (hk : k ≤ 6) (hr : r < 12) (h : iv_lay st k w r) : px_iw st (nI k) (nI r) = w := by
  rw [px_iw_n hk (by omega)]
  cases w with
  | true =>
    rcases h with rfl | ⟨rfl, h⟩
    · rfl
    · rw [if_neg (by decide), if_pos rfl, if_neg (by omega)]
  | false =>
    rcases h with rfl | ⟨rfl, h⟩
    · rfl
    · rw [if_neg (by decide), if_pos rfl, if_pos (by omega)]
theorem iu_lay {st : Int32} {k r : Nat} {w : Bool} (hk : k ≤ 6) (hr : r < 12) (h : iv_lay st k w r) : px_iu st (nI k) (nI r) = true := by
  rw [px_iu_n hk (by omega)]
  cases w with
  | true =>
    rcases h with rfl | ⟨rfl, h⟩
    · rfl
    · rw [if_pos rfl, if_pos h]
  | false =>
    rcases h with rfl | ⟨rfl, h⟩
    · rfl
    · rw [if_pos rfl]
      split
      · rfl
      · rw [if_neg (by omega)]
theorem iu_iw {st : Int32} {k r : Nat} (ho : iv_ok st k) (hr : r < 12) (h : px_iu st (nI k) (nI r) = true) : iv_lay st k (px_iw st (nI k) (nI r)) r := by
  have hk : k ≤ 6 := by rcases ho with h | h | h <;> omega
  rw [px_iu_n hk (by omega)] at h
  rw [px_iw_n hk (by omega)]
  rcases ho with ⟨rfl, rfl⟩ | ⟨rfl, h2⟩ | ⟨rfl, rfl⟩
  · exact Or.inl rfl
  · rw [if_neg (by decide), if_pos rfl]
    rw [if_pos rfl] at h
    by_cases h3 : k ≤ r
    · rw [if_pos h3]
      rw [if_neg (by omega)] at h
      by_cases h4 : r < 2 * k
      · rw [if_pos h4] at h; exact absurd h (by decide)
      · exact Or.inr ⟨rfl, by omega⟩
    · rw [if_neg h3]
      exact Or.inr ⟨rfl, by omega⟩
  · exact Or.inl rfl
-- the moved group
theorem pv_mg {d g bl : Nat → Int32} {fm : Int32} {k : Nat} (h : ∀ r, r = 2 * k ∨ r = 2 * k + 1 → iv_row d fm bl false r) : ∀ i, i < 4 → px_mg d g fm k 4 i = bl (4 * k + i) := by
  have key : ∀ n, n ≤ 4 → ∀ i, i < n → px_mg d g fm k n i = bl (4 * k + i) := by
    intro n hn
    refine px_itr_inv (P := fun n (G : Nat → Int32) => ∀ i, i < n → G i = bl (4 * k + i)) n (fun i hi => absurd hi (by omega)) ?_
    intro i G hi hG j hj
    by_cases e : j = i
    · subst e
      rw [upd_s]
      exact iv_ff (h _ (by show (4 * k + j) / 2 = 2 * k ∨ (4 * k + j) / 2 = 2 * k + 1; omega))
    · rw [upd_n _ _ e]
      exact hG j (by omega)
  exact key 4 (by omega)
theorem pv_mc {d g : Nat → Int32} {fm : Int32} : (∀ m r, r < 12 → px_mc d g fm 4 (m * 16 + r) = d (m * 16 + r)) ∧ ∀ i, i < 4 → (¬ nI 3 = fm → px_mc d g fm 4 (3 * 16 + (12 + i)) = g i) ∧ (¬ nI 4 = fm → px_mc d g fm 4 (4 * 16 + (12 + i)) = g i) := by
  have key : ∀ n, n ≤ 4 → (∀ m r, r < 12 → px_mc d g fm n (m * 16 + r) = d (m * 16 + r)) ∧ ∀ i, i < n → (¬ nI 3 = fm → px_mc d g fm n (3 * 16 + (12 + i)) = g i) ∧ (¬ nI 4 = fm → px_mc d g fm n (4 * 16 + (12 + i)) = g i) := by
    intro n hn
    refine px_itr_inv (P := fun n (D : Nat → Int32) => (∀ m r, r < 12 → D (m * 16 + r) = d (m * 16 + r)) ∧ ∀ i, i < n → (¬ nI 3 = fm → D (3 * 16 + (12 + i)) = g i) ∧ (¬ nI 4 = fm → D (4 * 16 + (12 + i)) = g i)) n ⟨fun _ _ _ => rfl, fun i hi => absurd hi (by omega)⟩ ?_
    intro i D hi hD
    refine ⟨fun m r hr => ?_, fun j hj => ?_⟩
    · rw [px_put_row (by omega) (by omega) (by omega), px_put_row (by omega) (by omega) (by omega)]
      exact hD.1 m r hr
    · by_cases e : j = i
      · subst e
        refine ⟨fun h3 => ?_, fun h4 => ?_⟩
        · rw [px_put_mem (by omega), px_put_self h3]
        · rw [px_put_self h4]
      · refine ⟨fun h3 => ?_, fun h4 => ?_⟩
        · rw [px_put_row (by omega) (by omega) (by omega), px_put_row (by omega) (by omega) (by omega)]
          exact (hD.2 j (by omega)).1 h3
        · rw [px_put_row (by omega) (by omega) (by omega), px_put_row (by omega) (by omega) (by omega)]
          exact (hD.2 j (by omega)).2 h4
  exact key 4 (by omega)
theorem pv_ww {d g : Nat → Int32} {fm : Int32} {k a n m r : Nat} (hk : k < 16) (hr : r < 16) (h : r ≠ k) : px_ww d g fm k a n (m * 16 + r) = d (m * 16 + r) := by
  refine px_itr_inv (P := fun _ (D : Nat → Int32) => D (m * 16 + r) = d (m * 16 + r)) n rfl ?_
  intro i D _ hD
  rw [px_put_row hk hr h]
  exact hD
theorem pv_mw_row {d g : Nat → Int32} {fm : Int32} {k m r : Nat} (hk : k < 16) (hr : r < 16) (h : r ≠ k) : px_mw d g fm k (m * 16 + r) = d (m * 16 + r) := by
  rw [px_mw, px_put_row hk hr h, pv_ww hk hr h, pv_ww hk hr h]
theorem pv_q (k i : Nat) (hi : i < 4) : px_mem (4 * k + i) true = if i < k % 5 then i else i + 1 := by
  have e : px_mem (4 * k + i) true = if (4 * k + i) % 4 < ((4 * k + i) / 4) % 5 then (4 * k + i) % 4 else (4 * k + i) % 4 + 1 := rfl
  rw [e, show (4 * k + i) % 4 = i by omega, show (4 * k + i) / 4 = k by omega]
theorem pv_mw {d g bl : Nat → Int32} {fm : Int32} {k : Nat} (hg : ∀ i, i < 4 → g i = bl (4 * k + i)) : iv_row (px_mw d g fm k) fm bl true k := by
  intro m hm hf
  have hm : m < 5 := hm
  rw [px_mw]
  show _ = (if m = k % 5 then bl (4 * k) ^^^ bl (4 * k + 1) ^^^ bl (4 * k + 2) ^^^ bl (4 * k + 3) else bl (4 * k + (if m < k % 5 then m else m - 1)))
  by_cases h1 : m = k % 5
  · subst h1
    rw [px_put_self hf, if_pos rfl, hg 0 (by omega), hg 1 (by omega), hg 2 (by omega), hg 3 (by omega)]
    rfl
  · rw [px_put_mem h1, if_neg h1]
    show px_put (px_put (px_put (px_put d fm (px_mem (4 * k + (0 + 0)) true) k (g (0 + 0))) fm (px_mem (4 * k + (0 + 1)) true) k (g (0 + 1))) fm (px_mem (4 * k + (2 + 0)) true) k (g (2 + 0))) fm (px_mem (4 * k + (2 + 1)) true) k (g (2 + 1)) (m * 16 + k) = _
    have q0 := pv_q k 0 (by omega)
    have q1 := pv_q k 1 (by omega)
    have q2 := pv_q k 2 (by omega)
    have q3 := pv_q k 3 (by omega)
    simp only [Nat.zero_add, Nat.add_zero, show 2 + 1 = 3 from rfl] at q0 ⊢
    generalize hi : (if m < k % 5 then m else m - 1) = i
    have hi4 : i < 4 := by subst hi; split <;> omega
    have hmq : m = if i < k % 5 then i else i + 1 := by subst hi; split <;> (try split) <;> omega
    rcases (show i = 0 ∨ i = 1 ∨ i = 2 ∨ i = 3 by omega) with e | e | e | e <;> subst e
    · have hme : m = px_mem (4 * k) true := by rw [hmq, q0]
      rw [px_put_mem (by rw [hme, q0, q3]; split <;> split <;> omega), px_put_mem (by rw [hme, q0, q2]; split <;> split <;> omega), px_put_mem (by rw [hme, q0, q1]; split <;> split <;> omega)]
      rw [← hme, px_put_self hf]
      exact hg 0 (by omega)
    · have hme : m = px_mem (4 * k + 1) true := by rw [hmq, q1]
      rw [px_put_mem (by rw [hme, q1, q3]; split <;> split <;> omega), px_put_mem (by rw [hme, q1, q2]; split <;> split <;> omega)]
      rw [← hme, px_put_self hf]
      exact hg 1 (by omega)
    · have hme : m = px_mem (4 * k + 2) true := by rw [hmq, q2]
      rw [px_put_mem (by rw [hme, q2, q3]; split <;> split <;> omega)]
      rw [← hme, px_put_self hf]
      exact hg 2 (by omega)
    · have hme : m = px_mem (4 * k + 3) true := by rw [hmq, q3]
      rw [← hme, px_put_self hf]
      exact hg 3 (by omega)
-- the rows that finish empties
theorem pv_fi {d : Nat → Int32} {fm : Int32} {r : Nat} (hr : r < 16) : (∀ m, m < 5 → ¬ nI m = fm → px_fi d fm r 5 (m * 16 + r) = 0) ∧ ∀ m r', r' < 16 → r' ≠ r → px_fi d fm r 5 (m * 16 + r') = d (m * 16 + r') := by
  refine px_itr_inv (P := fun n (D : Nat → Int32) => (∀ m, m < n → ¬ nI m = fm → D (m * 16 + r) = 0) ∧ ∀ m r', r' < 16 → r' ≠ r → D (m * 16 + r') = d (m * 16 + r')) 5 ⟨fun m hm => absurd hm (by omega), fun _ _ _ _ => rfl⟩ ?_
  intro i D hi hD
  refine ⟨fun m hm hf => ?_, fun m r' hr' hne => ?_⟩
  · by_cases e : m = i
    · subst e
      rw [px_put_self hf]
    · rw [px_put_mem e]
      exact hD.1 m (by omega) hf
  · rw [px_put_row hr hr' hne]
    exact hD.2 m r' hr' hne
theorem pv_fo {d : Nat → Int32} {fm : Int32} : (∀ r, 6 ≤ r → r < 12 → ∀ m, m < 5 → ¬ nI m = fm → px_fo d fm 6 (m * 16 + r) = 0) ∧ ∀ m r, r < 6 → px_fo d fm 6 (m * 16 + r) = d (m * 16 + r) := by
  have key : (∀ r, 6 ≤ r → r < 6 + 6 → ∀ m, m < 5 → ¬ nI m = fm → px_fo d fm 6 (m * 16 + r) = 0) ∧ ∀ m r, r < 6 → px_fo d fm 6 (m * 16 + r) = d (m * 16 + r) := by
    refine px_itr_inv (P := fun n (D : Nat → Int32) => (∀ r, 6 ≤ r → r < 6 + n → ∀ m, m < 5 → ¬ nI m = fm → D (m * 16 + r) = 0) ∧ ∀ m r, r < 6 → D (m * 16 + r) = d (m * 16 + r)) 6 ⟨fun r h1 h2 => absurd h2 (by omega), fun _ _ _ => rfl⟩ ?_
    intro i D hi hD
    have F := pv_fi (d := D) (fm := fm) (r := 6 + i) (by omega)
    refine ⟨fun r h1 h2 m hm hf => ?_, fun m r hr => ?_⟩
    · by_cases e : r = 6 + i
      · subst e
        exact F.1 m hm hf
      · rw [F.2 m r (by omega) e]
        exact hD.1 r h1 (by omega) m hm hf
    · rw [F.2 m r (by omega) (by omega)]
      exact hD.2 m r hr
  exact key
theorem iv_id_0 {bl : Nat → Int32} {w : Bool} {r m : Nat} (hm : m < px_cnt w) (h : ∀ b, px_row b w = r → bl b = 0) : iv_id bl w r m = 0 := by
  rw [iv_id_congr (bl' := fun _ => 0) hm h]
  cases w <;> simp [iv_id]
-- the model's zeros
theorem pv_z {bl : Nat → Int32} (b : Nat) : pm_z bl 24 b = if 24 ≤ b ∧ b < 48 then 0 else bl b := by
  have key : ∀ b, pm_z bl 24 b = if 24 ≤ b ∧ b < 24 + 24 then 0 else bl b := by
    refine px_itr_inv (P := fun n (B : Nat → Int32) => ∀ b, B b = if 24 ≤ b ∧ b < 24 + n then 0 else bl b) 24 (fun b => by rw [if_neg (by omega)]) ?_
    intro i B hi hB b
    by_cases e : b = 24 + i
    · subst e
      rw [upd_s, if_pos (by omega)]
    · rw [upd_n _ _ e, hB b]
      by_cases h : 24 ≤ b ∧ b < 24 + i
      · rw [if_pos h, if_pos (by omega)]
      · rw [if_neg h, if_neg (by omega)]
  exact key b
/-- stage 1 with all groups moved, made stage 2 -/
theorem pv_fin {d bl : Nat → Int32} {fm : Int32} (h : iv_all d fm 1 6 bl) (hz : ∀ b, 24 ≤ b → b < 48 → bl b = 0) : iv_all (px_fo d fm 6) fm 2 6 bl := by
  intro w r hr hl m hm hf
  cases w with
  | false => rcases hl with hl | ⟨hl, _⟩ <;> exact absurd hl (by decide)
  | true =>
    have hm5 : m < 5 := hm
    by_cases h6 : r < 6
    · rw [pv_fo.2 m r h6]
      exact h true r hr (Or.inr ⟨rfl, h6⟩) m hm hf
    · rw [pv_fo.1 r (by omega) hr m hm5 hf, iv_id_0 hm (fun b hb => hz b (by have hb : b / 4 = r := hb; omega) (by have hb : b / 4 = r := hb; omega))]
/-- the model's zeros change no row in use -/
theorem pv_all_z {d bl : Nat → Int32} {fm : Int32} (h : iv_all d fm 1 6 bl) : iv_all d fm 1 6 (pm_z bl 24) := by
  intro w r hr hl m hm hf
  cases w with
  | false =>
    rcases hl with hl | ⟨_, hl⟩
    · exact absurd hl (by decide)
    · omega
  | true =>
    rcases hl with hl | ⟨_, hl6⟩
    · exact absurd hl (by decide)
    · rw [h true r hr (Or.inr ⟨rfl, hl6⟩) m hm hf]
      exact iv_id_congr hm (fun b hb => by have hb : b / 4 = r := hb; rw [pv_z, if_neg (by omega)])
/-- a group moved: D is the disk behind the copies -/
theorem pv_moved {d D g bl : Nat → Int32} {fm : Int32} {k : Nat} (hk : k < 6) (h : iv_all d fm 1 k bl) (hD : ∀ m r, r < 12 → D (m * 16 + r) = d (m * 16 + r)) (hg : ∀ i, i < 4 → g i = bl (4 * k + i)) : iv_all (px_mw D g fm k) fm 1 (k + 1) bl := by
  intro w r hr hl
  cases w with
  | true =>
    rcases hl with hl | ⟨_, hl⟩
    · exact absurd hl (by decide)
    · by_cases e : r = k
      · subst e
        exact pv_mw hg
      · intro m hm hf
        rw [pv_mw_row (by omega) (by omega) e, hD m r hr]
        exact h true r hr (Or.inr ⟨rfl, by omega⟩) m hm hf
  | false =>
    rcases hl with hl | ⟨_, hl⟩
    · exact absurd hl (by decide)
    · intro m hm hf
      rw [pv_mw_row (by omega) (by omega) (by omega), hD m r hr]
      exact h false r hr (Or.inr ⟨rfl, by omega⟩) m hm hf
/-- row k isn't in use while group k is moved, unless k is 0 -/
theorem pv_free {d D bl : Nat → Int32} {fm : Int32} {k : Nat} (hk0 : 0 < k) (h : iv_all d fm 1 k bl) (hD : ∀ m r, r < 12 → r ≠ k → D (m * 16 + r) = d (m * 16 + r)) : iv_all D fm 1 k bl := by
  intro w r hr hl m hm hf
  have hne : r ≠ k := by
    cases w with
    | true => rcases hl with hl | ⟨_, hl⟩; exact absurd hl (by decide); omega
    | false => rcases hl with hl | ⟨_, hl⟩; exact absurd hl (by decide); omega
  rw [hD m r hr hne]
  exact h w r hr hl m hm hf
-- the first group taken back
theorem pv_tf {fm : Int32} : ¬ nI (px_tf fm) = fm ∧ (px_tf fm = 3 ∨ px_tf fm = 4) := by
  rw [px_tf]
  by_cases h : fm = 3
  · rw [if_pos h, h]; exact ⟨by decide, Or.inr rfl⟩
  · rw [if_neg h]; exact ⟨fun e => h e.symm, Or.inl rfl⟩
theorem pv_tg {d g : Nat → Int32} {f : Nat} : ∀ i, i < 4 → px_tg d g f 4 i = d (f * 16 + 12 + i) := by
  refine px_itr_inv (P := fun n (G : Nat → Int32) => ∀ i, i < n → G i = d (f * 16 + 12 + i)) 4 (fun i hi => absurd hi (by omega)) ?_
  intro i G hi hG j hj
  by_cases e : j = i
  · subst e
    rw [upd_s]
  · rw [upd_n _ _ e]
    exact hG j (by omega)
theorem pv_te {d g bl : Nat → Int32} {fm : Int32} (hg : ∀ i, i < 4 → g i = bl i) : iv_row (px_te d g fm) fm bl false 0 ∧ iv_row (px_te d g fm) fm bl false 1 ∧ ∀ m r, 2 ≤ r → r < 16 → px_te d g fm (m * 16 + r) = d (m * 16 + r) := by
  have e : px_te d g fm = px_put (px_put (px_put (px_put (px_put (px_put d fm 1 0 (g 0)) fm 2 0 (g 1)) fm 0 1 (g 2)) fm 2 1 (g 3)) fm 0 0 (g 0 ^^^ g 1)) fm 1 1 (g 2 ^^^ g 3) := rfl
  rw [e, hg 0 (by omega), hg 1 (by omega), hg 2 (by omega), hg 3 (by omega)]
  refine ⟨fun m hm hf => ?_, fun m hm hf => ?_, fun m r h1 h2 => ?_⟩
  · have hm : m < 3 := hm
    rw [px_put_row (by omega) (by omega) (by omega)]
    rcases (show m = 0 ∨ m = 1 ∨ m = 2 by omega) with e | e | e <;> subst e
    · rw [px_put_self hf]; rfl
    · rw [px_put_mem (by omega), px_put_row (by omega) (by omega) (by omega), px_put_row (by omega) (by omega) (by omega), px_put_mem (by omega), px_put_self hf]; rfl
    · rw [px_put_mem (by omega), px_put_row (by omega) (by omega) (by omega), px_put_row (by omega) (by omega) (by omega), px_put_self hf]; rfl
  · have hm : m < 3 := hm
    rcases (show m = 0 ∨ m = 1 ∨ m = 2 by omega) with e | e | e <;> subst e
    · rw [px_put_mem (by omega), px_put_row (by omega) (by omega) (by omega), px_put_mem (by omega), px_put_self hf]; rfl
    · rw [px_put_self hf]; rfl
    · rw [px_put_mem (by omega), px_put_row (by omega) (by omega) (by omega), px_put_self hf]; rfl
  · rw [px_put_row (by omega) (by omega) (by omega), px_put_row (by omega) (by omega) (by omega), px_put_row (by omega) (by omega) (by omega), px_put_row (by omega) (by omega) (by omega), px_put_row (by omega) (by omega) (by omega), px_put_row (by omega) (by omega) (by omega)]
-- a member failed, replaced
theorem pv_fd {d : Nat → Int32} {k m r : Nat} (hr : r < 16) (h : m ≠ k) : px_fd d k 16 (m * 16 + r) = d (m * 16 + r) := by
  refine px_itr_inv (P := fun _ (D : Nat → Int32) => D (m * 16 + r) = d (m * 16 + r)) 16 rfl ?_
  intro i D hi hD
  rw [upd_n _ _ (by omega)]
  exact hD
theorem pv_rz {d : Nat → Int32} {k m r : Nat} (hr : r < 16) (h : m ≠ k) : px_rz d k 16 (m * 16 + r) = d (m * 16 + r) := by
  refine px_itr_inv (P := fun _ (D : Nat → Int32) => D (m * 16 + r) = d (m * 16 + r)) 16 rfl ?_
  intro i D hi hD
  rw [upd_n _ _ (by omega)]
  exact hD
theorem pv_rr {d D0 bl : Nat → Int32} {st : Int32} {k j : Nat} (hk : k ≤ 6) (hj : j < 5) (h : iv_all d (nI j) st k bl) (h0 : ∀ m r, m ≠ j → r < 16 → D0 (m * 16 + r) = d (m * 16 + r)) : iv_all (px_rr D0 st (nI k) j 12) (-1) st k bl := by
  have key : (∀ m r, m ≠ j → r < 16 → px_rr D0 st (nI k) j 12 (m * 16 + r) = d (m * 16 + r)) ∧ ∀ w r, r < 12 → r < 12 → iv_lay st k w r → iv_row (px_rr D0 st (nI k) j 12) (-1) bl w r := by
    refine px_itr_inv (P := fun n (D : Nat → Int32) => (∀ m r, m ≠ j → r < 16 → D (m * 16 + r) = d (m * 16 + r)) ∧ ∀ w r, r < n → r < 12 → iv_lay st k w r → iv_row D (-1) bl w r) 12 ⟨h0, fun w r hr => absurd hr (by omega)⟩ ?_
    intro i D hi hD
    have mend : ∀ w', px_iw st (nI k) (nI i) = w' → j < px_cnt w' → (∀ m r, m ≠ j → r < 16 → px_mend D (-1) i j w' (m * 16 + r) = d (m * 16 + r)) ∧ ∀ w r, r < i + 1 → r < 12 → iv_lay st k w r → iv_row (px_mend D (-1) i j w') (-1) bl w r := by
      intro w' hw' hjc
      refine ⟨fun m r hm hr => ?_, fun w r hr hr12 hl => ?_⟩
      · rw [px_mend]
        by_cases e : r = i
        · subst e
          rw [px_put_mem hm]
          exact hD.1 m r hm hr
        · rw [px_put_row (by omega) hr e]
          exact hD.1 m r hm hr
      · by_cases e : r = i
        · subst e
          have ew : w = w' := by rw [← hw', iw_lay hk hr12 hl]
          subst ew
          have hrow : ∀ m, m < px_cnt w → m ≠ j → D (m * 16 + r) = iv_id bl w r m := fun m hm hne => by
            rw [hD.1 m r hne (by omega)]
            exact h w r hr12 hl m hm (fun e9 => hne ((nI_eq (by have := px_cnt_le w; omega) (by omega)).mp e9))
          intro m hm hf
          rw [px_mend]
          by_cases em : m = j
          · subst em
            rw [px_put_self hf, iv_oth hm hrow]
          · rw [px_put_mem em]
            exact hrow m hm em
        · intro m hm hf
          rw [px_mend, px_put_row (by omega) (by omega) e]
          exact hD.2 w r (by omega) hr12 hl m hm hf
    show (∀ m r, m ≠ j → r < 16 → (if bI (px_iu st (nI k) (nI i)) = 0 then D else if bI (px_iw st (nI k) (nI i)) = 0 then (if 3 ≤ nI j then D else px_mend D (-1) i j (px_iw st (nI k) (nI i))) else px_mend D (-1) i j (px_iw st (nI k) (nI i))) (m * 16 + r) = d (m * 16 + r)) ∧ ∀ w r, r < i + 1 → r < 12 → iv_lay st k w r → iv_row (if bI (px_iu st (nI k) (nI i)) = 0 then D else if bI (px_iw st (nI k) (nI i)) = 0 then (if 3 ≤ nI j then D else px_mend D (-1) i j (px_iw st (nI k) (nI i))) else px_mend D (-1) i j (px_iw st (nI k) (nI i))) (-1) bl w r
    by_cases c1 : bI (px_iu st (nI k) (nI i)) = 0
    · rw [if_pos c1]
      refine ⟨hD.1, fun w r hr hr12 hl => ?_⟩
      by_cases e : r = i
      · subst e
        rw [bI_0, iu_lay hk hr12 hl] at c1
        exact absurd c1 (by decide)
      · exact hD.2 w r (by omega) hr12 hl
    · rw [if_neg c1]
      by_cases c2 : bI (px_iw st (nI k) (nI i)) = 0
      · rw [if_pos c2]
        rw [bI_0] at c2
        by_cases c3 : 3 ≤ nI j
        · rw [if_pos c3]
          have hj3 : 3 ≤ j := (nI_leI (a := 3) (by omega) (by omega)).mp c3
          refine ⟨hD.1, fun w r hr hr12 hl => ?_⟩
          by_cases e : r = i
          · subst e
            have ew : w = false := by rw [← c2, iw_lay hk hr12 hl]
            subst ew
            intro m hm hf
            have hm3 : m < 3 := hm
            rw [hD.1 m r (by omega) (by omega)]
            exact h false r hr12 hl m hm (fun e9 => absurd ((nI_eq (by omega) (by omega)).mp e9) (by omega))
          · exact hD.2 w r (by omega) hr12 hl
        · rw [if_neg c3, c2]
          have hj3 : j < 3 := Nat.not_le.mp (fun h9 => c3 (nI_le (a := 3) h9 (by omega)))
          exact mend false c2 hj3
      · rw [if_neg c2]
        have e2 : px_iw st (nI k) (nI i) = true := by
          cases h9 : px_iw st (nI k) (nI i) with
          | true => rfl
          | false => exact absurd (bI_0.mpr h9) c2
        rw [e2]
        exact mend true e2 hj
  exact fun w r hr hl => key.2 w r hr hr hl
-- sums
theorem pv_su {d bl : Nat → Int32} {fm st mv : Int32} : ∀ n : Nat, (∀ b, b < n → px_fe d fm st mv b = bl b) → px_su d fm st mv n = pm_su bl n
  | 0, _ => rfl
  | n + 1, h => by
    show px_su d fm st mv n + px_fe d fm st mv n = pm_su bl n + bl n
    rw [pv_su n (fun b hb => h b (by omega)), h n (by omega)]
-- fills
def iv_fb (bl : Nat → Int32) (j : Nat) (v a : Int32) (n : Nat) : Nat → Int32 := px_itr (fun i B => upd B (j + i) (v + nI i * a)) n bl
theorem pv_fb {bl : Nat → Int32} {j : Nat} {v a : Int32} (n : Nat) : ∀ x, iv_fb bl j v a n x = if j ≤ x ∧ x < j + n then v + nI (x - j) * a else bl x := by
  refine px_itr_inv (P := fun n (B : Nat → Int32) => ∀ x, B x = if j ≤ x ∧ x < j + n then v + nI (x - j) * a else bl x) n (fun x => by rw [if_neg (by omega)]) ?_
  intro i B hi hB x
  by_cases e : x = j + i
  · subst e
    rw [upd_s, if_pos (by omega), show j + i - j = i by omega]
  · rw [upd_n _ _ e, hB x]
    by_cases h : j ≤ x ∧ x < j + i
    · rw [if_pos h, if_pos (by omega)]
    · rw [if_neg h, if_neg (by omega)]
theorem pv_fm {bl : Nat → Int32} {j n : Nat} {v a : Int32} (hn : j + n ≤ 48) : pm_fl bl (nI j) (nI n) v a 48 = iv_fb bl j v a n := by
  have key : ∀ x, pm_fl bl (nI j) (nI n) v a 48 x = if j ≤ x ∧ x < j + n ∧ x < 48 then v + nI (x - j) * a else bl x := by
    refine px_itr_inv (P := fun m (B : Nat → Int32) => ∀ x, B x = if j ≤ x ∧ x < j + n ∧ x < m then v + nI (x - j) * a else bl x) 48 (fun x => by rw [if_neg (by omega)]) ?_
    intro i B hi hB x
    rw [nI_add]
    by_cases c1 : nI i < nI j
    · rw [if_pos c1, hB x]
      rw [nI_ltI (by omega) (by omega)] at c1
      by_cases h : j ≤ x ∧ x < j + n ∧ x < i
      · rw [if_pos h, if_pos (by omega)]
      · rw [if_neg h, if_neg (by omega)]
    · rw [if_neg c1]
      rw [nI_ltI (by omega) (by omega)] at c1
      by_cases c2 : nI (j + n) ≤ nI i
      · rw [if_pos c2, hB x]
        rw [nI_leI (by omega) (by omega)] at c2
        by_cases h : j ≤ x ∧ x < j + n ∧ x < i
        · rw [if_pos h, if_pos (by omega)]
        · rw [if_neg h, if_neg (by omega)]
      · rw [if_neg c2]
        rw [nI_leI (by omega) (by omega)] at c2
        by_cases e : x = i
        · subst e
          rw [upd_s, if_pos (by omega), pk_sub (by omega), Int32.mul_comm]
        · rw [upd_n _ _ e, hB x]
          by_cases h : j ≤ x ∧ x < j + n ∧ x < i
          · rw [if_pos h, if_pos (by omega)]
          · rw [if_neg h, if_neg (by omega)]
  funext x
  rw [key x, pv_fb n x]
  by_cases h : j ≤ x ∧ x < j + n
  · rw [if_pos h, if_pos (by omega)]
  · rw [if_neg h, if_neg (by omega)]
theorem pv_fl {d bl : Nat → Int32} {fm st : Int32} {k j : Nat} {v a : Int32} (ho : iv_ok st k) (h : iv_all d fm st k bl) (n : Nat) (hn : j + n ≤ px_szn (nI k)) : iv_all (px_fl d fm st (nI k) j v a n) fm st k (iv_fb bl j v a n) := by
  induction n with
  | zero => exact h
  | succ n ih => exact iv_st _ ho (ih (by omega)) (by omega)
end
section
/-! the plain law, third part: the invariant between X and M, and each call keeps it -/
/-- rows closed -/
def iv_A (d : Nat → Int32) (ru fm st : Int32) (k : Nat) (cp op : Int32) (bl : Nat → Int32) : Prop := op = -1 ∧ cp = 0 ∧ iv_all d fm st k bl ∧ (st = 1 → k = 6 → ru = 0 ∧ ∀ b, 24 ≤ b → b < 48 → bl b = 0)
/-- power went while a row was written -/
def iv_B (d : Nat → Int32) (ru fm st : Int32) (k : Nat) (cp op : Int32) (bl : Nat → Int32) : Prop := ru = 0 ∧ cp = 0 ∧ fm = -1 ∧ iv_ok st k ∧ ∃ (w : Bool) (r : Nat), r < 12 ∧ op = nI r ∧ iv_lay st k w r ∧ (∀ w' r', r' < 12 → iv_lay st k w' r' → r' ≠ r → iv_row d fm bl w' r') ∧ ∀ m, m < px_cnt w → m ≠ px_par r w → d (m * 16 + r) = iv_id bl w r m
/-- power went while the first group was moved -/
def iv_C (d : Nat → Int32) (ru fm st : Int32) (k : Nat) (cp op : Int32) (bl : Nat → Int32) : Prop := ru = 0 ∧ cp = 1 ∧ op = -1 ∧ st = 1 ∧ k = 0 ∧ (∀ r, 2 ≤ r → r < 12 → iv_row d fm bl false r) ∧ ∀ i, i < 4 → (¬ nI 3 = fm → d (3 * 16 + (12 + i)) = bl i) ∧ (¬ nI 4 = fm → d (4 * 16 + (12 + i)) = bl i)
def iv_sb (st : Int32) (k : Nat) (bg : Int32) : Prop := (st = 0 ∧ bg = 0 ∧ k = 0) ∨ (st = 1 ∧ bg = 1 ∧ k ≤ 6) ∨ (st = 2 ∧ bg = 1 ∧ k = 6)
def iv_fm (fm : Int32) : Prop := fm = -1 ∨ ∃ j : Nat, j < 5 ∧ fm = nI j
def iv_core (d : Nat → Int32) (ru fm st : Int32) (k : Nat) (cp op : Int32) (bl : Nat → Int32) (dn bg : Int32) : Prop :=
  ((ru = 1 ∧ dn = 0) ∨ (ru = 0 ∧ dn = 1)) ∧ iv_sb st k bg ∧ iv_fm fm ∧ (iv_A d ru fm st k cp op bl ∨ iv_B d ru fm st k cp op bl ∨ iv_C d ru fm st k cp op bl)
def iv (u : XS) (v : MS) : Prop := ∃ k : Nat, u.2.2.2.2.2.1 = nI k ∧ v.2.2.2.1 = nI k ∧ v.2.2.2.2 = u.2.2.2.1 ∧ iv_core u.1 u.2.2.1 u.2.2.2.1 u.2.2.2.2.1 k u.2.2.2.2.2.2.1 u.2.2.2.2.2.2.2 v.1 v.2.1 v.2.2.1
theorem iv_start : iv x0 m0 := by
  refine ⟨0, rfl, rfl, rfl, Or.inl ⟨rfl, rfl⟩, Or.inl ⟨rfl, rfl, rfl⟩, Or.inl rfl, Or.inl ⟨rfl, rfl, fun w r _ _ m hm _ => ?_, fun h => absurd h (by decide)⟩⟩
  show (0 : Int32) = iv_id (fun _ => 0) w r m
  rw [iv_id_0 hm (fun b _ => rfl)]
section OPS
variable {d g bl : Nat → Int32} {ru fm st cp op dn bg : Int32} {k : Nat}
theorem iv_mk (h : iv_core d ru fm st k cp op bl dn bg) : iv (d, g, ru, fm, st, nI k, cp, op) (bl, dn, bg, nI k, fm) := ⟨k, rfl, rfl, rfl, h⟩
theorem iv_k (h : iv_sb st k bg) : k ≤ 6 := by rcases h with h | h | h <;> omega
/-- while it runs -/
theorem iv_run (h : iv_core d ru fm st k cp op bl dn bg) (hr : ¬ ru = 0) : ru = 1 ∧ dn = 0 ∧ op = -1 ∧ cp = 0 ∧ iv_ok st k ∧ iv_all d fm st k bl := by
  obtain ⟨h1, h2, h3, h4⟩ := h
  rcases h1 with ⟨rfl, rfl⟩ | ⟨h1, _⟩
  · rcases h4 with ⟨a1, a2, a3, a4⟩ | ⟨b1, _⟩ | ⟨c1, _⟩
    · refine ⟨rfl, rfl, a1, a2, ?_, a3⟩
      rcases h2 with ⟨e, _, h⟩ | ⟨e, _, h⟩ | ⟨e, _, h⟩
      · exact Or.inl ⟨e, h⟩
      · refine Or.inr (Or.inl ⟨e, ?_⟩)
        rcases Nat.lt_or_ge k 6 with h9 | h9
        · exact h9
        · exact absurd (a4 e (by omega)).1 (by decide)
      · exact Or.inr (Or.inr ⟨e, h⟩)
    · exact absurd b1 (by decide)
    · exact absurd c1 (by decide)
  · exact absurd h1 hr
theorem iv_up' {ru' dn' : Int32} (h1 : (ru' = 1 ∧ dn' = 0) ∨ (ru' = 0 ∧ dn' = 1)) (h2 : iv_sb st k bg) (h3 : iv_fm fm) (h4 : iv_all d fm st k bl) (h5 : iv_ok st k) : iv_core d ru' fm st k 0 (-1) bl dn' bg :=
  ⟨h1, h2, h3, Or.inl ⟨rfl, rfl, h4, fun e e6 => by
    rcases h5 with ⟨e1, _⟩ | ⟨_, e2⟩ | ⟨e1, _⟩
    · rw [e] at e1; exact absurd e1 (by decide)
    · omega
    · rw [e] at e1; exact absurd e1 (by decide)⟩⟩
theorem iv_fm0 (h : iv_fm fm) : fm = -1 ↔ fm < 0 := by
  rcases h with rfl | ⟨j, hj, rfl⟩
  · exact ⟨fun _ => by decide, fun _ => rfl⟩
  · exact ⟨fun e => absurd e (nI_m1 (by omega)), fun e => absurd e (nI_pos (by omega))⟩
theorem ib_nb (mv b : Int32) : (px_ib mv b = 0 ∧ ¬ pm_nb mv b = 0) ∨ (¬ px_ib mv b = 0 ∧ pm_nb mv b = 0 ∧ ∃ j : Nat, j < px_szn mv ∧ b = nI j) := by
  by_cases h : px_ib mv b = 0
  · refine Or.inl ⟨h, fun h2 => ?_⟩
    rw [px_ib] at h
    rw [pm_nb] at h2
    by_cases c1 : b < 0
    · rw [if_pos c1] at h2; exact absurd h2 (by decide)
    · rw [if_neg c1] at h h2
      by_cases c2 : px_sz mv ≤ b
      · rw [if_pos c2] at h2; exact absurd h2 (by decide)
      · rw [if_neg c2] at h; exact absurd h (by decide)
  · obtain ⟨j, hj, rfl⟩ := px_ib_n h
    refine Or.inr ⟨h, ?_, j, hj, rfl⟩
    have h48 := px_szn_le mv
    rw [pm_nb, if_neg (nI_pos (by omega)), px_sz_n, if_neg (nI_ge hj (by omega)), if_pos (show nI j < 48 from nI_lt (b := 48) (by omega) (by omega))]
-- the answers
theorem iv_up (h : iv_core d ru fm st k cp op bl dn bg) : px_up ru = pm_up dn := by
  rcases h.1 with ⟨rfl, rfl⟩ | ⟨rfl, rfl⟩ <;> rfl
theorem iv_members (h : iv_core d ru fm st k cp op bl dn bg) : px_ms st = pm_ms bg := by
  rcases h.2.1 with ⟨rfl, rfl, _⟩ | ⟨rfl, rfl, _⟩ | ⟨rfl, rfl, _⟩ <;> rfl
theorem iv_growth (h : iv_core d ru fm st k cp op bl dn bg) : px_gr st (nI k) = pm_gr bg (nI k) := by
  rcases h.2.1 with ⟨rfl, rfl, rfl⟩ | ⟨rfl, rfl, _⟩ | ⟨rfl, rfl, rfl⟩
  · rfl
  · rw [px_gr, pm_gr, if_neg (show ¬ (1 : Int32) = 0 by decide)]
  · rfl
theorem iv_read (h : iv_core d ru fm st k cp op bl dn bg) (b : Int32) : px_read d ru fm st (nI k) b = pm_read bl dn (nI k) b := by
  by_cases c : ru = 0
  · have e : dn = 1 := by rcases h.1 with ⟨e1, _⟩ | ⟨_, e2⟩; rw [c] at e1; exact absurd e1 (by decide); exact e2
    rw [px_read, pm_read, if_pos c, e, if_neg (by decide)]
  · obtain ⟨e1, e2, e3, e4, ho, ha⟩ := iv_run h c
    rw [px_read, pm_read, if_neg c, if_pos e2]
    rcases ib_nb (nI k) b with ⟨c1, c2⟩ | ⟨c1, c2, j, hj, rfl⟩
    · rw [if_pos c1, if_neg c2]
    · have := px_szn_le (nI k)
      rw [if_neg c1, if_pos c2, nI_clamp (by omega)]
      exact iv_fe ho ha hj
theorem iv_dn (h : iv_core d ru fm st k cp op bl dn bg) (c : ru = 0) : ¬ dn = 0 := by
  rcases h.1 with ⟨e1, _⟩ | ⟨_, e2⟩
  · rw [c] at e1; exact absurd e1 (by decide)
  · rw [e2]; decide
theorem iv_sum (h : iv_core d ru fm st k cp op bl dn bg) : px_sum d ru fm st (nI k) = pm_sum bl dn (nI k) := by
  by_cases c : ru = 0
  · rw [px_sum, pm_sum, if_pos c, if_neg (iv_dn h c)]
  · obtain ⟨e1, e2, e3, e4, ho, ha⟩ := iv_run h c
    rw [px_sum, pm_sum, if_neg c, if_pos e2]
    exact pv_su _ (fun b hb => iv_fe ho ha hb)
theorem iv_write (h : iv_core d ru fm st k cp op bl dn bg) (b v : Int32) : (px_write d g ru fm st (nI k) cp op b v).1 = (pm_write bl dn bg (nI k) fm b v).1 ∧ iv (px_write d g ru fm st (nI k) cp op b v).2 (pm_write bl dn bg (nI k) fm b v).2 := by
  by_cases c : ru = 0
  · rw [px_write, pm_write, if_pos c, if_neg (iv_dn h c)]
    exact ⟨rfl, iv_mk h⟩
  · obtain ⟨e1, e2, e3, e4, ho, ha⟩ := iv_run h c
    rw [px_write, pm_write, if_neg c, if_pos e2]
    rcases ib_nb (nI k) b with ⟨c1, c2⟩ | ⟨c1, c2, j, hj, rfl⟩
    · rw [if_pos c1, if_neg c2]
      exact ⟨rfl, iv_mk h⟩
    · have := px_szn_le (nI k)
      rw [if_neg c1, if_pos c2, nI_clamp (by omega), px_st_3]
      refine ⟨rfl, iv_mk ?_⟩
      rw [e4]
      exact iv_up' h.1 h.2.1 h.2.2.1 (iv_st v ho ha hj) ho
theorem iv_fill (h : iv_core d ru fm st k cp op bl dn bg) (b n v a : Int32) : (px_fill d g ru fm st (nI k) cp op b n v a).1 = (pm_fill bl dn bg (nI k) fm b n v a).1 ∧ iv (px_fill d g ru fm st (nI k) cp op b n v a).2 (pm_fill bl dn bg (nI k) fm b n v a).2 := by
  by_cases c : ru = 0
  · rw [px_fill, pm_fill, if_pos c, if_neg (iv_dn h c)]
    exact ⟨rfl, iv_mk h⟩
  · obtain ⟨e1, e2, e3, e4, ho, ha⟩ := iv_run h c
    rw [px_fill, pm_fill, if_neg c, if_pos e2]
    by_cases c1 : n < 1
    · rw [if_pos c1, if_pos c1]
      exact ⟨rfl, iv_mk h⟩
    · rw [if_neg c1, if_neg c1]
      by_cases c2 : n ≤ 24
      · rw [if_pos c2, if_pos c2]
        by_cases c3 : b < 0
        · rw [if_pos c3, if_pos c3]
          exact ⟨rfl, iv_mk h⟩
        · rw [if_neg c3, if_neg c3]
          by_cases c4 : b ≤ px_sz (nI k) - n
          · rw [if_pos c4, if_pos c4]
            obtain ⟨N, hN1, hN, rfl⟩ := px_cnt_n c1 c2
            obtain ⟨j, hj, rfl⟩ := px_fil_n hN c3 c4
            have := px_szn_le (nI k)
            rw [nI_clamp (n := j) (by omega), nI_clamp (n := N) (by omega), pv_fm (by omega)]
            refine ⟨rfl, iv_mk ?_⟩
            rw [e4]
            exact iv_up' h.1 h.2.1 h.2.2.1 (pv_fl ho ha N hj) ho
          · rw [if_neg c4, if_neg c4]
            exact ⟨rfl, iv_mk h⟩
      · rw [if_neg c2, if_neg c2]
        exact ⟨rfl, iv_mk h⟩
theorem iv_wc (h : iv_core d ru fm st k cp op bl dn bg) (b v pt : Int32) : (px_wc d g ru fm st (nI k) cp op b v pt).1 = (pm_wc bl dn bg (nI k) fm b v pt).1 ∧ iv (px_wc d g ru fm st (nI k) cp op b v pt).2 (pm_wc bl dn bg (nI k) fm b v pt).2 := by
  by_cases c : ru = 0
  · rw [px_wc, pm_wc, if_pos c, if_neg (iv_dn h c)]
    exact ⟨rfl, iv_mk h⟩
  · obtain ⟨e1, e2, e3, e4, ho, ha⟩ := iv_run h c
    rw [px_wc, pm_wc, if_neg c, if_pos e2]
    rcases ib_nb (nI k) b with ⟨c1, c2⟩ | ⟨c1, c2, j, hj, rfl⟩
    · rw [if_pos c1, if_neg c2]
      exact ⟨rfl, iv_mk h⟩
    · rw [if_neg c1, if_pos c2]
      have hsz := px_szn_le (nI k)
      by_cases c3 : pt < 0
      · rw [if_pos c3, if_pos c3]
        exact ⟨rfl, iv_mk h⟩
      · rw [if_neg c3, if_neg c3]
        by_cases c4 : pt ≤ 3
        · rw [if_pos c4, if_pos c4]
          by_cases c5 : fm = -1
          · rw [if_pos c5, if_pos ((iv_fm0 h.2.2.1).mp c5), nI_clamp (by omega)]
            obtain ⟨l1, l2, l3⟩ := iv_loc ho hj
            have hw : px_row j (px_bw st (nI k) (nI j)) < 16 := by omega
            have far : ∀ (D : Nat → Int32) (B : Nat → Int32), (∀ m r, r < 16 → r ≠ px_row j (px_bw st (nI k) (nI j)) → D (m * 16 + r) = d (m * 16 + r)) → (∀ w' r m, m < px_cnt w' → px_row j w' ≠ r → iv_id B w' r m = iv_id bl w' r m) → ∀ w' r', r' < 12 → iv_lay st k w' r' → r' ≠ px_row j (px_bw st (nI k) (nI j)) → iv_row D fm B w' r' := by
              intro D B hD hB w' r' hr' hl' hne m hm hf
              have hne2 : px_row j w' ≠ r' := fun e9 => by
                have e8 := l3 w' r' hl' e9
                rw [e8] at e9
                exact hne e9.symm
              rw [hD m r' (by omega) hne, hB w' r' m hm hne2]
              exact ha w' r' hr' hl' m hm hf
            by_cases p0 : pt = 0
            · rw [if_pos (by rw [p0]; decide), px_st, if_pos p0]
              refine ⟨rfl, iv_mk ⟨Or.inr ⟨rfl, rfl⟩, h.2.1, h.2.2.1, Or.inr (Or.inl ⟨rfl, e4, c5, ho, _, _, l2, rfl, l1, far d bl (fun _ _ _ _ => rfl) (fun _ _ _ _ _ => rfl), fun m hm hne => ?_⟩)⟩⟩
              exact ha _ _ l2 l1 m hm (by rw [c5]; exact nI_m1 (by have := px_cnt_le (px_bw st (nI k) (nI j)); omega))
            · have p1 : ¬ pt ≤ 0 := fun h9 => p0 (Int32.le_antisymm h9 (Int32.not_lt.mp c3))
              rw [if_neg p1, px_st, if_neg p0]
              by_cases q1 : pt = 1
              · rw [if_pos q1]
                refine ⟨rfl, iv_mk ⟨Or.inr ⟨rfl, rfl⟩, h.2.1, h.2.2.1, Or.inr (Or.inl ⟨rfl, e4, c5, ho, _, _, l2, rfl, l1, far _ _ (fun m r hr hne => ?_) (fun w' r m hm hne => iv_id_far hm hne), fun m hm hne => ?_⟩)⟩⟩
                · exact px_put_row hw hr hne
                · have hf : ¬ nI m = fm := by rw [c5]; exact nI_m1 (by have := px_cnt_le (px_bw st (nI k) (nI j)); omega)
                  show px_put d fm (px_mem j (px_bw st (nI k) (nI j))) (px_row j (px_bw st (nI k) (nI j))) v (m * 16 + px_row j (px_bw st (nI k) (nI j))) = iv_id (upd bl j v) (px_bw st (nI k) (nI j)) (px_row j (px_bw st (nI k) (nI j))) m
                  by_cases hm2 : m = px_mem j (px_bw st (nI k) (nI j))
                  · rw [hm2] at hf ⊢
                    rw [px_put_self hf, iv_id_at]
                  · rw [px_put_mem hm2, iv_id_oth hm hm2 hne]
                    exact ha _ _ l2 l1 m hm hf
              · rw [if_neg q1]
                have hall := iv_st v ho ha hj
                by_cases q2 : pt = 2
                · rw [if_pos q2]
                  refine ⟨rfl, iv_mk ⟨Or.inr ⟨rfl, rfl⟩, h.2.1, h.2.2.1, Or.inr (Or.inl ⟨rfl, e4, c5, ho, _, _, l2, rfl, l1, fun w' r' hr' hl' _ => hall w' r' hr' hl', fun m hm hne => ?_⟩)⟩⟩
                  exact hall _ _ l2 l1 m hm (by rw [c5]; exact nI_m1 (by have := px_cnt_le (px_bw st (nI k) (nI j)); omega))
                · rw [if_neg q2]
                  refine ⟨rfl, iv_mk ?_⟩
                  rw [e4]
                  exact iv_up' (Or.inr ⟨rfl, rfl⟩) h.2.1 h.2.2.1 hall ho
          · rw [if_neg c5, if_neg (fun h9 => c5 ((iv_fm0 h.2.2.1).mpr h9))]
            exact ⟨rfl, iv_mk h⟩
        · rw [if_neg c4, if_neg c4]
          exact ⟨rfl, iv_mk h⟩
theorem iv_begin (h : iv_core d ru fm st k cp op bl dn bg) : (px_begin d g ru fm st (nI k) cp op).1 = (pm_begin bl dn bg (nI k) fm).1 ∧ iv (px_begin d g ru fm st (nI k) cp op).2 (pm_begin bl dn bg (nI k) fm).2 := by
  by_cases c : ru = 0
  · rw [px_begin, pm_begin, if_pos c, if_neg (iv_dn h c)]
    exact ⟨rfl, iv_mk h⟩
  · obtain ⟨e1, e2, e3, e4, ho, ha⟩ := iv_run h c
    rw [px_begin, pm_begin, if_neg c, if_pos e2]
    rcases h.2.1 with ⟨a1, a2, a3⟩ | ⟨a1, a2, a3⟩ | ⟨a1, a2, a3⟩
    · rw [if_pos a1, if_pos a2]
      by_cases c5 : fm = -1
      · rw [if_pos c5, if_pos ((iv_fm0 h.2.2.1).mp c5)]
        subst a3
        refine ⟨rfl, iv_mk (k := 0) ?_⟩
        rw [e4, e3]
        refine iv_up' h.1 (Or.inr (Or.inl ⟨rfl, rfl, by omega⟩)) h.2.2.1 (fun w r hr hl => ?_) (Or.inr (Or.inl ⟨rfl, by omega⟩))
        cases w with
        | true =>
          rcases hl with hl | ⟨_, hl⟩
          · exact absurd hl (by decide)
          · omega
        | false => exact ha false r hr (Or.inl a1)
      · rw [if_neg c5, if_neg (fun h9 => c5 ((iv_fm0 h.2.2.1).mpr h9))]
        exact ⟨rfl, iv_mk h⟩
    · rw [if_neg (by rw [a1]; decide), if_neg (by rw [a2]; decide)]
      exact ⟨rfl, iv_mk h⟩
    · rw [if_neg (by rw [a1]; decide), if_neg (by rw [a2]; decide)]
      exact ⟨rfl, iv_mk h⟩
theorem iv_crash (h : iv_core d ru fm st k cp op bl dn bg) : (px_crash d g ru fm st (nI k) cp op).1 = (pm_crash bl dn bg (nI k) fm).1 ∧ iv (px_crash d g ru fm st (nI k) cp op).2 (pm_crash bl dn bg (nI k) fm).2 := by
  by_cases c : ru = 0
  · rw [px_crash, pm_crash, if_pos c, if_neg (iv_dn h c)]
    exact ⟨rfl, iv_mk h⟩
  · obtain ⟨e1, e2, e3, e4, ho, ha⟩ := iv_run h c
    rw [px_crash, pm_crash, if_neg c, if_pos e2]
    refine ⟨rfl, iv_mk ?_⟩
    rw [e4, e3]
    exact iv_up' (Or.inr ⟨rfl, rfl⟩) h.2.1 h.2.2.1 ha ho
theorem iv_fail (h : iv_core d ru fm st k cp op bl dn bg) (q : Int32) : (px_fail d g ru fm st (nI k) cp op q).1 = (pm_fail bl dn bg (nI k) fm q).1 ∧ iv (px_fail d g ru fm st (nI k) cp op q).2 (pm_fail bl dn bg (nI k) fm q).2 := by
  by_cases c : ru = 0
  · rw [px_fail, pm_fail, if_pos c, if_neg (iv_dn h c)]
    exact ⟨rfl, iv_mk h⟩
  · obtain ⟨e1, e2, e3, e4, ho, ha⟩ := iv_run h c
    rw [px_fail, pm_fail, if_neg c, if_pos e2, ← iv_members h]
    by_cases c1 : q < 0
    · rw [if_pos c1, if_pos c1]
      exact ⟨rfl, iv_mk h⟩
    · rw [if_neg c1, if_neg c1]
      by_cases c2 : q < px_ms st
      · rw [if_pos c2, if_pos c2]
        by_cases c5 : fm = -1
        · rw [if_pos c5, if_pos ((iv_fm0 h.2.2.1).mp c5)]
          obtain ⟨j, hj, rfl⟩ := px_fail_n c1 c2
          rw [nI_clamp (by omega)]
          refine ⟨rfl, iv_mk ?_⟩
          rw [e4, e3]
          refine iv_up' h.1 h.2.1 (Or.inr ⟨j, hj, rfl⟩) (fun w r hr hl m hm hf => ?_) ho
          have h5 := px_cnt_le w
          rw [pv_fd (by omega) (fun e9 => hf (by rw [e9]))]
          exact ha w r hr hl m hm (by rw [c5]; exact nI_m1 (by omega))
        · rw [if_neg c5, if_neg (fun h9 => c5 ((iv_fm0 h.2.2.1).mpr h9))]
          exact ⟨rfl, iv_mk h⟩
      · rw [if_neg c2, if_neg c2]
        exact ⟨rfl, iv_mk h⟩
theorem iv_replace (h : iv_core d ru fm st k cp op bl dn bg) : (px_replace d g ru fm st (nI k) cp op).1 = (pm_replace bl dn bg (nI k) fm).1 ∧ iv (px_replace d g ru fm st (nI k) cp op).2 (pm_replace bl dn bg (nI k) fm).2 := by
  by_cases c : ru = 0
  · rw [px_replace, pm_replace, if_pos c, if_neg (iv_dn h c)]
    exact ⟨rfl, iv_mk h⟩
  · obtain ⟨e1, e2, e3, e4, ho, ha⟩ := iv_run h c
    rw [px_replace, pm_replace, if_neg c, if_pos e2]
    by_cases c5 : fm = -1
    · rw [if_pos c5, if_neg (by rw [c5]; decide)]
      exact ⟨rfl, iv_mk h⟩
    · rw [if_neg c5]
      obtain ⟨j, hj, rfl⟩ : ∃ j : Nat, j < 5 ∧ fm = nI j := by rcases h.2.2.1 with h9 | h9; exact absurd h9 c5; exact h9
      rw [if_pos (nI_pos' (by omega)), nI_clamp (by omega)]
      refine ⟨rfl, iv_mk ?_⟩
      rw [e4, e3]
      exact iv_up' h.1 h.2.1 (Or.inl rfl) (pv_rr (iv_k h.2.1) hj ha (fun m r hm hr => pv_rz hr hm)) ho
theorem iv_scrub (h : iv_core d ru fm st k cp op bl dn bg) : px_scrub d ru fm st (nI k) = (pm_scrub bl dn bg (nI k) fm).1 ∧ (pm_scrub bl dn bg (nI k) fm).2 = (bl, dn, bg, nI k, fm) := by
  by_cases c : ru = 0
  · rw [px_scrub, pm_scrub, if_pos c, if_neg (iv_dn h c)]
    exact ⟨rfl, rfl⟩
  · obtain ⟨e1, e2, e3, e4, ho, ha⟩ := iv_run h c
    rw [px_scrub, pm_scrub, if_neg c, if_pos e2]
    by_cases c5 : fm = -1
    · rw [if_pos c5, if_pos ((iv_fm0 h.2.2.1).mp c5)]
      refine ⟨?_, rfl⟩
      refine px_itr_inv (P := fun _ (a : Int32) => a = 0) 12 rfl ?_
      intro i a hi hz
      subst hz
      by_cases c6 : bI (px_iu st (nI k) (nI i)) = 0
      · rw [if_pos c6]
      · rw [if_neg c6]
        have hu : px_iu st (nI k) (nI i) = true := by
          cases h9 : px_iu st (nI k) (nI i) with
          | true => rfl
          | false => exact absurd (bI_0.mpr h9) c6
        have hl := iu_iw ho hi hu
        rw [if_pos (iv_oth1 (bl := bl) (fun m hm => ha _ _ hi hl m hm (by rw [c5]; exact nI_m1 (by have := px_cnt_le (px_iw st (nI k) (nI i)); omega))))]
    · rw [if_neg c5, if_neg (fun h9 => c5 ((iv_fm0 h.2.2.1).mpr h9))]
      exact ⟨rfl, rfl⟩
end OPS
end
section
/-! the plain law, fourth part: moving a group, mounting -/
section OPS2
variable {d g bl : Nat → Int32} {ru fm st cp op dn bg : Int32} {k : Nat}
theorem pm2_5 {D G : Nat → Int32} : px_m2 D G ru fm st cp op k 5 = if nI (k + 1) = 6 then (px_fo (px_mw D G fm k) fm 6, G, ru, fm, 2, nI (k + 1), 0, op) else (px_mw D G fm k, G, ru, fm, st, nI (k + 1), 0, op) := by
  rw [px_m2, if_neg (by decide), if_neg (by decide), if_neg (by decide), if_neg (by decide)]
theorem pm2_4 {D G : Nat → Int32} : px_m2 D G ru fm st cp op k 4 = (px_mw D G fm k, G, ru, fm, st, nI (k + 1), 0, op) := by
  rw [px_m2, if_neg (by decide), if_neg (by decide), if_neg (by decide), if_pos (by decide)]
theorem pm2_lo {D G : Nat → Int32} {pt : Int32} (hk : k < 16) (h0 : ¬ pt = 0) (h1 : ¬ pt < 0) (h4 : pt ≤ 4) (hn : ¬ pt = 4) : ∃ X : Nat → Int32, px_m2 D G ru fm st cp op k pt = (X, G, ru, fm, st, nI k, cp, op) ∧ ∀ m r, r < 16 → r ≠ k → X (m * 16 + r) = D (m * 16 + r) := by
  obtain ⟨j, hj, rfl⟩ := nI_of h1
  have hj4 : j ≤ 4 := (nI_leI (b := 4) hj (by omega)).mp h4
  have hj0 : j ≠ 0 := fun e => h0 (by rw [e]; rfl)
  have hjn : j ≠ 4 := fun e => hn (by rw [e]; rfl)
  rcases (show j = 1 ∨ j = 2 ∨ j = 3 by omega) with e | e | e <;> subst e
  · exact ⟨D, by rw [px_m2, if_pos (by decide)], fun _ _ _ _ => rfl⟩
  · exact ⟨px_ww D G fm k 0 2, by rw [px_m2, if_neg (by decide), if_pos (by decide)], fun m r hr hne => pv_ww hk hr hne⟩
  · exact ⟨px_mw D G fm k, by rw [px_m2, if_neg (by decide), if_neg (by decide), if_pos (by decide)], fun m r hr hne => pv_mw_row hk hr hne⟩
/-- the disk behind the copies, and the group read -/
theorem pv_grp (hk : k < 6) (ha : iv_all d fm 1 k bl) : ∀ i, i < 4 → px_mg d g fm k 4 i = bl (4 * k + i) :=
  pv_mg (fun r hr => ha false r (by omega) (Or.inr ⟨rfl, by omega⟩))
theorem pm1_D {pt : Int32} (h0 : ¬ pt = 0) : ∃ (D : Nat → Int32) (cp' : Int32), px_m1 d g ru fm st cp op k pt = px_m2 D (px_mg d g fm k 4) ru fm st cp' op k pt ∧ (∀ m r, r < 12 → D (m * 16 + r) = d (m * 16 + r)) := by
  by_cases hz : nI k = 0
  · exact ⟨_, 1, by rw [px_m1, if_neg h0, if_pos hz], pv_mc.1⟩
  · exact ⟨d, cp, by rw [px_m1, if_neg h0, if_neg hz], fun _ _ _ => rfl⟩
theorem nk16 : nI k + 1 = 6 ↔ nI (k + 1) = 6 := by rw [nI_1]
theorem iv_moved {D G : Nat → Int32} (hk : k < 6) (ha : iv_all d fm 1 k bl) (hD : ∀ m r, r < 12 → D (m * 16 + r) = d (m * 16 + r)) (hG : ∀ i, i < 4 → G i = bl (4 * k + i)) : iv_all (px_mw D G fm k) fm 1 (k + 1) (pm_mo bl (nI k)) ∧ (k + 1 = 6 → ∀ b, 24 ≤ b → b < 48 → pm_mo bl (nI k) b = 0) := by
  have h1 := pv_moved hk ha hD hG
  rw [pm_mo, nI_1]
  by_cases h6 : k + 1 = 6
  · rw [if_pos ((nI_6 (by omega)).mpr h6)]
    rw [h6] at h1 ⊢
    exact ⟨pv_all_z h1, fun _ b h1 h2 => by rw [pv_z, if_pos ⟨h1, h2⟩]⟩
  · rw [if_neg (fun h9 => h6 ((nI_6 (by omega)).mp h9))]
    exact ⟨h1, fun h9 => absurd h9 h6⟩
theorem iv_step (h : iv_core d ru fm st k cp op bl dn bg) : (px_step d g ru fm st cp op k).1 = (pm_step bl dn bg (nI k) fm).1 ∧ iv (px_step d g ru fm st cp op k).2 (pm_step bl dn bg (nI k) fm).2 := by
  by_cases c : ru = 0
  · rw [px_step, pm_step, if_pos c, if_neg (iv_dn h c)]
    exact ⟨rfl, iv_mk h⟩
  · obtain ⟨e1, e2, e3, e4, ho, ha⟩ := iv_run h c
    rw [px_step, pm_step, if_neg c, if_pos e2, ← iv_growth h, px_gr]
    by_cases c1 : st = 1
    · rw [if_pos c1]
      by_cases c2 : nI k = 6
      · rw [if_pos c2, if_pos c2, if_neg (by decide)]
        exact ⟨rfl, iv_mk h⟩
      · rw [if_neg c2, if_neg c2, if_pos c1]
        subst c1
        have hk : k < 6 := by rcases ho with ⟨h9, _⟩ | ⟨_, h9⟩ | ⟨h9, _⟩; exact absurd h9 (by decide); exact h9; exact absurd h9 (by decide)
        have hbg : bg = 1 := by rcases h.2.1 with ⟨h9, _⟩ | ⟨_, h9, _⟩ | ⟨h9, _⟩; exact absurd h9 (by decide); exact h9; exact absurd h9 (by decide)
        obtain ⟨D, cp', hm1, hD⟩ := pm1_D (d := d) (g := g) (ru := ru) (fm := fm) (st := 1) (cp := cp) (op := op) (k := k) (pt := 5) (by decide)
        have hM := iv_moved hk ha hD (pv_grp (g := g) hk ha)
        rw [hm1, pm2_5, nI_1]
        by_cases h6 : k + 1 = 6
        · rw [if_pos ((nI_6 (by omega)).mpr h6)]
          refine ⟨rfl, iv_mk (k := k + 1) ?_⟩
          rw [e3]
          have hz := hM.2 h6
          have hA := hM.1
          rw [h6] at hA ⊢
          exact iv_up' h.1 (Or.inr (Or.inr ⟨rfl, hbg, rfl⟩)) h.2.2.1 (pv_fin hA hz) (Or.inr (Or.inr ⟨rfl, rfl⟩))
        · rw [if_neg (fun h9 => h6 ((nI_6 (by omega)).mp h9))]
          refine ⟨rfl, iv_mk (k := k + 1) ?_⟩
          rw [e3]
          exact iv_up' h.1 (Or.inr (Or.inl ⟨rfl, hbg, by omega⟩)) h.2.2.1 hM.1 (Or.inr (Or.inl ⟨rfl, by omega⟩))
    · rw [if_neg c1]
      have c3 : ¬ (if nI k = 6 then 2 else st) = 1 := by
        split
        · decide
        · exact c1
      rw [if_neg c3]
      exact ⟨rfl, iv_mk h⟩
theorem iv_sc (h : iv_core d ru fm st k cp op bl dn bg) (pt : Int32) : (px_sc d g ru fm st cp op k pt).1 = (pm_sc bl dn bg (nI k) fm pt).1 ∧ iv (px_sc d g ru fm st cp op k pt).2 (pm_sc bl dn bg (nI k) fm pt).2 := by
  by_cases c : ru = 0
  · rw [px_sc, pm_sc, if_pos c, if_neg (iv_dn h c)]
    exact ⟨rfl, iv_mk h⟩
  · obtain ⟨e1, e2, e3, e4, ho, ha⟩ := iv_run h c
    rw [px_sc, pm_sc, if_neg c, if_pos e2, ← iv_growth h, px_gr]
    by_cases c1 : st = 1
    · rw [if_pos c1]
      by_cases c2 : nI k = 6
      · rw [if_pos c2, if_pos c2, if_neg (by decide)]
        exact ⟨rfl, iv_mk h⟩
      · rw [if_neg c2, if_neg c2, if_pos c1]
        by_cases c3 : pt < 0
        · rw [if_pos c3, if_pos c3]
          exact ⟨rfl, iv_mk h⟩
        · rw [if_neg c3, if_neg c3]
          by_cases c4 : pt ≤ 4
          · rw [if_pos c4, if_pos c4]
            subst c1
            have hk : k < 6 := by rcases ho with ⟨h9, _⟩ | ⟨_, h9⟩ | ⟨h9, _⟩; exact absurd h9 (by decide); exact h9; exact absurd h9 (by decide)
            have hbg : bg = 1 := by rcases h.2.1 with ⟨h9, _⟩ | ⟨_, h9, _⟩ | ⟨h9, _⟩; exact absurd h9 (by decide); exact h9; exact absurd h9 (by decide)
            have hgr := pv_grp (g := g) hk ha
            by_cases c5 : pt = 4
            · subst c5
              rw [if_pos rfl]
              obtain ⟨D, cp', hm1, hD⟩ := pm1_D (d := d) (g := g) (ru := ru) (fm := fm) (st := 1) (cp := cp) (op := op) (k := k) (pt := 4) (by decide)
              have hM := iv_moved hk ha hD hgr
              rw [hm1, pm2_4, nI_1]
              refine ⟨rfl, iv_mk (k := k + 1) ?_⟩
              exact ⟨Or.inr ⟨rfl, rfl⟩, Or.inr (Or.inl ⟨rfl, hbg, by omega⟩), h.2.2.1, Or.inl ⟨e3, rfl, hM.1, fun _ h6 => ⟨rfl, hM.2 h6⟩⟩⟩
            · rw [if_neg c5]
              by_cases c6 : pt = 0
              · rw [px_m1, if_pos c6]
                refine ⟨rfl, iv_mk ?_⟩
                show iv_core d 0 fm 1 k cp op bl 1 bg
                rw [e3, e4]
                exact iv_up' (Or.inr ⟨rfl, rfl⟩) h.2.1 h.2.2.1 ha ho
              · by_cases hz : nI k = 0
                · have hk0 : k = 0 := (nI_eq (b := 0) (by omega) (by omega)).mp hz
                  rw [px_m1, if_neg c6, if_pos hz]
                  obtain ⟨X, hX, hXr⟩ := pm2_lo (D := px_mc d (px_mg d g fm k 4) fm 4) (G := px_mg d g fm k 4) (ru := ru) (fm := fm) (st := 1) (cp := 1) (op := op) (k := k) (pt := pt) (by omega) c6 c3 c4 c5
                  rw [hX]
                  refine ⟨rfl, iv_mk ?_⟩
                  show iv_core X 0 fm 1 k 1 op bl 1 bg
                  subst hk0
                  refine ⟨Or.inr ⟨rfl, rfl⟩, h.2.1, h.2.2.1, Or.inr (Or.inr ⟨rfl, rfl, e3, rfl, rfl, fun r h1 h2 m hm hf => ?_, fun i hi => ⟨fun hf => ?_, fun hf => ?_⟩⟩)⟩
                  · rw [hXr m r (by omega) (by omega), pv_mc.1 m r h2]
                    exact ha false r h2 (Or.inr ⟨rfl, by omega⟩) m hm hf
                  · rw [hXr 3 (12 + i) (by omega) (by omega), (pv_mc.2 i hi).1 hf, hgr i hi, show 4 * 0 + i = i by omega]
                  · rw [hXr 4 (12 + i) (by omega) (by omega), (pv_mc.2 i hi).2 hf, hgr i hi, show 4 * 0 + i = i by omega]
                · have hk0 : 0 < k := by
                    rcases Nat.eq_zero_or_pos k with h9 | h9
                    · exact absurd (by rw [h9]; rfl) hz
                    · exact h9
                  rw [px_m1, if_neg c6, if_neg hz]
                  obtain ⟨X, hX, hXr⟩ := pm2_lo (D := d) (G := px_mg d g fm k 4) (ru := ru) (fm := fm) (st := 1) (cp := cp) (op := op) (k := k) (pt := pt) (by omega) c6 c3 c4 c5
                  rw [hX]
                  refine ⟨rfl, iv_mk ?_⟩
                  show iv_core X 0 fm 1 k cp op bl 1 bg
                  rw [e3, e4]
                  exact iv_up' (Or.inr ⟨rfl, rfl⟩) h.2.1 h.2.2.1 (pv_free hk0 ha (fun m r hr hne => hXr m r (by omega) hne)) ho
          · rw [if_neg c4, if_neg c4]
            exact ⟨rfl, iv_mk h⟩
    · rw [if_neg c1]
      have c3 : ¬ (if nI k = 6 then 2 else st) = 1 := by
        split
        · decide
        · exact c1
      rw [if_neg c3]
      exact ⟨rfl, iv_mk h⟩
theorem t59_ok (ho : iv_ok st k) : px_t59 d g fm st (nI k) cp op = (d, g, 1, fm, st, nI k, cp, op) := by
  rw [px_t59]
  split
  · rename_i e
    rcases ho with ⟨h1, _⟩ | ⟨_, h2⟩ | ⟨h1, _⟩
    · rw [e] at h1; exact absurd h1 (by decide)
    · rw [if_neg (fun h9 => absurd ((nI_6 (by omega)).mp h9) (by omega))]
    · rw [e] at h1; exact absurd h1 (by decide)
  · rfl
theorem iv_mount (h : iv_core d ru fm st k cp op bl dn bg) : (px_mount d g ru fm st (nI k) cp op).1 = (pm_mount bl dn bg (nI k) fm).1 ∧ iv (px_mount d g ru fm st (nI k) cp op).2 (pm_mount bl dn bg (nI k) fm).2 := by
  by_cases c : ru = 0
  · rw [px_mount, pm_mount, if_pos c, if_neg (iv_dn h c)]
    have hk6 := iv_k h.2.1
    rcases h.2.2.2 with ⟨a1, a2, a3, a4⟩ | ⟨b1, b2, b3, b4, w, r, b5, b6, b7, b8, b9⟩ | ⟨c1, c2, c3, c4, c5, c6, c7⟩
    · rw [if_pos a1, px_t48, if_pos a2]
      by_cases hs : st = 1
      · by_cases h6 : k = 6
        · have hbg : bg = 1 := by rcases h.2.1 with ⟨h9, _⟩ | ⟨_, h9, _⟩ | ⟨_, h9, _⟩; rw [hs] at h9; exact absurd h9 (by decide); exact h9; exact h9
          have hz := (a4 hs h6).2
          rw [px_t59, if_pos hs, if_pos ((nI_6 hk6).mpr h6)]
          refine ⟨rfl, iv_mk ?_⟩
          rw [a1, a2]
          subst hs h6
          exact iv_up' (Or.inl ⟨rfl, rfl⟩) (Or.inr (Or.inr ⟨rfl, hbg, rfl⟩)) h.2.2.1 (pv_fin a3 hz) (Or.inr (Or.inr ⟨rfl, rfl⟩))
        · have ho : iv_ok st k := Or.inr (Or.inl ⟨hs, by omega⟩)
          rw [t59_ok ho]
          refine ⟨rfl, iv_mk ?_⟩
          rw [a1, a2]
          exact iv_up' (Or.inl ⟨rfl, rfl⟩) h.2.1 h.2.2.1 a3 ho
      · have ho : iv_ok st k := by
          rcases h.2.1 with ⟨h9, _, h8⟩ | ⟨h9, _⟩ | ⟨h9, _, h8⟩
          · exact Or.inl ⟨h9, h8⟩
          · exact absurd h9 hs
          · exact Or.inr (Or.inr ⟨h9, h8⟩)
        rw [t59_ok ho]
        refine ⟨rfl, iv_mk ?_⟩
        rw [a1, a2]
        exact iv_up' (Or.inl ⟨rfl, rfl⟩) h.2.1 h.2.2.1 a3 ho
    · rw [if_neg (by rw [b6]; exact nI_m1 (by omega)), b6, nI_clamp (by omega), iw_lay hk6 b5 b7, px_t48, if_pos b2, t59_ok b4]
      refine ⟨rfl, iv_mk ?_⟩
      rw [b2]
      refine iv_up' (Or.inl ⟨rfl, rfl⟩) h.2.1 h.2.2.1 (fun w' r' hr' hl' m hm hf => ?_) b4
      rw [px_mend]
      by_cases e : r' = r
      · subst e
        have ew : w' = w := iv_one hl' b7
        subst ew
        by_cases em : m = px_par r' w'
        · subst em
          rw [px_put_self hf, iv_oth hm b9]
        · rw [px_put_mem em]
          exact b9 m hm em
      · rw [px_put_row (by omega) (by omega) e]
        exact b8 w' r' hr' hl' e m hm hf
    · have ho : iv_ok st k := Or.inr (Or.inl ⟨c4, by omega⟩)
      rw [if_pos c3, px_t48, if_neg (by rw [c2]; decide), t59_ok ho]
      refine ⟨rfl, iv_mk ?_⟩
      rw [c3]
      have hf := pv_tf (fm := fm)
      have hg : ∀ i, i < 4 → px_tg d g (px_tf fm) 4 i = bl i := by
        intro i hi
        rw [pv_tg i hi]
        rcases hf.2 with e | e
        · have := (c7 i hi).1 (by rw [← e]; exact hf.1)
          rw [e, show 3 * 16 + 12 + i = 3 * 16 + (12 + i) by omega]
          exact this
        · have := (c7 i hi).2 (by rw [← e]; exact hf.1)
          rw [e, show 4 * 16 + 12 + i = 4 * 16 + (12 + i) by omega]
          exact this
      have T := pv_te (d := d) (fm := fm) hg
      refine iv_up' (Or.inl ⟨rfl, rfl⟩) h.2.1 h.2.2.1 (fun w' r' hr' hl' => ?_) ho
      cases w' with
      | true =>
        rcases hl' with hl' | ⟨_, hl'⟩
        · rw [c4] at hl'; exact absurd hl' (by decide)
        · omega
      | false =>
        by_cases r0 : r' = 0
        · subst r0; exact T.1
        · by_cases r1 : r' = 1
          · subst r1; exact T.2.1
          · intro m hm hf
            rw [T.2.2 m r' (by omega) (by omega)]
            exact c6 r' (by omega) hr' m hm hf
  · obtain ⟨e1, e2, e3, e4, ho, ha⟩ := iv_run h c
    rw [px_mount, pm_mount, if_neg c, if_pos e2]
    exact ⟨rfl, iv_mk h⟩
end OPS2
end
section
/-! THE CLAIM OUT OF ONE WALK OF THE LAW'S BODY. Your part is whole_start (and what it stands on); all else here is the same for every law, but numbers. -/
def lw_P (b : Addr) (xs : List Int32) (args : Array Value) (s : State) : Prop := args = #[.ref b] ∧ s.IntsAt b xs ∧ xs.length ≤ 2560 ∧ (Jvm.Cond.and given_1 narrow_1).before args s = true
def lw_Q (_ : Array Value) (s : State) (o : Outcome) (t : State) : Prop := o = .returned (some (.int 1)) ∧ Framed s o t [] 5 145
def lw_Z (below : List Frame) (a : Array Value) (s : State) : State → Prop := fun t => ∃ o, t.status = .running ∧ Ended t below o ∧ lw_Q a s o t
/-- the law's own end, with 1 on the stack, nothing written that was there before, its room as the claim has it -/
theorem lw_ret {p : Program} {l : Launch} {e : Env} {s : State} {m : MethodId} {below : List Frame} {meth : Method} {c : Code} {b : Nat} (hx : p.tables.exec = Jvm.exec) (hb : c.code = code) (hr : meth.sig.returnType = ret) (hlocks : meth.locks = false) {pc : Nat} {H : Heap} {ls : Array Slot} (hdg : decode code pc = .ok (.ireturn, 1)) : W p l e room_1 s m #[Value.ref b] below meth c H [] 5 145 (lw_Z below #[Value.ref b] s) (F0 m pc ls [.int 1]) := by
  intro T hT X
  obtain ⟨fs, hret, hrun, hended, hW, hframe⟩ := X.leave (v := some (.int 1)) (hlocks := hlocks) (fun h => by rw [hr] at h; cases h)
  have hmeth' : T.vm.method? m = some meth := X.method'
  refine ⟨T.setFrames fs, ?_, .returned (some (.int 1)), hrun, hended, rfl, ⟨_, rfl⟩, hW, hframe⟩
  jvm_step X.here [X.here.top, hx, hb, hdg, hmeth', hr, ret, narrow_b1]
  (try refine ⟨rfl, ?_⟩); (try refine ⟨rfl, ?_⟩)
  first | (intro acts; rw [hret _ acts rfl rfl rfl]) | rw [hret _ _ rfl rfl rfl]
  exact Steps.refl _
/-- what holds at the law's entry: the machine, the code, the tables' words (any of lw_tbl by 'hts w (by decide +kernel)'), the script of L ints xs at the cell b, what the Statement gives of the start (any of its parts by flat_of_before) -/
def lw_At (p : Program) (s : State) (m : MethodId) (meth : Method) (c : Code) (b L : Nat) (xs : Nat → Int32) : Prop :=
  p.tables.exec = Jvm.exec ∧ c.code = code ∧ meth.sig.returnType = ret ∧ c.maxLocals = 4 ∧ s.vm.findClass R_law = some m.cls ∧ (∀ w ∈ lw_tbl, w.before #[Value.ref b] s = true) ∧ va_X b L xs s s.heap ∧ b < s.heap.size ∧ meth.locks = false ∧ (Jvm.Cond.and given_1 narrow_1).before #[Value.ref b] s = true
theorem lw_go {L i : Nat} (hL : L ≤ 2560) (hi : i ≤ L + 5) (h : ¬ nI L - 5 < nI i) : i + 5 ≤ L := by
  rw [Int32.lt_iff_toInt_lt, show (5 : Int32) = nI 5 from rfl, pk_sub_toInt (by omega) (by omega), nI_toInt (by omega)] at h
  omega
theorem rl_sld {p : Program} {l : Launch} {e : Env} {R : Room} {s : State} {m : MethodId} {args : Array Value} {below : List Frame} {meth : Method} {c : Code} {H : Heap} {locs : List Loc} {Q : State → Prop} {cc : ByteArray} {nL pc cells slots : Nat} {ls : Array Slot} {rest : List Value} {D : va_G} {own : String} {K : XK} {J : MK} {u : XS} {v : MS} {b L i : Nat} {xs : Nat → Int32} (S : CallFix p m c cc nL s args lw_gd own) (hX : va_X b L xs s s.heap) (hbl : b < s.heap.size) (hL : L ≤ 2560) (hi : i < L) (hG : gL D s K J u v H locs) (hdg : decode cc pc = .ok (.iaload, 1))
    (kk : W p l e R s m args below meth c H locs cells slots Q (F0 m (pc + 1) ls (.int (xs i) :: rest))) : W p l e R s m args below meth c H locs cells slots Q (F0 m pc ls (.int (nI i) :: .ref b :: rest)) :=
  va_sld S.1 S.2.1 hX hbl (Nat.not_le.mpr hbl) hG.2.2.2 (vp_in_nI hi (by omega)) hdg (by rw [nI_clamp (by omega)]; exact kk)
theorem iv_opr {d bl : Nat → Int32} {ru fm st cp op dn bg : Int32} {k : Nat} (h : iv_core d ru fm st k cp op bl dn bg) : op = -1 ∨ ∃ r : Nat, r < 16 ∧ op = nI r := by
  rcases h.2.2.2 with ⟨a1, _⟩ | ⟨_, _, _, _, _, r, b5, b6, _⟩ | ⟨_, _, c3, _⟩
  · exact Or.inl a1
  · exact Or.inr ⟨r, by omega, b6⟩
  · exact Or.inl c3
set_option maxHeartbeats 4000000 in
set_option maxRecDepth 100000 in
theorem lc_up {p : Program} {l : Launch} {e : Env} {s : State} {m : MethodId} {below : List Frame} {meth : Method} {c : Code} {D : va_G} {K : XK} {J : MK} {b L : Nat} {xs : Nat → Int32} {i : Nat} {d g bl : Nat → Int32} {ru fm st cp op dn bg : Int32} {k : Nat} (S : CallFix p m c code 4 s #[Value.ref b] lw_gd R_law) (hX : va_X b L xs s s.heap) (hbl : b < s.heap.size) (hL : L ≤ 2560) (hi : i + 5 ≤ L) (hc : iv_core d ru fm st k cp op bl dn bg)
    {H : Heap} {locs : List Loc} {ls : Array Slot} (hG : gL D s K J (d, g, ru, fm, st, nI k, cp, op) (bl, dn, bg, nI k, fm) H locs) (hl : lv_has ls 4 [(3, .int (nI i)), (0, .ref b), (1, .ref K.1), (2, .ref J.1)])
    (back : ∀ (u : XS) (v : MS) (H : Heap) (locs : List Loc), iv u v → gL D s K J u v H locs → W p l e room_1 s m #[Value.ref b] below meth c H locs 5 145 (lw_Z below #[Value.ref b] s) (F0 m 491 ls [])) : W p l e room_1 s m #[Value.ref b] below meth c H locs 5 145 (lw_Z below #[Value.ref b] s) (F0 m 124 ls []) := by
  refine lv_aload_n S.1 S.2.1 dx_law_law_124 rfl (lv_at hl 2 rfl) ?_
  refine rl_xi (rest := []) S (cx_X_up l d g ru fm st (nI k) cp op) gc_law_13 hd_X_up ⟨rfl, rfl⟩ ⟨Nat.le_of_ble_eq_true rfl, Nat.le_of_ble_eq_true rfl⟩ rfl hG hl.1 rfl (Nat.le_of_ble_eq_true rfl) dx_law_law_125 ⟨Nat.le_of_ble_eq_true rfl, Nat.le_of_ble_eq_true rfl⟩ (fun H locs hG => ?_)
  refine lv_aload_n S.1 S.2.1 dx_law_law_128 rfl (lv_at hl 3 rfl) ?_
  refine rl_mi (rest := [.int (px_up ru)]) S (cx_M_up l bl dn bg (nI k) fm) gc_law_17 hd_M_up ⟨rfl, rfl⟩ ⟨Nat.le_of_ble_eq_true rfl, Nat.le_of_ble_eq_true rfl⟩ rfl hG hl.1 rfl (Nat.le_of_ble_eq_true rfl) dx_law_law_129 ⟨Nat.le_of_ble_eq_true rfl, Nat.le_of_ble_eq_true rfl⟩ (fun H locs hG => ?_)
  refine lv_icmp_eq (tgt := 491) S.1 S.2.1 dx_law_law_132 (by decide) (fun _ => ?_) (fun h9 => absurd (iv_up hc) h9)
  exact back _ _ _ _ (iv_mk hc) hG
set_option maxHeartbeats 4000000 in
set_option maxRecDepth 100000 in
theorem lc_size {p : Program} {l : Launch} {e : Env} {s : State} {m : MethodId} {below : List Frame} {meth : Method} {c : Code} {D : va_G} {K : XK} {J : MK} {b L : Nat} {xs : Nat → Int32} {i : Nat} {d g bl : Nat → Int32} {ru fm st cp op dn bg : Int32} {k : Nat} (S : CallFix p m c code 4 s #[Value.ref b] lw_gd R_law) (hX : va_X b L xs s s.heap) (hbl : b < s.heap.size) (hL : L ≤ 2560) (hi : i + 5 ≤ L) (hc : iv_core d ru fm st k cp op bl dn bg)
    {H : Heap} {locs : List Loc} {ls : Array Slot} (hG : gL D s K J (d, g, ru, fm, st, nI k, cp, op) (bl, dn, bg, nI k, fm) H locs) (hl : lv_has ls 4 [(3, .int (nI i)), (0, .ref b), (1, .ref K.1), (2, .ref J.1)])
    (back : ∀ (u : XS) (v : MS) (H : Heap) (locs : List Loc), iv u v → gL D s K J u v H locs → W p l e room_1 s m #[Value.ref b] below meth c H locs 5 145 (lw_Z below #[Value.ref b] s) (F0 m 491 ls [])) : W p l e room_1 s m #[Value.ref b] below meth c H locs 5 145 (lw_Z below #[Value.ref b] s) (F0 m 137 ls []) := by
  refine lv_aload_n S.1 S.2.1 dx_law_law_137 rfl (lv_at hl 2 rfl) ?_
  refine rl_xi (rest := []) S (cx_X_size l d g ru fm st (nI k) cp op) gc_law_18 hd_X_size ⟨rfl, rfl⟩ ⟨Nat.le_of_ble_eq_true rfl, Nat.le_of_ble_eq_true rfl⟩ rfl hG hl.1 rfl (Nat.le_of_ble_eq_true rfl) dx_law_law_138 ⟨Nat.le_of_ble_eq_true rfl, Nat.le_of_ble_eq_true rfl⟩ (fun H locs hG => ?_)
  refine lv_aload_n S.1 S.2.1 dx_law_law_141 rfl (lv_at hl 3 rfl) ?_
  refine rl_mi (rest := [.int (px_sz (nI k))]) S (cx_M_size l bl dn bg (nI k) fm) gc_law_21 hd_M_size ⟨rfl, rfl⟩ ⟨Nat.le_of_ble_eq_true rfl, Nat.le_of_ble_eq_true rfl⟩ rfl hG hl.1 rfl (Nat.le_of_ble_eq_true rfl) dx_law_law_142 ⟨Nat.le_of_ble_eq_true rfl, Nat.le_of_ble_eq_true rfl⟩ (fun H locs hG => ?_)
  refine lv_icmp_eq (tgt := 491) S.1 S.2.1 dx_law_law_145 (by decide) (fun _ => ?_) (fun h9 => absurd (rfl) h9)
  exact back _ _ _ _ (iv_mk hc) hG
set_option maxHeartbeats 4000000 in
set_option maxRecDepth 100000 in
theorem lc_members {p : Program} {l : Launch} {e : Env} {s : State} {m : MethodId} {below : List Frame} {meth : Method} {c : Code} {D : va_G} {K : XK} {J : MK} {b L : Nat} {xs : Nat → Int32} {i : Nat} {d g bl : Nat → Int32} {ru fm st cp op dn bg : Int32} {k : Nat} (S : CallFix p m c code 4 s #[Value.ref b] lw_gd R_law) (hX : va_X b L xs s s.heap) (hbl : b < s.heap.size) (hL : L ≤ 2560) (hi : i + 5 ≤ L) (hc : iv_core d ru fm st k cp op bl dn bg)
    {H : Heap} {locs : List Loc} {ls : Array Slot} (hG : gL D s K J (d, g, ru, fm, st, nI k, cp, op) (bl, dn, bg, nI k, fm) H locs) (hl : lv_has ls 4 [(3, .int (nI i)), (0, .ref b), (1, .ref K.1), (2, .ref J.1)])
    (back : ∀ (u : XS) (v : MS) (H : Heap) (locs : List Loc), iv u v → gL D s K J u v H locs → W p l e room_1 s m #[Value.ref b] below meth c H locs 5 145 (lw_Z below #[Value.ref b] s) (F0 m 491 ls [])) : W p l e room_1 s m #[Value.ref b] below meth c H locs 5 145 (lw_Z below #[Value.ref b] s) (F0 m 150 ls []) := by
  refine lv_aload_n S.1 S.2.1 dx_law_law_150 rfl (lv_at hl 2 rfl) ?_
  refine rl_xi (rest := []) S (cx_X_members l d g ru fm st (nI k) cp op) gc_law_22 hd_X_members ⟨rfl, rfl⟩ ⟨Nat.le_of_ble_eq_true rfl, Nat.le_of_ble_eq_true rfl⟩ rfl hG hl.1 rfl (Nat.le_of_ble_eq_true rfl) dx_law_law_151 ⟨Nat.le_of_ble_eq_true rfl, Nat.le_of_ble_eq_true rfl⟩ (fun H locs hG => ?_)
  refine lv_aload_n S.1 S.2.1 dx_law_law_154 rfl (lv_at hl 3 rfl) ?_
  refine rl_mi (rest := [.int (px_ms st)]) S (cx_M_members l bl dn bg (nI k) fm) gc_law_25 hd_M_members ⟨rfl, rfl⟩ ⟨Nat.le_of_ble_eq_true rfl, Nat.le_of_ble_eq_true rfl⟩ rfl hG hl.1 rfl (Nat.le_of_ble_eq_true rfl) dx_law_law_155 ⟨Nat.le_of_ble_eq_true rfl, Nat.le_of_ble_eq_true rfl⟩ (fun H locs hG => ?_)
  refine lv_icmp_eq (tgt := 491) S.1 S.2.1 dx_law_law_158 (by decide) (fun _ => ?_) (fun h9 => absurd (iv_members hc) h9)
  exact back _ _ _ _ (iv_mk hc) hG
set_option maxHeartbeats 4000000 in
set_option maxRecDepth 100000 in
theorem lc_failed {p : Program} {l : Launch} {e : Env} {s : State} {m : MethodId} {below : List Frame} {meth : Method} {c : Code} {D : va_G} {K : XK} {J : MK} {b L : Nat} {xs : Nat → Int32} {i : Nat} {d g bl : Nat → Int32} {ru fm st cp op dn bg : Int32} {k : Nat} (S : CallFix p m c code 4 s #[Value.ref b] lw_gd R_law) (hX : va_X b L xs s s.heap) (hbl : b < s.heap.size) (hL : L ≤ 2560) (hi : i + 5 ≤ L) (hc : iv_core d ru fm st k cp op bl dn bg)
    {H : Heap} {locs : List Loc} {ls : Array Slot} (hG : gL D s K J (d, g, ru, fm, st, nI k, cp, op) (bl, dn, bg, nI k, fm) H locs) (hl : lv_has ls 4 [(3, .int (nI i)), (0, .ref b), (1, .ref K.1), (2, .ref J.1)])
    (back : ∀ (u : XS) (v : MS) (H : Heap) (locs : List Loc), iv u v → gL D s K J u v H locs → W p l e room_1 s m #[Value.ref b] below meth c H locs 5 145 (lw_Z below #[Value.ref b] s) (F0 m 491 ls [])) : W p l e room_1 s m #[Value.ref b] below meth c H locs 5 145 (lw_Z below #[Value.ref b] s) (F0 m 163 ls []) := by
  refine lv_aload_n S.1 S.2.1 dx_law_law_163 rfl (lv_at hl 2 rfl) ?_
  refine rl_xi (rest := []) S (cx_X_failed l d g ru fm st (nI k) cp op) gc_law_26 hd_X_failed ⟨rfl, rfl⟩ ⟨Nat.le_of_ble_eq_true rfl, Nat.le_of_ble_eq_true rfl⟩ rfl hG hl.1 rfl (Nat.le_of_ble_eq_true rfl) dx_law_law_164 ⟨Nat.le_of_ble_eq_true rfl, Nat.le_of_ble_eq_true rfl⟩ (fun H locs hG => ?_)
  refine lv_aload_n S.1 S.2.1 dx_law_law_167 rfl (lv_at hl 3 rfl) ?_
  refine rl_mi (rest := [.int fm]) S (cx_M_failed l bl dn bg (nI k) fm) gc_law_29 hd_M_failed ⟨rfl, rfl⟩ ⟨Nat.le_of_ble_eq_true rfl, Nat.le_of_ble_eq_true rfl⟩ rfl hG hl.1 rfl (Nat.le_of_ble_eq_true rfl) dx_law_law_168 ⟨Nat.le_of_ble_eq_true rfl, Nat.le_of_ble_eq_true rfl⟩ (fun H locs hG => ?_)
  refine lv_icmp_eq (tgt := 491) S.1 S.2.1 dx_law_law_171 (by decide) (fun _ => ?_) (fun h9 => absurd (rfl) h9)
  exact back _ _ _ _ (iv_mk hc) hG
set_option maxHeartbeats 4000000 in
set_option maxRecDepth 100000 in
theorem lc_growth {p : Program} {l : Launch} {e : Env} {s : State} {m : MethodId} {below : List Frame} {meth : Method} {c : Code} {D : va_G} {K : XK} {J : MK} {b L : Nat} {xs : Nat → Int32} {i : Nat} {d g bl : Nat → Int32} {ru fm st cp op dn bg : Int32} {k : Nat} (S : CallFix p m c code 4 s #[Value.ref b] lw_gd R_law) (hX : va_X b L xs s s.heap) (hbl : b < s.heap.size) (hL : L ≤ 2560) (hi : i + 5 ≤ L) (hc : iv_core d ru fm st k cp op bl dn bg)
    {H : Heap} {locs : List Loc} {ls : Array Slot} (hG : gL D s K J (d, g, ru, fm, st, nI k, cp, op) (bl, dn, bg, nI k, fm) H locs) (hl : lv_has ls 4 [(3, .int (nI i)), (0, .ref b), (1, .ref K.1), (2, .ref J.1)])
    (back : ∀ (u : XS) (v : MS) (H : Heap) (locs : List Loc), iv u v → gL D s K J u v H locs → W p l e room_1 s m #[Value.ref b] below meth c H locs 5 145 (lw_Z below #[Value.ref b] s) (F0 m 491 ls [])) : W p l e room_1 s m #[Value.ref b] below meth c H locs 5 145 (lw_Z below #[Value.ref b] s) (F0 m 176 ls []) := by
  refine lv_aload_n S.1 S.2.1 dx_law_law_176 rfl (lv_at hl 2 rfl) ?_
  refine rl_xi (rest := []) S (cx_X_growth l d g ru fm st (nI k) cp op) gc_law_30 hd_X_growth ⟨rfl, rfl⟩ ⟨Nat.le_of_ble_eq_true rfl, Nat.le_of_ble_eq_true rfl⟩ rfl hG hl.1 rfl (Nat.le_of_ble_eq_true rfl) dx_law_law_177 ⟨Nat.le_of_ble_eq_true rfl, Nat.le_of_ble_eq_true rfl⟩ (fun H locs hG => ?_)
  refine lv_aload_n S.1 S.2.1 dx_law_law_180 rfl (lv_at hl 3 rfl) ?_
  refine rl_mi (rest := [.int (px_gr st (nI k))]) S (cx_M_growth l bl dn bg (nI k) fm) gc_law_33 hd_M_growth ⟨rfl, rfl⟩ ⟨Nat.le_of_ble_eq_true rfl, Nat.le_of_ble_eq_true rfl⟩ rfl hG hl.1 rfl (Nat.le_of_ble_eq_true rfl) dx_law_law_181 ⟨Nat.le_of_ble_eq_true rfl, Nat.le_of_ble_eq_true rfl⟩ (fun H locs hG => ?_)
  refine lv_icmp_eq (tgt := 491) S.1 S.2.1 dx_law_law_184 (by decide) (fun _ => ?_) (fun h9 => absurd (iv_growth hc) h9)
  exact back _ _ _ _ (iv_mk hc) hG
set_option maxHeartbeats 4000000 in
set_option maxRecDepth 100000 in
theorem lc_groups {p : Program} {l : Launch} {e : Env} {s : State} {m : MethodId} {below : List Frame} {meth : Method} {c : Code} {D : va_G} {K : XK} {J : MK} {b L : Nat} {xs : Nat → Int32} {i : Nat} {d g bl : Nat → Int32} {ru fm st cp op dn bg : Int32} {k : Nat} (S : CallFix p m c code 4 s #[Value.ref b] lw_gd R_law) (hX : va_X b L xs s s.heap) (hbl : b < s.heap.size) (hL : L ≤ 2560) (hi : i + 5 ≤ L) (hc : iv_core d ru fm st k cp op bl dn bg)
    {H : Heap} {locs : List Loc} {ls : Array Slot} (hG : gL D s K J (d, g, ru, fm, st, nI k, cp, op) (bl, dn, bg, nI k, fm) H locs) (hl : lv_has ls 4 [(3, .int (nI i)), (0, .ref b), (1, .ref K.1), (2, .ref J.1)])
    (back : ∀ (u : XS) (v : MS) (H : Heap) (locs : List Loc), iv u v → gL D s K J u v H locs → W p l e room_1 s m #[Value.ref b] below meth c H locs 5 145 (lw_Z below #[Value.ref b] s) (F0 m 491 ls [])) : W p l e room_1 s m #[Value.ref b] below meth c H locs 5 145 (lw_Z below #[Value.ref b] s) (F0 m 189 ls []) := by
  refine lv_aload_n S.1 S.2.1 dx_law_law_189 rfl (lv_at hl 2 rfl) ?_
  refine rl_xi (rest := []) S (cx_X_groups l d g ru fm st (nI k) cp op) gc_law_34 hd_X_groups ⟨rfl, rfl⟩ ⟨Nat.le_of_ble_eq_true rfl, Nat.le_of_ble_eq_true rfl⟩ rfl hG hl.1 rfl (Nat.le_of_ble_eq_true rfl) dx_law_law_190 ⟨Nat.le_of_ble_eq_true rfl, Nat.le_of_ble_eq_true rfl⟩ (fun H locs hG => ?_)
  refine lv_aload_n S.1 S.2.1 dx_law_law_193 rfl (lv_at hl 3 rfl) ?_
  refine rl_mi (rest := [.int (nI k)]) S (cx_M_groups l bl dn bg (nI k) fm) gc_law_37 hd_M_groups ⟨rfl, rfl⟩ ⟨Nat.le_of_ble_eq_true rfl, Nat.le_of_ble_eq_true rfl⟩ rfl hG hl.1 rfl (Nat.le_of_ble_eq_true rfl) dx_law_law_194 ⟨Nat.le_of_ble_eq_true rfl, Nat.le_of_ble_eq_true rfl⟩ (fun H locs hG => ?_)
  refine lv_icmp_eq (tgt := 491) S.1 S.2.1 dx_law_law_197 (by decide) (fun _ => ?_) (fun h9 => absurd (rfl) h9)
  exact back _ _ _ _ (iv_mk hc) hG
set_option maxHeartbeats 4000000 in
set_option maxRecDepth 100000 in
theorem lc_read {p : Program} {l : Launch} {e : Env} {s : State} {m : MethodId} {below : List Frame} {meth : Method} {c : Code} {D : va_G} {K : XK} {J : MK} {b L : Nat} {xs : Nat → Int32} {i : Nat} {d g bl : Nat → Int32} {ru fm st cp op dn bg : Int32} {k : Nat} (S : CallFix p m c code 4 s #[Value.ref b] lw_gd R_law) (hX : va_X b L xs s s.heap) (hbl : b < s.heap.size) (hL : L ≤ 2560) (hi : i + 5 ≤ L) (hc : iv_core d ru fm st k cp op bl dn bg)
    {H : Heap} {locs : List Loc} {ls : Array Slot} (hG : gL D s K J (d, g, ru, fm, st, nI k, cp, op) (bl, dn, bg, nI k, fm) H locs) (hl : lv_has ls 4 [(3, .int (nI i)), (0, .ref b), (1, .ref K.1), (2, .ref J.1)])
    (back : ∀ (u : XS) (v : MS) (H : Heap) (locs : List Loc), iv u v → gL D s K J u v H locs → W p l e room_1 s m #[Value.ref b] below meth c H locs 5 145 (lw_Z below #[Value.ref b] s) (F0 m 491 ls [])) : W p l e room_1 s m #[Value.ref b] below meth c H locs 5 145 (lw_Z below #[Value.ref b] s) (F0 m 202 ls []) := by
  refine lv_aload_n S.1 S.2.1 dx_law_law_202 rfl (lv_at hl 2 rfl) ?_
  refine lv_aload_n S.1 S.2.1 dx_law_law_203 rfl (lv_at hl 1 rfl) ?_
  refine lv_iload_n S.1 S.2.1 dx_law_law_204 rfl (lv_at hl 0 rfl) ?_
  refine lv_iconst (v := 1) S.1 S.2.1 dx_law_law_205 (by decide) ?_
  refine lv_iadd S.1 S.2.1 dx_law_law_206 ?_
  refine rg_top (y := nI (i + 1)) (nI_add i 1) ?_
  refine rl_sld (i := i + 1) S hX hbl hL (by omega) hG dx_law_law_207 ?_
  refine rl_xi (rest := []) S (cx_X_read l d g ru fm st (nI k) cp op (xs (i + 1)) (fun c9 => iv_okb (iv_run hc c9).2.2.2.2.1)) gc_law_38 hd_X_read ⟨rfl, rfl⟩ ⟨Nat.le_of_ble_eq_true rfl, Nat.le_of_ble_eq_true rfl⟩ rfl hG hl.1 rfl (Nat.le_of_ble_eq_true rfl) dx_law_law_208 ⟨Nat.le_of_ble_eq_true rfl, Nat.le_of_ble_eq_true rfl⟩ (fun H locs hG => ?_)
  refine lv_aload_n S.1 S.2.1 dx_law_law_211 rfl (lv_at hl 3 rfl) ?_
  refine lv_aload_n S.1 S.2.1 dx_law_law_212 rfl (lv_at hl 1 rfl) ?_
  refine lv_iload_n S.1 S.2.1 dx_law_law_213 rfl (lv_at hl 0 rfl) ?_
  refine lv_iconst (v := 1) S.1 S.2.1 dx_law_law_214 (by decide) ?_
  refine lv_iadd S.1 S.2.1 dx_law_law_215 ?_
  refine rg_top (y := nI (i + 1)) (nI_add i 1) ?_
  refine rl_sld (i := i + 1) S hX hbl hL (by omega) hG dx_law_law_216 ?_
  refine rl_mi (rest := [.int (px_read d ru fm st (nI k) (xs (i + 1)))]) S (cx_M_read l bl dn bg (nI k) fm (xs (i + 1))) gc_law_42 hd_M_read ⟨rfl, rfl⟩ ⟨Nat.le_of_ble_eq_true rfl, Nat.le_of_ble_eq_true rfl⟩ rfl hG hl.1 rfl (Nat.le_of_ble_eq_true rfl) dx_law_law_217 ⟨Nat.le_of_ble_eq_true rfl, Nat.le_of_ble_eq_true rfl⟩ (fun H locs hG => ?_)
  refine lv_icmp_eq (tgt := 491) S.1 S.2.1 dx_law_law_220 (by decide) (fun _ => ?_) (fun h9 => absurd (iv_read hc (xs (i + 1))) h9)
  exact back _ _ _ _ (iv_mk hc) hG
set_option maxHeartbeats 4000000 in
set_option maxRecDepth 100000 in
theorem lc_sum {p : Program} {l : Launch} {e : Env} {s : State} {m : MethodId} {below : List Frame} {meth : Method} {c : Code} {D : va_G} {K : XK} {J : MK} {b L : Nat} {xs : Nat → Int32} {i : Nat} {d g bl : Nat → Int32} {ru fm st cp op dn bg : Int32} {k : Nat} (S : CallFix p m c code 4 s #[Value.ref b] lw_gd R_law) (hX : va_X b L xs s s.heap) (hbl : b < s.heap.size) (hL : L ≤ 2560) (hi : i + 5 ≤ L) (hc : iv_core d ru fm st k cp op bl dn bg)
    {H : Heap} {locs : List Loc} {ls : Array Slot} (hG : gL D s K J (d, g, ru, fm, st, nI k, cp, op) (bl, dn, bg, nI k, fm) H locs) (hl : lv_has ls 4 [(3, .int (nI i)), (0, .ref b), (1, .ref K.1), (2, .ref J.1)])
    (back : ∀ (u : XS) (v : MS) (H : Heap) (locs : List Loc), iv u v → gL D s K J u v H locs → W p l e room_1 s m #[Value.ref b] below meth c H locs 5 145 (lw_Z below #[Value.ref b] s) (F0 m 491 ls [])) : W p l e room_1 s m #[Value.ref b] below meth c H locs 5 145 (lw_Z below #[Value.ref b] s) (F0 m 225 ls []) := by
  refine lv_aload_n S.1 S.2.1 dx_law_law_225 rfl (lv_at hl 2 rfl) ?_
  refine rl_xi (rest := []) S (cx_X_sum l d g ru fm st (nI k) cp op (fun c9 => iv_okb (iv_run hc c9).2.2.2.2.1)) gc_law_43 hd_X_sum ⟨rfl, rfl⟩ ⟨Nat.le_of_ble_eq_true rfl, Nat.le_of_ble_eq_true rfl⟩ rfl hG hl.1 rfl (Nat.le_of_ble_eq_true rfl) dx_law_law_226 ⟨Nat.le_of_ble_eq_true rfl, Nat.le_of_ble_eq_true rfl⟩ (fun H locs hG => ?_)
  refine lv_aload_n S.1 S.2.1 dx_law_law_229 rfl (lv_at hl 3 rfl) ?_
  refine rl_mi (rest := [.int (px_sum d ru fm st (nI k))]) S (cx_M_sum l bl dn bg (nI k) fm) gc_law_46 hd_M_sum ⟨rfl, rfl⟩ ⟨Nat.le_of_ble_eq_true rfl, Nat.le_of_ble_eq_true rfl⟩ rfl hG hl.1 rfl (Nat.le_of_ble_eq_true rfl) dx_law_law_230 ⟨Nat.le_of_ble_eq_true rfl, Nat.le_of_ble_eq_true rfl⟩ (fun H locs hG => ?_)
  refine lv_icmp_eq (tgt := 491) S.1 S.2.1 dx_law_law_233 (by decide) (fun _ => ?_) (fun h9 => absurd (iv_sum hc) h9)
  exact back _ _ _ _ (iv_mk hc) hG
set_option maxHeartbeats 4000000 in
set_option maxRecDepth 100000 in
theorem lc_write {p : Program} {l : Launch} {e : Env} {s : State} {m : MethodId} {below : List Frame} {meth : Method} {c : Code} {D : va_G} {K : XK} {J : MK} {b L : Nat} {xs : Nat → Int32} {i : Nat} {d g bl : Nat → Int32} {ru fm st cp op dn bg : Int32} {k : Nat} (S : CallFix p m c code 4 s #[Value.ref b] lw_gd R_law) (hX : va_X b L xs s s.heap) (hbl : b < s.heap.size) (hL : L ≤ 2560) (hi : i + 5 ≤ L) (hc : iv_core d ru fm st k cp op bl dn bg)
    {H : Heap} {locs : List Loc} {ls : Array Slot} (hG : gL D s K J (d, g, ru, fm, st, nI k, cp, op) (bl, dn, bg, nI k, fm) H locs) (hl : lv_has ls 4 [(3, .int (nI i)), (0, .ref b), (1, .ref K.1), (2, .ref J.1)])
    (back : ∀ (u : XS) (v : MS) (H : Heap) (locs : List Loc), iv u v → gL D s K J u v H locs → W p l e room_1 s m #[Value.ref b] below meth c H locs 5 145 (lw_Z below #[Value.ref b] s) (F0 m 491 ls [])) : W p l e room_1 s m #[Value.ref b] below meth c H locs 5 145 (lw_Z below #[Value.ref b] s) (F0 m 238 ls []) := by
  refine lv_aload_n S.1 S.2.1 dx_law_law_238 rfl (lv_at hl 2 rfl) ?_
  refine lv_aload_n S.1 S.2.1 dx_law_law_239 rfl (lv_at hl 1 rfl) ?_
  refine lv_iload_n S.1 S.2.1 dx_law_law_240 rfl (lv_at hl 0 rfl) ?_
  refine lv_iconst (v := 1) S.1 S.2.1 dx_law_law_241 (by decide) ?_
  refine lv_iadd S.1 S.2.1 dx_law_law_242 ?_
  refine rg_top (y := nI (i + 1)) (nI_add i 1) ?_
  refine rl_sld (i := i + 1) S hX hbl hL (by omega) hG dx_law_law_243 ?_
  refine lv_aload_n S.1 S.2.1 dx_law_law_244 rfl (lv_at hl 1 rfl) ?_
  refine lv_iload_n S.1 S.2.1 dx_law_law_245 rfl (lv_at hl 0 rfl) ?_
  refine lv_iconst (v := 2) S.1 S.2.1 dx_law_law_246 (by decide) ?_
  refine lv_iadd S.1 S.2.1 dx_law_law_247 ?_
  refine rg_top (y := nI (i + 2)) (nI_add i 2) ?_
  refine rl_sld (i := i + 2) S hX hbl hL (by omega) hG dx_law_law_248 ?_
  refine rl_xi (rest := []) S (cx_X_write l d g ru fm st (nI k) cp op (xs (i + 1)) (xs (i + 2)) (fun c9 => iv_okb (iv_run hc c9).2.2.2.2.1)) gc_law_47 hd_X_write ⟨rfl, rfl⟩ ⟨Nat.le_of_ble_eq_true rfl, Nat.le_of_ble_eq_true rfl⟩ rfl hG hl.1 rfl (Nat.le_of_ble_eq_true rfl) dx_law_law_249 ⟨Nat.le_of_ble_eq_true rfl, Nat.le_of_ble_eq_true rfl⟩ (fun H locs hG => ?_)
  refine lv_aload_n S.1 S.2.1 dx_law_law_252 rfl (lv_at hl 3 rfl) ?_
  refine lv_aload_n S.1 S.2.1 dx_law_law_253 rfl (lv_at hl 1 rfl) ?_
  refine lv_iload_n S.1 S.2.1 dx_law_law_254 rfl (lv_at hl 0 rfl) ?_
  refine lv_iconst (v := 1) S.1 S.2.1 dx_law_law_255 (by decide) ?_
  refine lv_iadd S.1 S.2.1 dx_law_law_256 ?_
  refine rg_top (y := nI (i + 1)) (nI_add i 1) ?_
  refine rl_sld (i := i + 1) S hX hbl hL (by omega) hG dx_law_law_257 ?_
  refine lv_aload_n S.1 S.2.1 dx_law_law_258 rfl (lv_at hl 1 rfl) ?_
  refine lv_iload_n S.1 S.2.1 dx_law_law_259 rfl (lv_at hl 0 rfl) ?_
  refine lv_iconst (v := 2) S.1 S.2.1 dx_law_law_260 (by decide) ?_
  refine lv_iadd S.1 S.2.1 dx_law_law_261 ?_
  refine rg_top (y := nI (i + 2)) (nI_add i 2) ?_
  refine rl_sld (i := i + 2) S hX hbl hL (by omega) hG dx_law_law_262 ?_
  refine rl_mi (rest := [.int ((px_write d g ru fm st (nI k) cp op (xs (i + 1)) (xs (i + 2))).1)]) S (cx_M_write l bl dn bg (nI k) fm (xs (i + 1)) (xs (i + 2))) gc_law_51 hd_M_write ⟨rfl, rfl⟩ ⟨Nat.le_of_ble_eq_true rfl, Nat.le_of_ble_eq_true rfl⟩ rfl hG hl.1 rfl (Nat.le_of_ble_eq_true rfl) dx_law_law_263 ⟨Nat.le_of_ble_eq_true rfl, Nat.le_of_ble_eq_true rfl⟩ (fun H locs hG => ?_)
  refine lv_icmp_eq (tgt := 491) S.1 S.2.1 dx_law_law_266 (by decide) (fun _ => ?_) (fun h9 => absurd ((iv_write (g := g) hc (xs (i + 1)) (xs (i + 2))).1) h9)
  exact back _ _ _ _ ((iv_write (g := g) hc (xs (i + 1)) (xs (i + 2))).2) hG
set_option maxHeartbeats 4000000 in
set_option maxRecDepth 100000 in
theorem lc_fill {p : Program} {l : Launch} {e : Env} {s : State} {m : MethodId} {below : List Frame} {meth : Method} {c : Code} {D : va_G} {K : XK} {J : MK} {b L : Nat} {xs : Nat → Int32} {i : Nat} {d g bl : Nat → Int32} {ru fm st cp op dn bg : Int32} {k : Nat} (S : CallFix p m c code 4 s #[Value.ref b] lw_gd R_law) (hX : va_X b L xs s s.heap) (hbl : b < s.heap.size) (hL : L ≤ 2560) (hi : i + 5 ≤ L) (hc : iv_core d ru fm st k cp op bl dn bg)
    {H : Heap} {locs : List Loc} {ls : Array Slot} (hG : gL D s K J (d, g, ru, fm, st, nI k, cp, op) (bl, dn, bg, nI k, fm) H locs) (hl : lv_has ls 4 [(3, .int (nI i)), (0, .ref b), (1, .ref K.1), (2, .ref J.1)])
    (back : ∀ (u : XS) (v : MS) (H : Heap) (locs : List Loc), iv u v → gL D s K J u v H locs → W p l e room_1 s m #[Value.ref b] below meth c H locs 5 145 (lw_Z below #[Value.ref b] s) (F0 m 491 ls [])) : W p l e room_1 s m #[Value.ref b] below meth c H locs 5 145 (lw_Z below #[Value.ref b] s) (F0 m 271 ls []) := by
  refine lv_aload_n S.1 S.2.1 dx_law_law_271 rfl (lv_at hl 2 rfl) ?_
  refine lv_aload_n S.1 S.2.1 dx_law_law_272 rfl (lv_at hl 1 rfl) ?_
  refine lv_iload_n S.1 S.2.1 dx_law_law_273 rfl (lv_at hl 0 rfl) ?_
  refine lv_iconst (v := 1) S.1 S.2.1 dx_law_law_274 (by decide) ?_
  refine lv_iadd S.1 S.2.1 dx_law_law_275 ?_
  refine rg_top (y := nI (i + 1)) (nI_add i 1) ?_
  refine rl_sld (i := i + 1) S hX hbl hL (by omega) hG dx_law_law_276 ?_
  refine lv_aload_n S.1 S.2.1 dx_law_law_277 rfl (lv_at hl 1 rfl) ?_
  refine lv_iload_n S.1 S.2.1 dx_law_law_278 rfl (lv_at hl 0 rfl) ?_
  refine lv_iconst (v := 2) S.1 S.2.1 dx_law_law_279 (by decide) ?_
  refine lv_iadd S.1 S.2.1 dx_law_law_280 ?_
  refine rg_top (y := nI (i + 2)) (nI_add i 2) ?_
  refine rl_sld (i := i + 2) S hX hbl hL (by omega) hG dx_law_law_281 ?_
  refine lv_aload_n S.1 S.2.1 dx_law_law_282 rfl (lv_at hl 1 rfl) ?_
  refine lv_iload_n S.1 S.2.1 dx_law_law_283 rfl (lv_at hl 0 rfl) ?_
  refine lv_iconst (v := 3) S.1 S.2.1 dx_law_law_284 (by decide) ?_
  refine lv_iadd S.1 S.2.1 dx_law_law_285 ?_
  refine rg_top (y := nI (i + 3)) (nI_add i 3) ?_
  refine rl_sld (i := i + 3) S hX hbl hL (by omega) hG dx_law_law_286 ?_
  refine lv_aload_n S.1 S.2.1 dx_law_law_287 rfl (lv_at hl 1 rfl) ?_
  refine lv_iload_n S.1 S.2.1 dx_law_law_288 rfl (lv_at hl 0 rfl) ?_
  refine lv_iconst (v := 4) S.1 S.2.1 dx_law_law_289 (by decide) ?_
  refine lv_iadd S.1 S.2.1 dx_law_law_290 ?_
  refine rg_top (y := nI (i + 4)) (nI_add i 4) ?_
  refine rl_sld (i := i + 4) S hX hbl hL (by omega) hG dx_law_law_291 ?_
  refine rl_xi (rest := []) S (cx_X_fill l d g ru fm st (nI k) cp op (xs (i + 1)) (xs (i + 2)) (xs (i + 3)) (xs (i + 4)) (fun c9 => iv_okb (iv_run hc c9).2.2.2.2.1) (fun c9 => (iv_run hc c9).2.2.1)) gc_law_52 hd_X_fill ⟨rfl, rfl⟩ ⟨Nat.le_of_ble_eq_true rfl, Nat.le_of_ble_eq_true rfl⟩ rfl hG hl.1 rfl (Nat.le_of_ble_eq_true rfl) dx_law_law_292 ⟨Nat.le_of_ble_eq_true rfl, Nat.le_of_ble_eq_true rfl⟩ (fun H locs hG => ?_)
  refine lv_aload_n S.1 S.2.1 dx_law_law_295 rfl (lv_at hl 3 rfl) ?_
  refine lv_aload_n S.1 S.2.1 dx_law_law_296 rfl (lv_at hl 1 rfl) ?_
  refine lv_iload_n S.1 S.2.1 dx_law_law_297 rfl (lv_at hl 0 rfl) ?_
  refine lv_iconst (v := 1) S.1 S.2.1 dx_law_law_298 (by decide) ?_
  refine lv_iadd S.1 S.2.1 dx_law_law_299 ?_
  refine rg_top (y := nI (i + 1)) (nI_add i 1) ?_
  refine rl_sld (i := i + 1) S hX hbl hL (by omega) hG dx_law_law_300 ?_
  refine lv_aload_n S.1 S.2.1 dx_law_law_301 rfl (lv_at hl 1 rfl) ?_
  refine lv_iload_n S.1 S.2.1 dx_law_law_302 rfl (lv_at hl 0 rfl) ?_
  refine lv_iconst (v := 2) S.1 S.2.1 dx_law_law_303 (by decide) ?_
  refine lv_iadd S.1 S.2.1 dx_law_law_304 ?_
  refine rg_top (y := nI (i + 2)) (nI_add i 2) ?_
  refine rl_sld (i := i + 2) S hX hbl hL (by omega) hG dx_law_law_305 ?_
  refine lv_aload_n S.1 S.2.1 dx_law_law_306 rfl (lv_at hl 1 rfl) ?_
  refine lv_iload_n S.1 S.2.1 dx_law_law_307 rfl (lv_at hl 0 rfl) ?_
  refine lv_iconst (v := 3) S.1 S.2.1 dx_law_law_308 (by decide) ?_
  refine lv_iadd S.1 S.2.1 dx_law_law_309 ?_
  refine rg_top (y := nI (i + 3)) (nI_add i 3) ?_
  refine rl_sld (i := i + 3) S hX hbl hL (by omega) hG dx_law_law_310 ?_
  refine lv_aload_n S.1 S.2.1 dx_law_law_311 rfl (lv_at hl 1 rfl) ?_
  refine lv_iload_n S.1 S.2.1 dx_law_law_312 rfl (lv_at hl 0 rfl) ?_
  refine lv_iconst (v := 4) S.1 S.2.1 dx_law_law_313 (by decide) ?_
  refine lv_iadd S.1 S.2.1 dx_law_law_314 ?_
  refine rg_top (y := nI (i + 4)) (nI_add i 4) ?_
  refine rl_sld (i := i + 4) S hX hbl hL (by omega) hG dx_law_law_315 ?_
  refine rl_mi (rest := [.int ((px_fill d g ru fm st (nI k) cp op (xs (i + 1)) (xs (i + 2)) (xs (i + 3)) (xs (i + 4))).1)]) S (cx_M_fill l bl dn bg (nI k) fm (xs (i + 1)) (xs (i + 2)) (xs (i + 3)) (xs (i + 4))) gc_law_56 hd_M_fill ⟨rfl, rfl⟩ ⟨Nat.le_of_ble_eq_true rfl, Nat.le_of_ble_eq_true rfl⟩ rfl hG hl.1 rfl (Nat.le_of_ble_eq_true rfl) dx_law_law_316 ⟨Nat.le_of_ble_eq_true rfl, Nat.le_of_ble_eq_true rfl⟩ (fun H locs hG => ?_)
  refine lv_icmp_eq (tgt := 491) S.1 S.2.1 dx_law_law_319 (by decide) (fun _ => ?_) (fun h9 => absurd ((iv_fill (g := g) hc (xs (i + 1)) (xs (i + 2)) (xs (i + 3)) (xs (i + 4))).1) h9)
  exact back _ _ _ _ ((iv_fill (g := g) hc (xs (i + 1)) (xs (i + 2)) (xs (i + 3)) (xs (i + 4))).2) hG
set_option maxHeartbeats 4000000 in
set_option maxRecDepth 100000 in
theorem lc_writeCrash {p : Program} {l : Launch} {e : Env} {s : State} {m : MethodId} {below : List Frame} {meth : Method} {c : Code} {D : va_G} {K : XK} {J : MK} {b L : Nat} {xs : Nat → Int32} {i : Nat} {d g bl : Nat → Int32} {ru fm st cp op dn bg : Int32} {k : Nat} (S : CallFix p m c code 4 s #[Value.ref b] lw_gd R_law) (hX : va_X b L xs s s.heap) (hbl : b < s.heap.size) (hL : L ≤ 2560) (hi : i + 5 ≤ L) (hc : iv_core d ru fm st k cp op bl dn bg)
    {H : Heap} {locs : List Loc} {ls : Array Slot} (hG : gL D s K J (d, g, ru, fm, st, nI k, cp, op) (bl, dn, bg, nI k, fm) H locs) (hl : lv_has ls 4 [(3, .int (nI i)), (0, .ref b), (1, .ref K.1), (2, .ref J.1)])
    (back : ∀ (u : XS) (v : MS) (H : Heap) (locs : List Loc), iv u v → gL D s K J u v H locs → W p l e room_1 s m #[Value.ref b] below meth c H locs 5 145 (lw_Z below #[Value.ref b] s) (F0 m 491 ls [])) : W p l e room_1 s m #[Value.ref b] below meth c H locs 5 145 (lw_Z below #[Value.ref b] s) (F0 m 324 ls []) := by
  refine lv_aload_n S.1 S.2.1 dx_law_law_324 rfl (lv_at hl 2 rfl) ?_
  refine lv_aload_n S.1 S.2.1 dx_law_law_325 rfl (lv_at hl 1 rfl) ?_
  refine lv_iload_n S.1 S.2.1 dx_law_law_326 rfl (lv_at hl 0 rfl) ?_
  refine lv_iconst (v := 1) S.1 S.2.1 dx_law_law_327 (by decide) ?_
  refine lv_iadd S.1 S.2.1 dx_law_law_328 ?_
  refine rg_top (y := nI (i + 1)) (nI_add i 1) ?_
  refine rl_sld (i := i + 1) S hX hbl hL (by omega) hG dx_law_law_329 ?_
  refine lv_aload_n S.1 S.2.1 dx_law_law_330 rfl (lv_at hl 1 rfl) ?_
  refine lv_iload_n S.1 S.2.1 dx_law_law_331 rfl (lv_at hl 0 rfl) ?_
  refine lv_iconst (v := 2) S.1 S.2.1 dx_law_law_332 (by decide) ?_
  refine lv_iadd S.1 S.2.1 dx_law_law_333 ?_
  refine rg_top (y := nI (i + 2)) (nI_add i 2) ?_
  refine rl_sld (i := i + 2) S hX hbl hL (by omega) hG dx_law_law_334 ?_
  refine lv_aload_n S.1 S.2.1 dx_law_law_335 rfl (lv_at hl 1 rfl) ?_
  refine lv_iload_n S.1 S.2.1 dx_law_law_336 rfl (lv_at hl 0 rfl) ?_
  refine lv_iconst (v := 3) S.1 S.2.1 dx_law_law_337 (by decide) ?_
  refine lv_iadd S.1 S.2.1 dx_law_law_338 ?_
  refine rg_top (y := nI (i + 3)) (nI_add i 3) ?_
  refine rl_sld (i := i + 3) S hX hbl hL (by omega) hG dx_law_law_339 ?_
  refine rl_xi (rest := []) S (cx_X_writeCrash l d g ru fm st (nI k) cp op (xs (i + 1)) (xs (i + 2)) (xs (i + 3)) (fun c9 => iv_okb (iv_run hc c9).2.2.2.2.1)) gc_law_57 hd_X_writeCrash ⟨rfl, rfl⟩ ⟨Nat.le_of_ble_eq_true rfl, Nat.le_of_ble_eq_true rfl⟩ rfl hG hl.1 rfl (Nat.le_of_ble_eq_true rfl) dx_law_law_340 ⟨Nat.le_of_ble_eq_true rfl, Nat.le_of_ble_eq_true rfl⟩ (fun H locs hG => ?_)
  refine lv_aload_n S.1 S.2.1 dx_law_law_343 rfl (lv_at hl 3 rfl) ?_
  refine lv_aload_n S.1 S.2.1 dx_law_law_344 rfl (lv_at hl 1 rfl) ?_
  refine lv_iload_n S.1 S.2.1 dx_law_law_345 rfl (lv_at hl 0 rfl) ?_
  refine lv_iconst (v := 1) S.1 S.2.1 dx_law_law_346 (by decide) ?_
  refine lv_iadd S.1 S.2.1 dx_law_law_347 ?_
  refine rg_top (y := nI (i + 1)) (nI_add i 1) ?_
  refine rl_sld (i := i + 1) S hX hbl hL (by omega) hG dx_law_law_348 ?_
  refine lv_aload_n S.1 S.2.1 dx_law_law_349 rfl (lv_at hl 1 rfl) ?_
  refine lv_iload_n S.1 S.2.1 dx_law_law_350 rfl (lv_at hl 0 rfl) ?_
  refine lv_iconst (v := 2) S.1 S.2.1 dx_law_law_351 (by decide) ?_
  refine lv_iadd S.1 S.2.1 dx_law_law_352 ?_
  refine rg_top (y := nI (i + 2)) (nI_add i 2) ?_
  refine rl_sld (i := i + 2) S hX hbl hL (by omega) hG dx_law_law_353 ?_
  refine lv_aload_n S.1 S.2.1 dx_law_law_354 rfl (lv_at hl 1 rfl) ?_
  refine lv_iload_n S.1 S.2.1 dx_law_law_355 rfl (lv_at hl 0 rfl) ?_
  refine lv_iconst (v := 3) S.1 S.2.1 dx_law_law_356 (by decide) ?_
  refine lv_iadd S.1 S.2.1 dx_law_law_357 ?_
  refine rg_top (y := nI (i + 3)) (nI_add i 3) ?_
  refine rl_sld (i := i + 3) S hX hbl hL (by omega) hG dx_law_law_358 ?_
  refine rl_mi (rest := [.int ((px_wc d g ru fm st (nI k) cp op (xs (i + 1)) (xs (i + 2)) (xs (i + 3))).1)]) S (cx_M_writeCrash l bl dn bg (nI k) fm (xs (i + 1)) (xs (i + 2)) (xs (i + 3))) gc_law_61 hd_M_writeCrash ⟨rfl, rfl⟩ ⟨Nat.le_of_ble_eq_true rfl, Nat.le_of_ble_eq_true rfl⟩ rfl hG hl.1 rfl (Nat.le_of_ble_eq_true rfl) dx_law_law_359 ⟨Nat.le_of_ble_eq_true rfl, Nat.le_of_ble_eq_true rfl⟩ (fun H locs hG => ?_)
  refine lv_icmp_eq (tgt := 491) S.1 S.2.1 dx_law_law_362 (by decide) (fun _ => ?_) (fun h9 => absurd ((iv_wc (g := g) hc (xs (i + 1)) (xs (i + 2)) (xs (i + 3))).1) h9)
  exact back _ _ _ _ ((iv_wc (g := g) hc (xs (i + 1)) (xs (i + 2)) (xs (i + 3))).2) hG
set_option maxHeartbeats 4000000 in
set_option maxRecDepth 100000 in
theorem lc_begin {p : Program} {l : Launch} {e : Env} {s : State} {m : MethodId} {below : List Frame} {meth : Method} {c : Code} {D : va_G} {K : XK} {J : MK} {b L : Nat} {xs : Nat → Int32} {i : Nat} {d g bl : Nat → Int32} {ru fm st cp op dn bg : Int32} {k : Nat} (S : CallFix p m c code 4 s #[Value.ref b] lw_gd R_law) (hX : va_X b L xs s s.heap) (hbl : b < s.heap.size) (hL : L ≤ 2560) (hi : i + 5 ≤ L) (hc : iv_core d ru fm st k cp op bl dn bg)
    {H : Heap} {locs : List Loc} {ls : Array Slot} (hG : gL D s K J (d, g, ru, fm, st, nI k, cp, op) (bl, dn, bg, nI k, fm) H locs) (hl : lv_has ls 4 [(3, .int (nI i)), (0, .ref b), (1, .ref K.1), (2, .ref J.1)])
    (back : ∀ (u : XS) (v : MS) (H : Heap) (locs : List Loc), iv u v → gL D s K J u v H locs → W p l e room_1 s m #[Value.ref b] below meth c H locs 5 145 (lw_Z below #[Value.ref b] s) (F0 m 491 ls [])) : W p l e room_1 s m #[Value.ref b] below meth c H locs 5 145 (lw_Z below #[Value.ref b] s) (F0 m 367 ls []) := by
  refine lv_aload_n S.1 S.2.1 dx_law_law_367 rfl (lv_at hl 2 rfl) ?_
  refine rl_xi (rest := []) S (cx_X_begin l d g ru fm st (nI k) cp op) gc_law_62 hd_X_begin ⟨rfl, rfl⟩ ⟨Nat.le_of_ble_eq_true rfl, Nat.le_of_ble_eq_true rfl⟩ rfl hG hl.1 rfl (Nat.le_of_ble_eq_true rfl) dx_law_law_368 ⟨Nat.le_of_ble_eq_true rfl, Nat.le_of_ble_eq_true rfl⟩ (fun H locs hG => ?_)
  refine lv_aload_n S.1 S.2.1 dx_law_law_371 rfl (lv_at hl 3 rfl) ?_
  refine rl_mi (rest := [.int ((px_begin d g ru fm st (nI k) cp op).1)]) S (cx_M_begin l bl dn bg (nI k) fm) gc_law_65 hd_M_begin ⟨rfl, rfl⟩ ⟨Nat.le_of_ble_eq_true rfl, Nat.le_of_ble_eq_true rfl⟩ rfl hG hl.1 rfl (Nat.le_of_ble_eq_true rfl) dx_law_law_372 ⟨Nat.le_of_ble_eq_true rfl, Nat.le_of_ble_eq_true rfl⟩ (fun H locs hG => ?_)
  refine lv_icmp_eq (tgt := 491) S.1 S.2.1 dx_law_law_375 (by decide) (fun _ => ?_) (fun h9 => absurd ((iv_begin (g := g) hc).1) h9)
  exact back _ _ _ _ ((iv_begin (g := g) hc).2) hG
set_option maxHeartbeats 4000000 in
set_option maxRecDepth 100000 in
theorem lc_step {p : Program} {l : Launch} {e : Env} {s : State} {m : MethodId} {below : List Frame} {meth : Method} {c : Code} {D : va_G} {K : XK} {J : MK} {b L : Nat} {xs : Nat → Int32} {i : Nat} {d g bl : Nat → Int32} {ru fm st cp op dn bg : Int32} {k : Nat} (S : CallFix p m c code 4 s #[Value.ref b] lw_gd R_law) (hX : va_X b L xs s s.heap) (hbl : b < s.heap.size) (hL : L ≤ 2560) (hi : i + 5 ≤ L) (hc : iv_core d ru fm st k cp op bl dn bg)
    {H : Heap} {locs : List Loc} {ls : Array Slot} (hG : gL D s K J (d, g, ru, fm, st, nI k, cp, op) (bl, dn, bg, nI k, fm) H locs) (hl : lv_has ls 4 [(3, .int (nI i)), (0, .ref b), (1, .ref K.1), (2, .ref J.1)])
    (back : ∀ (u : XS) (v : MS) (H : Heap) (locs : List Loc), iv u v → gL D s K J u v H locs → W p l e room_1 s m #[Value.ref b] below meth c H locs 5 145 (lw_Z below #[Value.ref b] s) (F0 m 491 ls [])) : W p l e room_1 s m #[Value.ref b] below meth c H locs 5 145 (lw_Z below #[Value.ref b] s) (F0 m 380 ls []) := by
  refine lv_aload_n S.1 S.2.1 dx_law_law_380 rfl (lv_at hl 2 rfl) ?_
  refine rl_xi (rest := []) S (cx_X_step l d g ru fm st cp op k (iv_k hc.2.1)) gc_law_66 hd_X_step ⟨rfl, rfl⟩ ⟨Nat.le_of_ble_eq_true rfl, Nat.le_of_ble_eq_true rfl⟩ rfl hG hl.1 rfl (Nat.le_of_ble_eq_true rfl) dx_law_law_381 ⟨Nat.le_of_ble_eq_true rfl, Nat.le_of_ble_eq_true rfl⟩ (fun H locs hG => ?_)
  refine lv_aload_n S.1 S.2.1 dx_law_law_384 rfl (lv_at hl 3 rfl) ?_
  refine rl_mi (rest := [.int ((px_step d g ru fm st cp op k).1)]) S (cx_M_step l bl dn bg (nI k) fm) gc_law_69 hd_M_step ⟨rfl, rfl⟩ ⟨Nat.le_of_ble_eq_true rfl, Nat.le_of_ble_eq_true rfl⟩ rfl hG hl.1 rfl (Nat.le_of_ble_eq_true rfl) dx_law_law_385 ⟨Nat.le_of_ble_eq_true rfl, Nat.le_of_ble_eq_true rfl⟩ (fun H locs hG => ?_)
  refine lv_icmp_eq (tgt := 491) S.1 S.2.1 dx_law_law_388 (by decide) (fun _ => ?_) (fun h9 => absurd ((iv_step (g := g) hc).1) h9)
  exact back _ _ _ _ ((iv_step (g := g) hc).2) hG
set_option maxHeartbeats 4000000 in
set_option maxRecDepth 100000 in
theorem lc_stepCrash {p : Program} {l : Launch} {e : Env} {s : State} {m : MethodId} {below : List Frame} {meth : Method} {c : Code} {D : va_G} {K : XK} {J : MK} {b L : Nat} {xs : Nat → Int32} {i : Nat} {d g bl : Nat → Int32} {ru fm st cp op dn bg : Int32} {k : Nat} (S : CallFix p m c code 4 s #[Value.ref b] lw_gd R_law) (hX : va_X b L xs s s.heap) (hbl : b < s.heap.size) (hL : L ≤ 2560) (hi : i + 5 ≤ L) (hc : iv_core d ru fm st k cp op bl dn bg)
    {H : Heap} {locs : List Loc} {ls : Array Slot} (hG : gL D s K J (d, g, ru, fm, st, nI k, cp, op) (bl, dn, bg, nI k, fm) H locs) (hl : lv_has ls 4 [(3, .int (nI i)), (0, .ref b), (1, .ref K.1), (2, .ref J.1)])
    (back : ∀ (u : XS) (v : MS) (H : Heap) (locs : List Loc), iv u v → gL D s K J u v H locs → W p l e room_1 s m #[Value.ref b] below meth c H locs 5 145 (lw_Z below #[Value.ref b] s) (F0 m 491 ls [])) : W p l e room_1 s m #[Value.ref b] below meth c H locs 5 145 (lw_Z below #[Value.ref b] s) (F0 m 393 ls []) := by
  refine lv_aload_n S.1 S.2.1 dx_law_law_393 rfl (lv_at hl 2 rfl) ?_
  refine lv_aload_n S.1 S.2.1 dx_law_law_394 rfl (lv_at hl 1 rfl) ?_
  refine lv_iload_n S.1 S.2.1 dx_law_law_395 rfl (lv_at hl 0 rfl) ?_
  refine lv_iconst (v := 1) S.1 S.2.1 dx_law_law_396 (by decide) ?_
  refine lv_iadd S.1 S.2.1 dx_law_law_397 ?_
  refine rg_top (y := nI (i + 1)) (nI_add i 1) ?_
  refine rl_sld (i := i + 1) S hX hbl hL (by omega) hG dx_law_law_398 ?_
  refine rl_xi (rest := []) S (cx_X_stepCrash l d g ru fm st cp op k (xs (i + 1)) (iv_k hc.2.1)) gc_law_70 hd_X_stepCrash ⟨rfl, rfl⟩ ⟨Nat.le_of_ble_eq_true rfl, Nat.le_of_ble_eq_true rfl⟩ rfl hG hl.1 rfl (Nat.le_of_ble_eq_true rfl) dx_law_law_399 ⟨Nat.le_of_ble_eq_true rfl, Nat.le_of_ble_eq_true rfl⟩ (fun H locs hG => ?_)
  refine lv_aload_n S.1 S.2.1 dx_law_law_402 rfl (lv_at hl 3 rfl) ?_
  refine lv_aload_n S.1 S.2.1 dx_law_law_403 rfl (lv_at hl 1 rfl) ?_
  refine lv_iload_n S.1 S.2.1 dx_law_law_404 rfl (lv_at hl 0 rfl) ?_
  refine lv_iconst (v := 1) S.1 S.2.1 dx_law_law_405 (by decide) ?_
  refine lv_iadd S.1 S.2.1 dx_law_law_406 ?_
  refine rg_top (y := nI (i + 1)) (nI_add i 1) ?_
  refine rl_sld (i := i + 1) S hX hbl hL (by omega) hG dx_law_law_407 ?_
  refine rl_mi (rest := [.int ((px_sc d g ru fm st cp op k (xs (i + 1))).1)]) S (cx_M_stepCrash l bl dn bg (nI k) fm (xs (i + 1))) gc_law_73 hd_M_stepCrash ⟨rfl, rfl⟩ ⟨Nat.le_of_ble_eq_true rfl, Nat.le_of_ble_eq_true rfl⟩ rfl hG hl.1 rfl (Nat.le_of_ble_eq_true rfl) dx_law_law_408 ⟨Nat.le_of_ble_eq_true rfl, Nat.le_of_ble_eq_true rfl⟩ (fun H locs hG => ?_)
  refine lv_icmp_eq (tgt := 491) S.1 S.2.1 dx_law_law_411 (by decide) (fun _ => ?_) (fun h9 => absurd ((iv_sc (g := g) hc (xs (i + 1))).1) h9)
  exact back _ _ _ _ ((iv_sc (g := g) hc (xs (i + 1))).2) hG
set_option maxHeartbeats 4000000 in
set_option maxRecDepth 100000 in
theorem lc_crash {p : Program} {l : Launch} {e : Env} {s : State} {m : MethodId} {below : List Frame} {meth : Method} {c : Code} {D : va_G} {K : XK} {J : MK} {b L : Nat} {xs : Nat → Int32} {i : Nat} {d g bl : Nat → Int32} {ru fm st cp op dn bg : Int32} {k : Nat} (S : CallFix p m c code 4 s #[Value.ref b] lw_gd R_law) (hX : va_X b L xs s s.heap) (hbl : b < s.heap.size) (hL : L ≤ 2560) (hi : i + 5 ≤ L) (hc : iv_core d ru fm st k cp op bl dn bg)
    {H : Heap} {locs : List Loc} {ls : Array Slot} (hG : gL D s K J (d, g, ru, fm, st, nI k, cp, op) (bl, dn, bg, nI k, fm) H locs) (hl : lv_has ls 4 [(3, .int (nI i)), (0, .ref b), (1, .ref K.1), (2, .ref J.1)])
    (back : ∀ (u : XS) (v : MS) (H : Heap) (locs : List Loc), iv u v → gL D s K J u v H locs → W p l e room_1 s m #[Value.ref b] below meth c H locs 5 145 (lw_Z below #[Value.ref b] s) (F0 m 491 ls [])) : W p l e room_1 s m #[Value.ref b] below meth c H locs 5 145 (lw_Z below #[Value.ref b] s) (F0 m 416 ls []) := by
  refine lv_aload_n S.1 S.2.1 dx_law_law_416 rfl (lv_at hl 2 rfl) ?_
  refine rl_xi (rest := []) S (cx_X_crash l d g ru fm st (nI k) cp op) gc_law_74 hd_X_crash ⟨rfl, rfl⟩ ⟨Nat.le_of_ble_eq_true rfl, Nat.le_of_ble_eq_true rfl⟩ rfl hG hl.1 rfl (Nat.le_of_ble_eq_true rfl) dx_law_law_417 ⟨Nat.le_of_ble_eq_true rfl, Nat.le_of_ble_eq_true rfl⟩ (fun H locs hG => ?_)
  refine lv_aload_n S.1 S.2.1 dx_law_law_420 rfl (lv_at hl 3 rfl) ?_
  refine rl_mi (rest := [.int ((px_crash d g ru fm st (nI k) cp op).1)]) S (cx_M_crash l bl dn bg (nI k) fm) gc_law_77 hd_M_crash ⟨rfl, rfl⟩ ⟨Nat.le_of_ble_eq_true rfl, Nat.le_of_ble_eq_true rfl⟩ rfl hG hl.1 rfl (Nat.le_of_ble_eq_true rfl) dx_law_law_421 ⟨Nat.le_of_ble_eq_true rfl, Nat.le_of_ble_eq_true rfl⟩ (fun H locs hG => ?_)
  refine lv_icmp_eq (tgt := 491) S.1 S.2.1 dx_law_law_424 (by decide) (fun _ => ?_) (fun h9 => absurd ((iv_crash (g := g) hc).1) h9)
  exact back _ _ _ _ ((iv_crash (g := g) hc).2) hG
set_option maxHeartbeats 4000000 in
set_option maxRecDepth 100000 in
theorem lc_mount {p : Program} {l : Launch} {e : Env} {s : State} {m : MethodId} {below : List Frame} {meth : Method} {c : Code} {D : va_G} {K : XK} {J : MK} {b L : Nat} {xs : Nat → Int32} {i : Nat} {d g bl : Nat → Int32} {ru fm st cp op dn bg : Int32} {k : Nat} (S : CallFix p m c code 4 s #[Value.ref b] lw_gd R_law) (hX : va_X b L xs s s.heap) (hbl : b < s.heap.size) (hL : L ≤ 2560) (hi : i + 5 ≤ L) (hc : iv_core d ru fm st k cp op bl dn bg)
    {H : Heap} {locs : List Loc} {ls : Array Slot} (hG : gL D s K J (d, g, ru, fm, st, nI k, cp, op) (bl, dn, bg, nI k, fm) H locs) (hl : lv_has ls 4 [(3, .int (nI i)), (0, .ref b), (1, .ref K.1), (2, .ref J.1)])
    (back : ∀ (u : XS) (v : MS) (H : Heap) (locs : List Loc), iv u v → gL D s K J u v H locs → W p l e room_1 s m #[Value.ref b] below meth c H locs 5 145 (lw_Z below #[Value.ref b] s) (F0 m 491 ls [])) : W p l e room_1 s m #[Value.ref b] below meth c H locs 5 145 (lw_Z below #[Value.ref b] s) (F0 m 429 ls []) := by
  refine lv_aload_n S.1 S.2.1 dx_law_law_429 rfl (lv_at hl 2 rfl) ?_
  refine rl_xi (rest := []) S (cx_X_mount l d g ru fm st (nI k) cp op (iv_opr hc)) gc_law_78 hd_X_mount ⟨rfl, rfl⟩ ⟨Nat.le_of_ble_eq_true rfl, Nat.le_of_ble_eq_true rfl⟩ rfl hG hl.1 rfl (Nat.le_of_ble_eq_true rfl) dx_law_law_430 ⟨Nat.le_of_ble_eq_true rfl, Nat.le_of_ble_eq_true rfl⟩ (fun H locs hG => ?_)
  refine lv_aload_n S.1 S.2.1 dx_law_law_433 rfl (lv_at hl 3 rfl) ?_
  refine rl_mi (rest := [.int ((px_mount d g ru fm st (nI k) cp op).1)]) S (cx_M_mount l bl dn bg (nI k) fm) gc_law_81 hd_M_mount ⟨rfl, rfl⟩ ⟨Nat.le_of_ble_eq_true rfl, Nat.le_of_ble_eq_true rfl⟩ rfl hG hl.1 rfl (Nat.le_of_ble_eq_true rfl) dx_law_law_434 ⟨Nat.le_of_ble_eq_true rfl, Nat.le_of_ble_eq_true rfl⟩ (fun H locs hG => ?_)
  refine lv_icmp_eq (tgt := 491) S.1 S.2.1 dx_law_law_437 (by decide) (fun _ => ?_) (fun h9 => absurd ((iv_mount (g := g) hc).1) h9)
  exact back _ _ _ _ ((iv_mount (g := g) hc).2) hG
set_option maxHeartbeats 4000000 in
set_option maxRecDepth 100000 in
theorem lc_fail {p : Program} {l : Launch} {e : Env} {s : State} {m : MethodId} {below : List Frame} {meth : Method} {c : Code} {D : va_G} {K : XK} {J : MK} {b L : Nat} {xs : Nat → Int32} {i : Nat} {d g bl : Nat → Int32} {ru fm st cp op dn bg : Int32} {k : Nat} (S : CallFix p m c code 4 s #[Value.ref b] lw_gd R_law) (hX : va_X b L xs s s.heap) (hbl : b < s.heap.size) (hL : L ≤ 2560) (hi : i + 5 ≤ L) (hc : iv_core d ru fm st k cp op bl dn bg)
    {H : Heap} {locs : List Loc} {ls : Array Slot} (hG : gL D s K J (d, g, ru, fm, st, nI k, cp, op) (bl, dn, bg, nI k, fm) H locs) (hl : lv_has ls 4 [(3, .int (nI i)), (0, .ref b), (1, .ref K.1), (2, .ref J.1)])
    (back : ∀ (u : XS) (v : MS) (H : Heap) (locs : List Loc), iv u v → gL D s K J u v H locs → W p l e room_1 s m #[Value.ref b] below meth c H locs 5 145 (lw_Z below #[Value.ref b] s) (F0 m 491 ls [])) : W p l e room_1 s m #[Value.ref b] below meth c H locs 5 145 (lw_Z below #[Value.ref b] s) (F0 m 442 ls []) := by
  refine lv_aload_n S.1 S.2.1 dx_law_law_442 rfl (lv_at hl 2 rfl) ?_
  refine lv_aload_n S.1 S.2.1 dx_law_law_443 rfl (lv_at hl 1 rfl) ?_
  refine lv_iload_n S.1 S.2.1 dx_law_law_444 rfl (lv_at hl 0 rfl) ?_
  refine lv_iconst (v := 1) S.1 S.2.1 dx_law_law_445 (by decide) ?_
  refine lv_iadd S.1 S.2.1 dx_law_law_446 ?_
  refine rg_top (y := nI (i + 1)) (nI_add i 1) ?_
  refine rl_sld (i := i + 1) S hX hbl hL (by omega) hG dx_law_law_447 ?_
  refine rl_xi (rest := []) S (cx_X_fail l d g ru fm st (nI k) cp op (xs (i + 1))) gc_law_82 hd_X_fail ⟨rfl, rfl⟩ ⟨Nat.le_of_ble_eq_true rfl, Nat.le_of_ble_eq_true rfl⟩ rfl hG hl.1 rfl (Nat.le_of_ble_eq_true rfl) dx_law_law_448 ⟨Nat.le_of_ble_eq_true rfl, Nat.le_of_ble_eq_true rfl⟩ (fun H locs hG => ?_)
  refine lv_aload_n S.1 S.2.1 dx_law_law_451 rfl (lv_at hl 3 rfl) ?_
  refine lv_aload_n S.1 S.2.1 dx_law_law_452 rfl (lv_at hl 1 rfl) ?_
  refine lv_iload_n S.1 S.2.1 dx_law_law_453 rfl (lv_at hl 0 rfl) ?_
  refine lv_iconst (v := 1) S.1 S.2.1 dx_law_law_454 (by decide) ?_
  refine lv_iadd S.1 S.2.1 dx_law_law_455 ?_
  refine rg_top (y := nI (i + 1)) (nI_add i 1) ?_
  refine rl_sld (i := i + 1) S hX hbl hL (by omega) hG dx_law_law_456 ?_
  refine rl_mi (rest := [.int ((px_fail d g ru fm st (nI k) cp op (xs (i + 1))).1)]) S (cx_M_fail l bl dn bg (nI k) fm (xs (i + 1))) gc_law_85 hd_M_fail ⟨rfl, rfl⟩ ⟨Nat.le_of_ble_eq_true rfl, Nat.le_of_ble_eq_true rfl⟩ rfl hG hl.1 rfl (Nat.le_of_ble_eq_true rfl) dx_law_law_457 ⟨Nat.le_of_ble_eq_true rfl, Nat.le_of_ble_eq_true rfl⟩ (fun H locs hG => ?_)
  refine lv_icmp_eq (tgt := 491) S.1 S.2.1 dx_law_law_460 (by decide) (fun _ => ?_) (fun h9 => absurd ((iv_fail (g := g) hc (xs (i + 1))).1) h9)
  exact back _ _ _ _ ((iv_fail (g := g) hc (xs (i + 1))).2) hG
set_option maxHeartbeats 4000000 in
set_option maxRecDepth 100000 in
theorem lc_replace {p : Program} {l : Launch} {e : Env} {s : State} {m : MethodId} {below : List Frame} {meth : Method} {c : Code} {D : va_G} {K : XK} {J : MK} {b L : Nat} {xs : Nat → Int32} {i : Nat} {d g bl : Nat → Int32} {ru fm st cp op dn bg : Int32} {k : Nat} (S : CallFix p m c code 4 s #[Value.ref b] lw_gd R_law) (hX : va_X b L xs s s.heap) (hbl : b < s.heap.size) (hL : L ≤ 2560) (hi : i + 5 ≤ L) (hc : iv_core d ru fm st k cp op bl dn bg)
    {H : Heap} {locs : List Loc} {ls : Array Slot} (hG : gL D s K J (d, g, ru, fm, st, nI k, cp, op) (bl, dn, bg, nI k, fm) H locs) (hl : lv_has ls 4 [(3, .int (nI i)), (0, .ref b), (1, .ref K.1), (2, .ref J.1)])
    (back : ∀ (u : XS) (v : MS) (H : Heap) (locs : List Loc), iv u v → gL D s K J u v H locs → W p l e room_1 s m #[Value.ref b] below meth c H locs 5 145 (lw_Z below #[Value.ref b] s) (F0 m 491 ls [])) : W p l e room_1 s m #[Value.ref b] below meth c H locs 5 145 (lw_Z below #[Value.ref b] s) (F0 m 465 ls []) := by
  refine lv_aload_n S.1 S.2.1 dx_law_law_465 rfl (lv_at hl 2 rfl) ?_
  refine rl_xi (rest := []) S (cx_X_replace l d g ru fm st (nI k) cp op hc.2.2.1) gc_law_86 hd_X_replace ⟨rfl, rfl⟩ ⟨Nat.le_of_ble_eq_true rfl, Nat.le_of_ble_eq_true rfl⟩ rfl hG hl.1 rfl (Nat.le_of_ble_eq_true rfl) dx_law_law_466 ⟨Nat.le_of_ble_eq_true rfl, Nat.le_of_ble_eq_true rfl⟩ (fun H locs hG => ?_)
  refine lv_aload_n S.1 S.2.1 dx_law_law_469 rfl (lv_at hl 3 rfl) ?_
  refine rl_mi (rest := [.int ((px_replace d g ru fm st (nI k) cp op).1)]) S (cx_M_replace l bl dn bg (nI k) fm) gc_law_89 hd_M_replace ⟨rfl, rfl⟩ ⟨Nat.le_of_ble_eq_true rfl, Nat.le_of_ble_eq_true rfl⟩ rfl hG hl.1 rfl (Nat.le_of_ble_eq_true rfl) dx_law_law_470 ⟨Nat.le_of_ble_eq_true rfl, Nat.le_of_ble_eq_true rfl⟩ (fun H locs hG => ?_)
  refine lv_icmp_eq (tgt := 491) S.1 S.2.1 dx_law_law_473 (by decide) (fun _ => ?_) (fun h9 => absurd ((iv_replace (g := g) hc).1) h9)
  exact back _ _ _ _ ((iv_replace (g := g) hc).2) hG
set_option maxHeartbeats 4000000 in
set_option maxRecDepth 100000 in
theorem lc_scrub {p : Program} {l : Launch} {e : Env} {s : State} {m : MethodId} {below : List Frame} {meth : Method} {c : Code} {D : va_G} {K : XK} {J : MK} {b L : Nat} {xs : Nat → Int32} {i : Nat} {d g bl : Nat → Int32} {ru fm st cp op dn bg : Int32} {k : Nat} (S : CallFix p m c code 4 s #[Value.ref b] lw_gd R_law) (hX : va_X b L xs s s.heap) (hbl : b < s.heap.size) (hL : L ≤ 2560) (hi : i + 5 ≤ L) (hc : iv_core d ru fm st k cp op bl dn bg)
    {H : Heap} {locs : List Loc} {ls : Array Slot} (hG : gL D s K J (d, g, ru, fm, st, nI k, cp, op) (bl, dn, bg, nI k, fm) H locs) (hl : lv_has ls 4 [(3, .int (nI i)), (0, .ref b), (1, .ref K.1), (2, .ref J.1)])
    (back : ∀ (u : XS) (v : MS) (H : Heap) (locs : List Loc), iv u v → gL D s K J u v H locs → W p l e room_1 s m #[Value.ref b] below meth c H locs 5 145 (lw_Z below #[Value.ref b] s) (F0 m 491 ls [])) : W p l e room_1 s m #[Value.ref b] below meth c H locs 5 145 (lw_Z below #[Value.ref b] s) (F0 m 478 ls []) := by
  refine lv_aload_n S.1 S.2.1 dx_law_law_478 rfl (lv_at hl 2 rfl) ?_
  refine rl_xi (rest := []) S (cx_X_scrub l d g ru fm st (nI k) cp op) gc_law_90 hd_X_scrub ⟨rfl, rfl⟩ ⟨Nat.le_of_ble_eq_true rfl, Nat.le_of_ble_eq_true rfl⟩ rfl hG hl.1 rfl (Nat.le_of_ble_eq_true rfl) dx_law_law_479 ⟨Nat.le_of_ble_eq_true rfl, Nat.le_of_ble_eq_true rfl⟩ (fun H locs hG => ?_)
  refine lv_aload_n S.1 S.2.1 dx_law_law_482 rfl (lv_at hl 3 rfl) ?_
  refine rl_mi (rest := [.int (px_scrub d ru fm st (nI k))]) S (cx_M_scrub l bl dn bg (nI k) fm) gc_law_93 hd_M_scrub ⟨rfl, rfl⟩ ⟨Nat.le_of_ble_eq_true rfl, Nat.le_of_ble_eq_true rfl⟩ rfl hG hl.1 rfl (Nat.le_of_ble_eq_true rfl) dx_law_law_483 ⟨Nat.le_of_ble_eq_true rfl, Nat.le_of_ble_eq_true rfl⟩ (fun H locs hG => ?_)
  refine lv_icmp_eq (tgt := 491) S.1 S.2.1 dx_law_law_486 (by decide) (fun _ => ?_) (fun h9 => absurd ((iv_scrub hc).1) h9)
  exact back _ _ _ _ (by rw [(iv_scrub hc).2]; exact iv_mk hc) hG
set_option maxHeartbeats 4000000 in
set_option maxRecDepth 100000 in
/-- THE LAW'S LOOP: at its head, with i ints read, X and M agree -/
theorem law_loop {p : Program} {l : Launch} {e : Env} {s : State} {m : MethodId} {below : List Frame} {meth : Method} {c : Code} {D : va_G} {K : XK} {J : MK} {b L : Nat} {xs : Nat → Int32} (hL : L ≤ 2560) (C0 : lw_At p s m meth c b L xs) (S : CallFix p m c code 4 s #[Value.ref b] lw_gd R_law) :
    ∀ (n i : Nat), i ≤ L + 5 → L + 6 ≤ i + n → ∀ (u : XS) (v : MS) (H : Heap) (locs : List Loc) (ls : Array Slot), iv u v → gL D s K J u v H locs → lv_has ls 4 [(3, .int (nI i)), (0, .ref b), (1, .ref K.1), (2, .ref J.1)] → W p l e room_1 s m #[Value.ref b] below meth c H locs 5 145 (lw_Z below #[Value.ref b] s) (F0 m 18 ls []) := by
  obtain ⟨hx, hb, hr, hml, hown, hts, hX, hbl, hlocks, hgv⟩ := C0
  intro n
  induction n with
  | zero =>
    intro i h1 h2
    exact absurd h2 (by omega)
  | succ n ih =>
    intro i hi hin u v H locs ls hiv hG hl
    refine lv_iload_n S.1 S.2.1 dx_law_law_18 rfl (lv_at hl 0 rfl) ?_
    refine lv_aload_n S.1 S.2.1 dx_law_law_19 rfl (lv_at hl 1 rfl) ?_
    refine va_slen S.1 S.2.1 hX hbl (Nat.not_le.mpr hbl) hG.2.2.2 dx_law_law_20 ?_
    refine lv_iconst (v := 5) S.1 S.2.1 dx_law_law_21 (by decide) ?_
    refine lv_isub S.1 S.2.1 dx_law_law_22 ?_
    refine lv_icmp_gt (tgt := 497) S.1 S.2.1 dx_law_law_23 (by decide) (fun c_23 => ?_) (fun c_23 => ?_)
    · refine lv_iconst (v := 1) S.1 S.2.1 dx_law_law_497 (by decide) ?_
      refine va_forget (fun q hq => hG.2.2.2.2.2 q hq) ?_
      exact lw_ret hx hb hr hlocks dx_law_law_498
    · have h5 : i + 5 ≤ L := lw_go hL hi c_23
      have back : ∀ (u : XS) (v : MS) (H : Heap) (locs : List Loc), iv u v → gL D s K J u v H locs → W p l e room_1 s m #[Value.ref b] below meth c H locs 5 145 (lw_Z below #[Value.ref b] s) (F0 m 491 ls []) := by
        intro u v H locs hiv hG
        refine lv_iinc (v := nI (i + 5)) (lv' := [(3, .int (nI (i + 5))), (0, .ref b), (1, .ref K.1), (2, .ref J.1)]) S.1 S.2.1 dx_law_law_491 hl (k := 0) rfl (nI_add i 5) (by decide) rfl (fun ls hl => ?_)
        refine lv_goto (tgt := 18) S.1 S.2.1 dx_law_law_494 (by decide) ?_
        exact ih (i + 5) (by omega) (by omega) u v H locs ls hiv hG hl
      obtain ⟨d, g, ru, fm, st, mv, cp, op⟩ := u
      obtain ⟨bl, dn, bg, mv2, lo⟩ := v
      have hiv2 := hiv
      obtain ⟨k, e1, e2, e3, hc⟩ := hiv2
      dsimp only at e1 e2 e3 hc
      subst e1 e2 e3
      refine lv_aload_n S.1 S.2.1 dx_law_law_26 rfl (lv_at hl 1 rfl) ?_
      refine lv_iload_n S.1 S.2.1 dx_law_law_27 rfl (lv_at hl 0 rfl) ?_
      refine rl_sld (i := i) S hX hbl hL (by omega) hG dx_law_law_28 ?_
      refine lv_bipush (v := 31) S.1 S.2.1 dx_law_law_29 (by decide) ?_
      refine lv_iand S.1 S.2.1 dx_law_law_31 ?_
      obtain ⟨j, hj, ej⟩ := pk_andE (xs i) (m := 31) 5 (by decide +kernel)
      refine rg_top (y := nI j) ej ?_
      by_cases hj18 : 18 < j
      · refine lv_tableOut (tgt := 491) S.1 S.2.1 dx_law_law_32 (Or.inr (by rw [nI_toInt (by omega)]; omega)) (by decide) ?_
        exact back _ _ _ _ hiv hG
      · have hj19 : j = 0 ∨ j = 1 ∨ j = 2 ∨ j = 3 ∨ j = 4 ∨ j = 5 ∨ j = 6 ∨ j = 7 ∨ j = 8 ∨ j = 9 ∨ j = 10 ∨ j = 11 ∨ j = 12 ∨ j = 13 ∨ j = 14 ∨ j = 15 ∨ j = 16 ∨ j = 17 ∨ j = 18 := by omega
        rcases hj19 with h9 | h9 | h9 | h9 | h9 | h9 | h9 | h9 | h9 | h9 | h9 | h9 | h9 | h9 | h9 | h9 | h9 | h9 | h9 <;> subst h9
        · refine lv_tableIn (off := 92) (tgt := 124) S.1 S.2.1 dx_law_law_32 (by decide) (by decide) (by rfl) (by decide) ?_
          exact lc_up S hX hbl hL h5 hc hG hl back
        · refine lv_tableIn (off := 105) (tgt := 137) S.1 S.2.1 dx_law_law_32 (by decide) (by decide) (by rfl) (by decide) ?_
          exact lc_size S hX hbl hL h5 hc hG hl back
        · refine lv_tableIn (off := 118) (tgt := 150) S.1 S.2.1 dx_law_law_32 (by decide) (by decide) (by rfl) (by decide) ?_
          exact lc_members S hX hbl hL h5 hc hG hl back
        · refine lv_tableIn (off := 131) (tgt := 163) S.1 S.2.1 dx_law_law_32 (by decide) (by decide) (by rfl) (by decide) ?_
          exact lc_failed S hX hbl hL h5 hc hG hl back
        · refine lv_tableIn (off := 144) (tgt := 176) S.1 S.2.1 dx_law_law_32 (by decide) (by decide) (by rfl) (by decide) ?_
          exact lc_growth S hX hbl hL h5 hc hG hl back
        · refine lv_tableIn (off := 157) (tgt := 189) S.1 S.2.1 dx_law_law_32 (by decide) (by decide) (by rfl) (by decide) ?_
          exact lc_groups S hX hbl hL h5 hc hG hl back
        · refine lv_tableIn (off := 170) (tgt := 202) S.1 S.2.1 dx_law_law_32 (by decide) (by decide) (by rfl) (by decide) ?_
          exact lc_read S hX hbl hL h5 hc hG hl back
        · refine lv_tableIn (off := 193) (tgt := 225) S.1 S.2.1 dx_law_law_32 (by decide) (by decide) (by rfl) (by decide) ?_
          exact lc_sum S hX hbl hL h5 hc hG hl back
        · refine lv_tableIn (off := 206) (tgt := 238) S.1 S.2.1 dx_law_law_32 (by decide) (by decide) (by rfl) (by decide) ?_
          exact lc_write S hX hbl hL h5 hc hG hl back
        · refine lv_tableIn (off := 239) (tgt := 271) S.1 S.2.1 dx_law_law_32 (by decide) (by decide) (by rfl) (by decide) ?_
          exact lc_fill S hX hbl hL h5 hc hG hl back
        · refine lv_tableIn (off := 292) (tgt := 324) S.1 S.2.1 dx_law_law_32 (by decide) (by decide) (by rfl) (by decide) ?_
          exact lc_writeCrash S hX hbl hL h5 hc hG hl back
        · refine lv_tableIn (off := 335) (tgt := 367) S.1 S.2.1 dx_law_law_32 (by decide) (by decide) (by rfl) (by decide) ?_
          exact lc_begin S hX hbl hL h5 hc hG hl back
        · refine lv_tableIn (off := 348) (tgt := 380) S.1 S.2.1 dx_law_law_32 (by decide) (by decide) (by rfl) (by decide) ?_
          exact lc_step S hX hbl hL h5 hc hG hl back
        · refine lv_tableIn (off := 361) (tgt := 393) S.1 S.2.1 dx_law_law_32 (by decide) (by decide) (by rfl) (by decide) ?_
          exact lc_stepCrash S hX hbl hL h5 hc hG hl back
        · refine lv_tableIn (off := 384) (tgt := 416) S.1 S.2.1 dx_law_law_32 (by decide) (by decide) (by rfl) (by decide) ?_
          exact lc_crash S hX hbl hL h5 hc hG hl back
        · refine lv_tableIn (off := 397) (tgt := 429) S.1 S.2.1 dx_law_law_32 (by decide) (by decide) (by rfl) (by decide) ?_
          exact lc_mount S hX hbl hL h5 hc hG hl back
        · refine lv_tableIn (off := 410) (tgt := 442) S.1 S.2.1 dx_law_law_32 (by decide) (by decide) (by rfl) (by decide) ?_
          exact lc_fail S hX hbl hL h5 hc hG hl back
        · refine lv_tableIn (off := 433) (tgt := 465) S.1 S.2.1 dx_law_law_32 (by decide) (by decide) (by rfl) (by decide) ?_
          exact lc_replace S hX hbl hL h5 hc hG hl back
        · refine lv_tableIn (off := 446) (tgt := 478) S.1 S.2.1 dx_law_law_32 (by decide) (by decide) (by rfl) (by decide) ?_
          exact lc_scrub S hX hbl hL h5 hc hG hl back
set_option maxHeartbeats 4000000 in
set_option maxRecDepth 100000 in
/-- THE LAW, from its entry -/
theorem whole_start {p : Program} {e : Env} {s : State} {m : MethodId} {below : List Frame} {meth : Method} {c : Code} (l : Launch) {b L : Nat} {xs : Nat → Int32} (hL : L ≤ 2560) (C0 : lw_At p s m meth c b L xs) : W p l e room_1 s m #[Value.ref b] below meth c s.heap [] 0 0 (lw_Z below #[Value.ref b] s) (entryFrame m ([Value.ref b] : List Value).toArray 4) := by
  obtain ⟨hx, hb, hr, hml, hown, hts0, hX, hbl, hlocks, hgv⟩ := id C0
  have hts : ∀ w ∈ lw_gd, w.before #[Value.ref b] s = true := fun w h => hts0 w (List.mem_filter.mp h).1
  have S : CallFix p m c code 4 s #[Value.ref b] lw_gd R_law := ⟨hx, hb, hml, hown, hts⟩
  have hA : ∀ q : Nat, s.heap.size ≤ q → (fun q : Nat => s.heap.size ≤ q) q := fun _ h => h
  obtain ⟨c0, iS0, hKn0⟩ := u_known (C := R_X) (T := F_X) (N := 8) (n := 8) hts i_X (hts _ kw_4)
  obtain ⟨c1, iS1, hKn1⟩ := u_known (C := R_M) (T := F_M) (N := 5) (n := 5) hts i_M (hts _ kw_182)
  obtain ⟨D, hKc⟩ : ∃ (D : va_G), ∀ (k : Nat) (q : vw_C), classes[k]? = some q → u_Kn s q.1 q.2.1 q.2.2 (D.1 k) (D.2 k) := by
    refine ⟨(fun k => if k = 0 then c0 else c1, fun k => if k = 0 then iS0 else iS1), ?_⟩
    intro k q hq
    match k, hq with
    | 0, hq => cases hq; exact hKn0
    | 1, hq => cases hq; exact hKn1
    | k + 2, hq => simp [classes] at hq
  have hS : va_S (fun q : Nat => s.heap.size ≤ q) s.heap s.heap [] := va_S.rf
  have hK : va_K D classes [] s := ⟨hKc, fun k q h => by simp at h⟩
  have hP : va_P D classes [] s.heap := fun k q h => by simp at h
  have hD : va_D (fun q : Nat => s.heap.size ≤ q) [] := ⟨fun i j p q h => by simp at h, fun k q h => by simp at h⟩
  have hl := lv_entry ([.ref b]) (n := 4) (Nat.le_of_ble_eq_true rfl)
  rw [lg_entry_eq]
  generalize (lg_sl ([.ref b]) ++ List.replicate (4 - (lg_sl ([.ref b])).length) Slot.unset).toArray = ls at hl ⊢
  have hl : lv_has ls 4 [(0, .ref b)] := hl
  refine va_new (ci := 0) (fs := [.null, .null, .int 0, .int 0, .int 0, .int 0, .int 0, .int 0]) (C := R_X) (T := F_X) (N := 8) hx hb hts i_X t_X t_X_ok hown (hts _ kw_3) (hts _ kw_4) (hts _ kw_1) hK hP hD hS hA rfl (fun j hj => by rcases (show j = 0 ∨ j = 1 ∨ j = 2 ∨ j = 3 ∨ j = 4 ∨ j = 5 ∨ j = 6 ∨ j = 7 by omega) with rfl | rfl | rfl | rfl | rfl | rfl | rfl | rfl <;> rfl) (Nat.le_of_ble_eq_true rfl) (Nat.le_of_ble_eq_true rfl) dx_law_law_0 (fun q0 H hP hD hS => ?_)
  have hP : va_P D classes (xn q0) H := hP
  have hD : va_D (fun q : Nat => s.heap.size ≤ q) (xn q0) := hD
  refine W.widen (k := 1) (n := 8) (by omega) (by omega) ?_
  refine lv_dup hx hb dx_law_law_3 rfl ?_
  have hFc := va_free (wc := xn q0) hD hS hA [0] rfl
  refine va_callv (va_runI (As := []) (rest := [.ref q0]) S (cx_X_init l D q0 H.size) (cwI 0 hts (gw_i kw_7) rfl rfl rfl (hts _ kw_1) (hts _ kw_5) (hts _ kw_6) rfl (by decide +kernel) ⟨Nat.le_of_ble_eq_true rfl, Nat.le_of_ble_eq_true rfl⟩) ⟨fun a U g mk q => by obtain ⟨q0, q1, qP, qK, qD⟩ := q; exact ⟨q0, q1, qP, va_K.moved (u := U) (U := U.calling g mk a) (Vm.Alike.refl U.vm) qK, qD⟩, fun U hU hW => ⟨rfl, by rw [hU], by rw [hU]; exact hP, va_K.moved hW.alike hK, hD.weaken (fun _ _ _ _ => trivial)⟩⟩ rfl rfl hl.1 rfl (lv_room (Nat.le_of_ble_eq_true rfl)) dx_law_law_4 ⟨Nat.le_of_ble_eq_true rfl, Nat.le_of_ble_eq_true rfl⟩) hS (fun q _ h => hFc q h) hFc (fun K t H1 locs ht hvm hw hB hz1 hk1 hS => ?_)
  have hw : K.1 = q0 := hw
  subst hw
  obtain ⟨hP1, hK1, hD1⟩ := hB
  rw [ht] at hP1
  have hK1 := va_K.moved hvm.symm hK1
  obtain ⟨hP, hD⟩ := va_join (wr := []) (w1 := xw K x0) hP hD [0] [] rfl rfl (by decide) (by decide) hk1 hFc hP1 hD1
  have hP : va_P D classes (xw K x0) H1 := hP
  have hD : va_D (fun q : Nat => s.heap.size ≤ q) (xw K x0) := hD
  have hK : va_K D classes (xt K) s := hK1
  refine W.widen (k := 3) (n := 92) (by decide) (by decide) ?_
  refine lv_astore_n (lv' := [(1, .ref K.1), (0, .ref b)]) hx hb dx_law_law_7 rfl hl (by decide) rfl (fun ls hl => ?_)
  refine va_new (ci := 1) (fs := [.null, .int 0, .int 0, .int 0, .int 0]) (C := R_M) (T := F_M) (N := 5) hx hb hts i_M t_M t_M_ok hown (hts _ kw_181) (hts _ kw_182) (hts _ kw_2) hK hP hD hS hA rfl (fun j hj => by rcases (show j = 0 ∨ j = 1 ∨ j = 2 ∨ j = 3 ∨ j = 4 by omega) with rfl | rfl | rfl | rfl | rfl <;> rfl) (Nat.le_of_ble_eq_true rfl) (Nat.le_of_ble_eq_true rfl) dx_law_law_8 (fun q1 H hP hD hS => ?_)
  have hP : va_P D classes (xw K x0 ++ mn q1) H := hP
  have hD : va_D (fun q : Nat => s.heap.size ≤ q) (xw K x0 ++ mn q1) := hD
  refine W.widen (k := 4) (n := 97) (by decide) (by decide) ?_
  refine lv_dup hx hb dx_law_law_11 rfl ?_
  have hPc := hP.sub (ws' := mn q1) [3] rfl
  have hDc := hD.sub (ws' := mn q1) [3] (by decide) rfl
  have hKc2 := hK.sub (tys' := []) [] rfl
  have hFc := va_free (wc := mn q1) hD hS hA [3] rfl
  refine va_callv (va_runI (As := []) (rest := [.ref q1]) S (cx_M_init l D q1 H.size) (cwI 0 hts (gw_i kw_185) rfl rfl rfl (hts _ kw_2) (hts _ kw_183) (hts _ kw_184) rfl (by decide +kernel) ⟨Nat.le_of_ble_eq_true rfl, Nat.le_of_ble_eq_true rfl⟩) ⟨fun a U g mk q => by obtain ⟨q0, q1, qP, qK, qD⟩ := q; exact ⟨q0, q1, qP, va_K.moved (u := U) (U := U.calling g mk a) (Vm.Alike.refl U.vm) qK, qD⟩, fun U hU hW => ⟨rfl, by rw [hU], by rw [hU]; exact hPc, va_K.moved hW.alike hKc2, hDc.weaken (fun _ _ _ _ => trivial)⟩⟩ rfl rfl hl.1 rfl (lv_room (Nat.le_of_ble_eq_true rfl)) dx_law_law_12 ⟨Nat.le_of_ble_eq_true rfl, Nat.le_of_ble_eq_true rfl⟩) hS (fun q _ h => hFc q h) hFc (fun J t H1 locs ht hvm hw hB hz1 hk1 hS => ?_)
  have hw : J.1 = q1 := hw
  subst hw
  obtain ⟨hP1, hK1, hD1⟩ := hB
  rw [ht] at hP1
  have hK1 := va_K.moved hvm.symm hK1
  obtain ⟨hP, hD⟩ := va_join (wr := xw K x0) (w1 := mw J m0) hP hD [3] [0, 1, 2] rfl rfl (by decide) (by decide) hk1 hFc hP1 hD1
  have hK : va_K D classes (xt K ++ mt J) s := hK.app hK1
  refine W.widen (k := 5) (n := 145) (by decide) (by decide) ?_
  refine lv_astore_n (lv' := [(2, .ref J.1), (1, .ref K.1), (0, .ref b)]) hx hb dx_law_law_15 rfl hl (by decide) rfl (fun ls hl => ?_)
  refine lv_iconst (v := 0) hx hb dx_law_law_16 (by decide) ?_
  refine lv_istore_n (lv' := [(3, .int 0), (2, .ref J.1), (1, .ref K.1), (0, .ref b)]) hx hb dx_law_law_17 rfl hl (by decide) rfl (fun ls hl => ?_)
  exact law_loop hL C0 S (L + 6) 0 (Nat.zero_le _) (by omega) x0 m0 _ _ ls iv_start ⟨hP, hD, hK, hS⟩ (lv_sub hl [0, 3, 2, 1] rfl)
end
section
set_option maxHeartbeats 4000000 in
theorem lw_walk (l : Launch) (b : Addr) (xs : List Int32) : MetFree l x (headSpec (Jvm.Cond.code x code maxLocals ret :: tables_1) room_1) (lw_P b xs) (fun _ _ _ _ _ => True) lw_Q := by
  refine MetFree.of_bodyS (code := code) (maxLocals := maxLocals) (ret := ret) (by decide) ?_ ?_
  · intro args s m h hn
    obtain ⟨meth, c, h1, h2, h3, h4, h5, h6, -, -⟩ := Cond.code_spec hn (atoms_spec (ws := Jvm.Cond.code x code maxLocals ret :: tables_1) h _ List.mem_cons_self)
    exact ⟨meth, c, h1, h2, h3, h4, h5, h6⟩
  · intro p e s m args below meth c s₁ B hml0 hP _
    obtain ⟨rfl, hx, hbd, hgv⟩ := hP
    obtain ⟨scr, harrAt, hlist, hof, hsmall⟩ := hx
    obtain ⟨hcb, hkn, -, -⟩ := State.arrayAt?_spec harrAt
    have hown : s.vm.findClass R_law = some m.cls := findClass_of_methodNamed B.named
    have hts0 : ∀ c ∈ (Jvm.Cond.code x code maxLocals ret :: tables_1), c.before #[Value.ref b] s = true := atoms_spec (ws := Jvm.Cond.code x code maxLocals ret :: tables_1) B.pre
    have hts : ∀ w ∈ lw_tbl, w.before #[Value.ref b] s = true := k2_hts_sels lw_privs (fun w hw => hts0 w (List.mem_cons_of_mem _ hw)) lw_privs_ok
    have hml : c.maxLocals = 4 := B.maxLocals_eq (hts0 _ List.mem_cons_self)
    have X₀ : Stand p l e room_1 s m #[Value.ref b] below meth c s₁ [] 0 0 := Stand.of_body B
    have hh0 : s₁.heap = s.heap := by rw [B.state]; rfl
    have hsz : scr.slots.size = xs.length := by rw [← Array.length_toList, hlist, List.length_map]
    have hval : ∀ j : Nat, j < xs.length → scr.slots[j]? = some (.int (xs.getD j 0)) := fun j hj => by
      rw [← Array.getElem?_toList, hlist]
      simp [hj]
    have hbl : b < s.heap.size := (Array.getElem?_eq_some_iff.mp hcb).1
    have hX : va_X b xs.length (fun j => xs.getD j 0) s s.heap := ⟨scr, hcb, hof, hkn, hsz, hval⟩
    have K : W p l e room_1 s m #[Value.ref b] below meth c s₁.heap [] 0 0 (lw_Z below #[Value.ref b] s) (entryFrame m ([Value.ref b] : List Value).toArray 4) := by
      rw [hh0]
      exact whole_start l hbd ⟨B.exec, B.bytes, B.returns, hml, hown, hts, hX, hbl, B.notSynchronized, hgv⟩
    obtain ⟨t, a1, o, b1, b2, b3⟩ := K s₁ rfl X₀
    exact ⟨t, o, a1, b1, b2, b3⟩
theorem lw_pre_spec {args : Array Value} {s : State} (h : (Jvm.Cond.and given_1 narrow_1).before args s = true) (hr : rest_1_c.before args s = true) : ∃ (b : Addr) (xs : List Int32), lw_P b xs args s := by
  have hs := flat_of_before _ h
  have hq := flat_of_before _ hr
  have hc : (Cond.count 1).before args s = true := hs _ (by decide +kernel)
  have harr : (Cond.arrayOf (.arg 0) .int).before args s = true := hs _ (by decide +kernel)
  have hle : (Cond.le (.length (.arg 0)) (.int 2560)).before args s = true := hs _ (by decide +kernel)
  have hlen : (Cond.isInt (.length (.arg 0))).before args s = true := hq _ (by decide +kernel)
  have hall : (Cond.all (.arg 0) (.isInt (.elem (.arg 0) (.index 0)))).before args s = true := hq _ (by decide +kernel)
  obtain ⟨b, xs, hb, hx⟩ := State.ints_of_pre rfl harr hlen hall
  have hsm : xs.length < 2 ^ 31 := hx.choose_spec.2.2.2
  have hev : (Term.length (.arg 0)).eval args s none [] s = some (.int xs.length.toInt32) := hx.length_eval hb
  have hv := Cond.le_ints hev (show (Term.int 2560).eval args s none [] s = some (.int 2560) from rfl)
  have hd : xs.length.toInt32 ≤ 2560 := by
    simpa [Cond.before, Cond.holds, hv] using hle
  have hN : xs.length ≤ 2560 := (Int32.ofNat_le_ofNat hsm (by decide)).mp (show Int32.ofNat xs.length ≤ Int32.ofNat 2560 from hd)
  exact ⟨b, xs, Cond.one_arg hc (show args[0]? = some (.ref b) from hb), hx, hN, h⟩
theorem lw_comes (l : Launch) : Comes l x (Jvm.Cond.code x code maxLocals ret :: tables_1) room_1 (fun tb e args s => Calls_1 tb e args s ∧ rest_1 tb e args s ∧ Pre_1 tb e args s)
    (fun _ _ args s o t => lw_Q args s o t) := by
  intro p e ha hc hk s m args below hf hfit hheap happ hpre
  obtain ⟨b, xs, hP⟩ := lw_pre_spec hpre.2.2 hpre.2.1
  obtain ⟨k, o, h1, h2, h3, hQ⟩ := lw_walk l b xs p e ha hc hk s m args below hf ((Spec.applies_iff_loose hf).mp happ).1 hP trivial
  exact ⟨k, o, h1, h2, h3, hQ⟩
theorem lw_frame {s t : State} {o : Outcome} {args : Array Value} (h : Framed s o t [] 5 145) :
    Framed s o t (fieldLocs frame_1_writes args s ++ arrayLocs frame_1_arrays args s ++ staticLocs frame_1_statics s) 5 145 := h
theorem lw_limb (L : Cond) (hL : ∀ (args : Array Value) (s t : State), L.after args s (.returned (some (.int 1))) t = true) :
    ArmFor flags0 classFile x code maxLocals ret World_1 tables_1 room_1 Calls_1 rest_1 Pre_1
      (fun tb e a s o t => postC L tb e a s o t ∧ Framed s o t (fieldLocs frame_1_writes a s ++ arrayLocs frame_1_arrays a s ++ staticLocs frame_1_statics s) 5 145) := by
  intro l _ _ _ p e ha hc hk s m args below hf hfit hheap happ hpre
  obtain ⟨k, o, h1, h2, h3, rfl, hF⟩ := lw_comes l p e ha hc hk s m args below hf hfit hheap happ hpre
  exact ⟨k, _, h1, h2, h3, hL args s _, lw_frame hF⟩
theorem i_vc : Claimed_1_1 ∧ Claimed_1_2 := ⟨lw_limb limb_1_1 (fun args s t => by simp [limb_1_1, Cond.after, Cond.holds, Cond.value]), lw_limb limb_1_2 (fun args s t => Cond.after_iff.mpr (by
  first | (rw [show limb_1_2 = Cond.eq .result (.int 1) from rfl, Cond.eq_ints (x := 1) (y := 1) rfl rfl]; simp; done) | (simp [limb_1_2, Cond.value, Term.eval]; done)))⟩
end
