section
-- PART A of the skeleton (a starting text)
/-- a private method of a class that the tables say can be made, by its rows of tables_1 -/
def lw_okq (q : MethodName × Nat) : Prop := (q.1.cls ≠ "java/lang/invoke/MethodHandle" ∧ q.1.cls ≠ "java/lang/invoke/VarHandle") ∧ Cond.instantiable q.1.cls q.2 ∈ tables_1 ∧ Cond.privateMethod q.1 ∈ tables_1 ∧ Cond.instanceMethod q.1 ∈ tables_1
theorem lw_p0 : lw_okq (⟨"KeepHeap", "is", "(II)Z"⟩, 7) := ⟨⟨by decide +kernel, by decide +kernel⟩, List.mem_of_getElem? (i := 7) (by decide +kernel), List.mem_of_getElem? (i := 102) (by decide +kernel), List.mem_of_getElem? (i := 103) (by decide +kernel)⟩
theorem lw_p1 : lw_okq (⟨"KeepHeap", "isValue", "(II)Z"⟩, 7) := ⟨⟨by decide +kernel, by decide +kernel⟩, List.mem_of_getElem? (i := 7) (by decide +kernel), List.mem_of_getElem? (i := 106) (by decide +kernel), List.mem_of_getElem? (i := 107) (by decide +kernel)⟩
theorem lw_p2 : lw_okq (⟨"KeepHeap", "isItem", "(II)Z"⟩, 7) := ⟨⟨by decide +kernel, by decide +kernel⟩, List.mem_of_getElem? (i := 7) (by decide +kernel), List.mem_of_getElem? (i := 149) (by decide +kernel), List.mem_of_getElem? (i := 150) (by decide +kernel)⟩
theorem lw_p3 : lw_okq (⟨"KeepHeap$State", "rootsChanged", "(LKeepHeap$State;)I"⟩, 12) := ⟨⟨by decide +kernel, by decide +kernel⟩, List.mem_of_getElem? (i := 15) (by decide +kernel), List.mem_of_getElem? (i := 182) (by decide +kernel), List.mem_of_getElem? (i := 183) (by decide +kernel)⟩
theorem lw_p4 : lw_okq (⟨"KeepHeap$State", "sameObject", "(LKeepHeap$State;I)Z"⟩, 12) := ⟨⟨by decide +kernel, by decide +kernel⟩, List.mem_of_getElem? (i := 15) (by decide +kernel), List.mem_of_getElem? (i := 186) (by decide +kernel), List.mem_of_getElem? (i := 187) (by decide +kernel)⟩
theorem lw_p5 : lw_okq (⟨"KeepHeap", "write", "(I)V"⟩, 7) := ⟨⟨by decide +kernel, by decide +kernel⟩, List.mem_of_getElem? (i := 7) (by decide +kernel), List.mem_of_getElem? (i := 190) (by decide +kernel), List.mem_of_getElem? (i := 191) (by decide +kernel)⟩
theorem lw_p6 : lw_okq (⟨"KeepHeap$State", "reach", "(II)V"⟩, 12) := ⟨⟨by decide +kernel, by decide +kernel⟩, List.mem_of_getElem? (i := 15) (by decide +kernel), List.mem_of_getElem? (i := 210) (by decide +kernel), List.mem_of_getElem? (i := 211) (by decide +kernel)⟩
theorem lw_p7 : lw_okq (⟨"KeepHeapModel", "is", "(II)Z"⟩, 8) := ⟨⟨by decide +kernel, by decide +kernel⟩, List.mem_of_getElem? (i := 238) (by decide +kernel), List.mem_of_getElem? (i := 317) (by decide +kernel), List.mem_of_getElem? (i := 318) (by decide +kernel)⟩
theorem lw_p8 : lw_okq (⟨"KeepHeapModel", "isValue", "(II)Z"⟩, 8) := ⟨⟨by decide +kernel, by decide +kernel⟩, List.mem_of_getElem? (i := 238) (by decide +kernel), List.mem_of_getElem? (i := 325) (by decide +kernel), List.mem_of_getElem? (i := 326) (by decide +kernel)⟩
theorem lw_p9 : lw_okq (⟨"KeepHeapModel", "isThere", "(I)Z"⟩, 8) := ⟨⟨by decide +kernel, by decide +kernel⟩, List.mem_of_getElem? (i := 238) (by decide +kernel), List.mem_of_getElem? (i := 329) (by decide +kernel), List.mem_of_getElem? (i := 330) (by decide +kernel)⟩
theorem lw_p10 : lw_okq (⟨"KeepHeapModel", "keep", "(I)V"⟩, 8) := ⟨⟨by decide +kernel, by decide +kernel⟩, List.mem_of_getElem? (i := 238) (by decide +kernel), List.mem_of_getElem? (i := 388) (by decide +kernel), List.mem_of_getElem? (i := 389) (by decide +kernel)⟩
theorem lw_p11 : lw_okq (⟨"KeepHeapModel", "reach", "(JI)I"⟩, 8) := ⟨⟨by decide +kernel, by decide +kernel⟩, List.mem_of_getElem? (i := 238) (by decide +kernel), List.mem_of_getElem? (i := 407) (by decide +kernel), List.mem_of_getElem? (i := 408) (by decide +kernel)⟩
def lw_privs_1 : List (MethodName × Nat) := [(⟨"KeepHeap", "is", "(II)Z"⟩, 7), (⟨"KeepHeap", "isValue", "(II)Z"⟩, 7), (⟨"KeepHeap", "isItem", "(II)Z"⟩, 7), (⟨"KeepHeap$State", "rootsChanged", "(LKeepHeap$State;)I"⟩, 12), (⟨"KeepHeap$State", "sameObject", "(LKeepHeap$State;I)Z"⟩, 12), (⟨"KeepHeap", "write", "(I)V"⟩, 7), (⟨"KeepHeap$State", "reach", "(II)V"⟩, 12), (⟨"KeepHeapModel", "is", "(II)Z"⟩, 8), (⟨"KeepHeapModel", "isValue", "(II)Z"⟩, 8), (⟨"KeepHeapModel", "isThere", "(I)Z"⟩, 8), (⟨"KeepHeapModel", "keep", "(I)V"⟩, 8), (⟨"KeepHeapModel", "reach", "(JI)I"⟩, 8)]
theorem lw_r1 : ∀ q ∈ lw_privs_1, lw_okq q := List.forall_mem_cons.mpr ⟨lw_p0, List.forall_mem_cons.mpr ⟨lw_p1, List.forall_mem_cons.mpr ⟨lw_p2, List.forall_mem_cons.mpr ⟨lw_p3, List.forall_mem_cons.mpr ⟨lw_p4, List.forall_mem_cons.mpr ⟨lw_p5, List.forall_mem_cons.mpr ⟨lw_p6, List.forall_mem_cons.mpr ⟨lw_p7, List.forall_mem_cons.mpr ⟨lw_p8, List.forall_mem_cons.mpr ⟨lw_p9, List.forall_mem_cons.mpr ⟨lw_p10, List.forall_mem_cons.mpr ⟨lw_p11, fun _ h => absurd h List.not_mem_nil⟩⟩⟩⟩⟩⟩⟩⟩⟩⟩⟩⟩
def lw_privs : List (MethodName × Nat) := lw_privs_1
def lw_tbl : List Cond := k2_sels lw_privs ++ tables_1
theorem lw_privs_ok : ∀ q ∈ lw_privs, lw_okq q := lw_r1
end
section
abbrev R_KS : String := "KeepHeap$State"
abbrev R_MS : String := "KeepHeapModel$State"
abbrev R_K : String := "KeepHeap"
abbrev R_M : String := "KeepHeapModel"
abbrev R_LAW : String := "KeepHeapLaw"
def F_KS : u_T := fun k => match k with
  | 0 => ("KeepHeap$State", "kind", "[I", true)
  | 1 => ("KeepHeap$State", "size", "[I", true)
  | 2 => ("KeepHeap$State", "name", "[I", true)
  | 3 => ("KeepHeap$State", "sort", "[I", true)
  | 4 => ("KeepHeap$State", "value", "[I", true)
  | 5 => ("KeepHeap$State", "rootName", "[I", true)
  | 6 => ("KeepHeap$State", "rootSort", "[I", true)
  | 7 => ("KeepHeap$State", "root", "[I", true)
  | 8 => ("KeepHeap$State", "roots", "I", false)
  | 9 => ("KeepHeap$State", "seen", "[Z", true)
  | 10 => ("KeepHeap$State", "stack", "[I", true)
  | _ => ("KeepHeap$State", "waiting", "I", false)
def t_KS : Nat → FieldType := fun k => match k with
  | 0 => .array .int
  | 1 => .array .int
  | 2 => .array .int
  | 3 => .array .int
  | 4 => .array .int
  | 5 => .array .int
  | 6 => .array .int
  | 7 => .array .int
  | 8 => .int
  | 9 => .array .boolean
  | 10 => .array .int
  | _ => .int
def F_MS : u_T := fun k => match k with
  | 0 => ("KeepHeapModel$State", "kind", "[I", true)
  | 1 => ("KeepHeapModel$State", "size", "[I", true)
  | 2 => ("KeepHeapModel$State", "name", "[I", true)
  | 3 => ("KeepHeapModel$State", "root", "[I", true)
  | 4 => ("KeepHeapModel$State", "slot", "[J", true)
  | 5 => ("KeepHeapModel$State", "value", "[J", true)
  | 6 => ("KeepHeapModel$State", "roots", "I", false)
  | _ => ("KeepHeapModel$State", "bytes", "I", false)
def t_MS : Nat → FieldType := fun k => match k with
  | 0 => .array .int
  | 1 => .array .int
  | 2 => .array .int
  | 3 => .array .int
  | 4 => .array .long
  | 5 => .array .long
  | 6 => .int
  | _ => .int
def F_K : u_T := fun k => match k with
  | 0 => ("KeepHeap", "now", "LKeepHeap$State;", true)
  | 1 => ("KeepHeap", "before", "LKeepHeap$State;", true)
  | 2 => ("KeepHeap", "safe", "LKeepHeap$State;", true)
  | 3 => ("KeepHeap", "after", "[LKeepHeap$State;", true)
  | 4 => ("KeepHeap", "bytes", "[I", true)
  | 5 => ("KeepHeap", "waiting", "I", false)
  | _ => ("KeepHeap", "log", "J", false)
def t_K : Nat → FieldType := fun k => match k with
  | 0 => .object "KeepHeap$State"
  | 1 => .object "KeepHeap$State"
  | 2 => .object "KeepHeap$State"
  | 3 => .array (.object "KeepHeap$State")
  | 4 => .array .int
  | 5 => .int
  | _ => .long
def F_M : u_T := fun k => match k with
  | 0 => ("KeepHeapModel", "now", "LKeepHeapModel$State;", true)
  | 1 => ("KeepHeapModel", "kept", "LKeepHeapModel$State;", true)
  | 2 => ("KeepHeapModel", "safe", "LKeepHeapModel$State;", true)
  | 3 => ("KeepHeapModel", "waiting", "[LKeepHeapModel$State;", true)
  | 4 => ("KeepHeapModel", "waits", "I", false)
  | 5 => ("KeepHeapModel", "logged", "I", false)
  | 6 => ("KeepHeapModel", "reached", "[Z", true)
  | _ => ("KeepHeapModel", "path", "[I", true)
def t_M : Nat → FieldType := fun k => match k with
  | 0 => .object "KeepHeapModel$State"
  | 1 => .object "KeepHeapModel$State"
  | 2 => .object "KeepHeapModel$State"
  | 3 => .array (.object "KeepHeapModel$State")
  | 4 => .int
  | 5 => .int
  | 6 => .array .boolean
  | _ => .array .int
abbrev classes : List vw_C := [(R_KS, F_KS, 12), (R_MS, F_MS, 8), (R_K, F_K, 7), (R_M, F_M, 8)]
abbrev y_K_init : MethodName := ⟨"KeepHeap", "<init>", "()V"⟩
abbrev b_K_init : ByteArray := prog_1_method_1_code
abbrev y_KS_init : MethodName := ⟨"KeepHeap$State", "<init>", "()V"⟩
abbrev b_KS_init : ByteArray := prog_2_method_1_code
abbrev y_K_make : MethodName := ⟨"KeepHeap", "make", "(Z)I"⟩
abbrev b_K_make : ByteArray := prog_1_method_6_code
abbrev y_KS_make : MethodName := ⟨"KeepHeap$State", "make", "(I)I"⟩
abbrev b_KS_make : ByteArray := prog_2_method_8_code
abbrev y_K_set : MethodName := ⟨"KeepHeap", "set", "(IIII)I"⟩
abbrev b_K_set : ByteArray := prog_1_method_7_code
abbrev y_K_is : MethodName := ⟨"KeepHeap", "is", "(II)Z"⟩
abbrev b_K_is : ByteArray := prog_1_method_2_code
abbrev y_K_isValue : MethodName := ⟨"KeepHeap", "isValue", "(II)Z"⟩
abbrev b_K_isValue : ByteArray := prog_1_method_3_code
abbrev y_K_plain : MethodName := ⟨"KeepHeap", "plain", "(II)I"⟩
abbrev b_K_plain : ByteArray := prog_1_method_4_code
abbrev y_KS_setField : MethodName := ⟨"KeepHeap$State", "setField", "(IIII)Z"⟩
abbrev b_KS_setField : ByteArray := prog_2_method_11_code
abbrev y_KS_findField : MethodName := ⟨"KeepHeap$State", "findField", "(II)I"⟩
abbrev b_KS_findField : ByteArray := prog_2_method_9_code
abbrev y_KS_store : MethodName := ⟨"KeepHeap$State", "store", "(IIII)V"⟩
abbrev b_KS_store : ByteArray := prog_2_method_10_code
abbrev y_K_get : MethodName := ⟨"KeepHeap", "get", "(II)J"⟩
abbrev b_K_get : ByteArray := prog_1_method_8_code
abbrev y_K_told : MethodName := ⟨"KeepHeap", "told", "(II)J"⟩
abbrev b_K_told : ByteArray := prog_1_method_5_code
abbrev y_K_push : MethodName := ⟨"KeepHeap", "push", "(III)I"⟩
abbrev b_K_push : ByteArray := prog_1_method_9_code
abbrev y_K_pop : MethodName := ⟨"KeepHeap", "pop", "(I)J"⟩
abbrev b_K_pop : ByteArray := prog_1_method_11_code
abbrev y_K_put : MethodName := ⟨"KeepHeap", "put", "(IIII)I"⟩
abbrev b_K_put : ByteArray := prog_1_method_12_code
abbrev y_K_isItem : MethodName := ⟨"KeepHeap", "isItem", "(II)Z"⟩
abbrev b_K_isItem : ByteArray := prog_1_method_10_code
abbrev y_K_item : MethodName := ⟨"KeepHeap", "item", "(II)J"⟩
abbrev b_K_item : ByteArray := prog_1_method_13_code
abbrev y_K_root : MethodName := ⟨"KeepHeap", "root", "(III)I"⟩
abbrev b_K_root : ByteArray := prog_1_method_14_code
abbrev y_KS_setRoot : MethodName := ⟨"KeepHeap$State", "setRoot", "(III)Z"⟩
abbrev b_KS_setRoot : ByteArray := prog_2_method_12_code
abbrev y_KS_findRoot : MethodName := ⟨"KeepHeap$State", "findRoot", "(I)I"⟩
abbrev b_KS_findRoot : ByteArray := prog_2_method_4_code
abbrev y_K_rooted : MethodName := ⟨"KeepHeap", "rooted", "(I)J"⟩
abbrev b_K_rooted : ByteArray := prog_1_method_15_code
abbrev y_K_commit : MethodName := ⟨"KeepHeap", "commit", "()I"⟩
abbrev b_K_commit : ByteArray := prog_1_method_17_code
abbrev y_KS_changes : MethodName := ⟨"KeepHeap$State", "changes", "(LKeepHeap$State;)I"⟩
abbrev b_KS_changes : ByteArray := prog_2_method_6_code
abbrev y_KS_rootsChanged : MethodName := ⟨"KeepHeap$State", "rootsChanged", "(LKeepHeap$State;)I"⟩
abbrev b_KS_rootsChanged : ByteArray := prog_2_method_5_code
abbrev y_KS_sameObject : MethodName := ⟨"KeepHeap$State", "sameObject", "(LKeepHeap$State;I)Z"⟩
abbrev b_KS_sameObject : ByteArray := prog_2_method_3_code
abbrev y_K_write : MethodName := ⟨"KeepHeap", "write", "(I)V"⟩
abbrev b_K_write : ByteArray := prog_1_method_16_code
abbrev y_KS_copy : MethodName := ⟨"KeepHeap$State", "copy", "(LKeepHeap$State;)V"⟩
abbrev b_KS_copy : ByteArray := prog_2_method_2_code
abbrev y_K_undo : MethodName := ⟨"KeepHeap", "undo", "()I"⟩
abbrev b_K_undo : ByteArray := prog_1_method_18_code
abbrev y_K_sweep : MethodName := ⟨"KeepHeap", "sweep", "()I"⟩
abbrev b_K_sweep : ByteArray := prog_1_method_19_code
abbrev y_KS_sweep : MethodName := ⟨"KeepHeap$State", "sweep", "()I"⟩
abbrev b_KS_sweep : ByteArray := prog_2_method_14_code
abbrev y_KS_reach : MethodName := ⟨"KeepHeap$State", "reach", "(II)V"⟩
abbrev b_KS_reach : ByteArray := prog_2_method_13_code
abbrev y_K_sync : MethodName := ⟨"KeepHeap", "sync", "()I"⟩
abbrev b_K_sync : ByteArray := prog_1_method_20_code
abbrev y_K_crash : MethodName := ⟨"KeepHeap", "crash", "(I)I"⟩
abbrev b_K_crash : ByteArray := prog_1_method_21_code
abbrev y_K_kind : MethodName := ⟨"KeepHeap", "kind", "(I)I"⟩
abbrev b_K_kind : ByteArray := prog_1_method_22_code
abbrev y_K_size : MethodName := ⟨"KeepHeap", "size", "(I)I"⟩
abbrev b_K_size : ByteArray := prog_1_method_23_code
abbrev y_K_count : MethodName := ⟨"KeepHeap", "count", "(I)I"⟩
abbrev b_K_count : ByteArray := prog_1_method_24_code
abbrev y_KS_objects : MethodName := ⟨"KeepHeap$State", "objects", "()I"⟩
abbrev b_KS_objects : ByteArray := prog_2_method_7_code
abbrev y_M_init : MethodName := ⟨"KeepHeapModel", "<init>", "()V"⟩
abbrev b_M_init : ByteArray := prog_4_method_2_code
abbrev y_MS_init : MethodName := ⟨"KeepHeapModel$State", "<init>", "()V"⟩
abbrev b_MS_init : ByteArray := prog_5_method_1_code
abbrev y_M_make : MethodName := ⟨"KeepHeapModel", "make", "(Z)I"⟩
abbrev b_M_make : ByteArray := prog_4_method_7_code
abbrev y_M_set : MethodName := ⟨"KeepHeapModel", "set", "(IIII)I"⟩
abbrev b_M_set : ByteArray := prog_4_method_8_code
abbrev y_M_is : MethodName := ⟨"KeepHeapModel", "is", "(II)Z"⟩
abbrev b_M_is : ByteArray := prog_4_method_3_code
abbrev y_M_in : MethodName := ⟨"KeepHeapModel", "in", "(JJJ)Z"⟩
abbrev b_M_in : ByteArray := prog_4_method_1_code
abbrev y_M_isValue : MethodName := ⟨"KeepHeapModel", "isValue", "(II)Z"⟩
abbrev b_M_isValue : ByteArray := prog_4_method_5_code
abbrev y_M_isThere : MethodName := ⟨"KeepHeapModel", "isThere", "(I)Z"⟩
abbrev b_M_isThere : ByteArray := prog_4_method_4_code
abbrev y_MS_findField : MethodName := ⟨"KeepHeapModel$State", "findField", "(II)I"⟩
abbrev b_MS_findField : ByteArray := prog_5_method_4_code
abbrev y_M_value : MethodName := ⟨"KeepHeapModel", "value", "(II)J"⟩
abbrev b_M_value : ByteArray := prog_4_method_6_code
abbrev y_M_get : MethodName := ⟨"KeepHeapModel", "get", "(II)J"⟩
abbrev b_M_get : ByteArray := prog_4_method_9_code
abbrev y_M_push : MethodName := ⟨"KeepHeapModel", "push", "(III)I"⟩
abbrev b_M_push : ByteArray := prog_4_method_10_code
abbrev y_M_pop : MethodName := ⟨"KeepHeapModel", "pop", "(I)J"⟩
abbrev b_M_pop : ByteArray := prog_4_method_11_code
abbrev y_M_put : MethodName := ⟨"KeepHeapModel", "put", "(IIII)I"⟩
abbrev b_M_put : ByteArray := prog_4_method_12_code
abbrev y_M_item : MethodName := ⟨"KeepHeapModel", "item", "(II)J"⟩
abbrev b_M_item : ByteArray := prog_4_method_13_code
abbrev y_M_root : MethodName := ⟨"KeepHeapModel", "root", "(III)I"⟩
abbrev b_M_root : ByteArray := prog_4_method_14_code
abbrev y_MS_findRoot : MethodName := ⟨"KeepHeapModel$State", "findRoot", "(I)I"⟩
abbrev b_MS_findRoot : ByteArray := prog_5_method_3_code
abbrev y_M_rooted : MethodName := ⟨"KeepHeapModel", "rooted", "(I)J"⟩
abbrev b_M_rooted : ByteArray := prog_4_method_15_code
abbrev y_M_commit : MethodName := ⟨"KeepHeapModel", "commit", "()I"⟩
abbrev b_M_commit : ByteArray := prog_4_method_17_code
abbrev y_MS_bytesBehind : MethodName := ⟨"KeepHeapModel$State", "bytesBehind", "(LKeepHeapModel$State;)I"⟩
abbrev b_MS_bytesBehind : ByteArray := prog_5_method_6_code
abbrev y_MS_isSame : MethodName := ⟨"KeepHeapModel$State", "isSame", "(ILKeepHeapModel$State;)Z"⟩
abbrev b_MS_isSame : ByteArray := prog_5_method_5_code
abbrev y_M_keep : MethodName := ⟨"KeepHeapModel", "keep", "(I)V"⟩
abbrev b_M_keep : ByteArray := prog_4_method_16_code
abbrev y_MS_copy : MethodName := ⟨"KeepHeapModel$State", "copy", "(LKeepHeapModel$State;)V"⟩
abbrev b_MS_copy : ByteArray := prog_5_method_2_code
abbrev y_M_undo : MethodName := ⟨"KeepHeapModel", "undo", "()I"⟩
abbrev b_M_undo : ByteArray := prog_4_method_18_code
abbrev y_M_sweep : MethodName := ⟨"KeepHeapModel", "sweep", "()I"⟩
abbrev b_M_sweep : ByteArray := prog_4_method_19_code
abbrev y_M_reach : MethodName := ⟨"KeepHeapModel", "reach", "(JI)I"⟩
abbrev b_M_reach : ByteArray := prog_4_method_20_code
abbrev y_M_sync : MethodName := ⟨"KeepHeapModel", "sync", "()I"⟩
abbrev b_M_sync : ByteArray := prog_4_method_21_code
abbrev y_M_crash : MethodName := ⟨"KeepHeapModel", "crash", "(I)I"⟩
abbrev b_M_crash : ByteArray := prog_4_method_22_code
abbrev y_M_kind : MethodName := ⟨"KeepHeapModel", "kind", "(I)I"⟩
abbrev b_M_kind : ByteArray := prog_4_method_23_code
abbrev y_M_size : MethodName := ⟨"KeepHeapModel", "size", "(I)I"⟩
abbrev b_M_size : ByteArray := prog_4_method_24_code
abbrev y_M_count : MethodName := ⟨"KeepHeapModel", "count", "(I)I"⟩
abbrev b_M_count : ByteArray := prog_4_method_25_code
abbrev y_LAW_law : MethodName := ⟨"KeepHeapLaw", "law", "([I)Z"⟩
abbrev b_LAW_law : ByteArray := code
def tW : List Cond := lw_tbl.filter goodWord
theorem tW_mem {w : Cond} (i : Nat) (h : lw_tbl[i]? = some w) (g : goodWord w = true) : w ∈ tW := List.mem_filter.mpr ⟨List.mem_of_getElem? h, g⟩
theorem n_KS : ∀ a, a < 12 → ∀ b, b < 12 → a ≠ b → (F_KS a).2.1 ≠ (F_KS b).2.1 := by decide +kernel
theorem t_KS_ok : ∀ k, k < 12 → parseFieldDescriptor (F_KS k).2.2.1 = some (t_KS k) := by decide +kernel
theorem in_KS : ∀ w ∈ u_ws R_KS F_KS 12, w ∈ tW := by
  intro w hw
  obtain ⟨k, hk, rfl⟩ := List.mem_map.mp hw
  have hk : k < 12 := List.mem_range.mp hk
  rcases (show k = 0 ∨ k = 1 ∨ k = 2 ∨ k = 3 ∨ k = 4 ∨ k = 5 ∨ k = 6 ∨ k = 7 ∨ k = 8 ∨ k = 9 ∨ k = 10 ∨ k = 11 by omega) with rfl | rfl | rfl | rfl | rfl | rfl | rfl | rfl | rfl | rfl | rfl | rfl
  · exact tW_mem 51 rfl rfl
  · exact tW_mem 53 rfl rfl
  · exact tW_mem 55 rfl rfl
  · exact tW_mem 57 rfl rfl
  · exact tW_mem 59 rfl rfl
  · exact tW_mem 61 rfl rfl
  · exact tW_mem 63 rfl rfl
  · exact tW_mem 65 rfl rfl
  · exact tW_mem 67 rfl rfl
  · exact tW_mem 69 rfl rfl
  · exact tW_mem 71 rfl rfl
  · exact tW_mem 73 rfl rfl
theorem n_MS : ∀ a, a < 8 → ∀ b, b < 8 → a ≠ b → (F_MS a).2.1 ≠ (F_MS b).2.1 := by decide +kernel
theorem t_MS_ok : ∀ k, k < 8 → parseFieldDescriptor (F_MS k).2.2.1 = some (t_MS k) := by decide +kernel
theorem in_MS : ∀ w ∈ u_ws R_MS F_MS 8, w ∈ tW := by
  intro w hw
  obtain ⟨k, hk, rfl⟩ := List.mem_map.mp hw
  have hk : k < 8 := List.mem_range.mp hk
  rcases (show k = 0 ∨ k = 1 ∨ k = 2 ∨ k = 3 ∨ k = 4 ∨ k = 5 ∨ k = 6 ∨ k = 7 by omega) with rfl | rfl | rfl | rfl | rfl | rfl | rfl | rfl
  · exact tW_mem 276 rfl rfl
  · exact tW_mem 278 rfl rfl
  · exact tW_mem 280 rfl rfl
  · exact tW_mem 282 rfl rfl
  · exact tW_mem 284 rfl rfl
  · exact tW_mem 286 rfl rfl
  · exact tW_mem 288 rfl rfl
  · exact tW_mem 290 rfl rfl
theorem n_K : ∀ a, a < 7 → ∀ b, b < 7 → a ≠ b → (F_K a).2.1 ≠ (F_K b).2.1 := by decide +kernel
theorem t_K_ok : ∀ k, k < 7 → parseFieldDescriptor (F_K k).2.2.1 = some (t_K k) := by decide +kernel
theorem in_K : ∀ w ∈ u_ws R_K F_K 7, w ∈ tW := by
  intro w hw
  obtain ⟨k, hk, rfl⟩ := List.mem_map.mp hw
  have hk : k < 7 := List.mem_range.mp hk
  rcases (show k = 0 ∨ k = 1 ∨ k = 2 ∨ k = 3 ∨ k = 4 ∨ k = 5 ∨ k = 6 by omega) with rfl | rfl | rfl | rfl | rfl | rfl | rfl
  · exact tW_mem 86 rfl rfl
  · exact tW_mem 88 rfl rfl
  · exact tW_mem 90 rfl rfl
  · exact tW_mem 92 rfl rfl
  · exact tW_mem 94 rfl rfl
  · exact tW_mem 96 rfl rfl
  · exact tW_mem 98 rfl rfl
theorem n_M : ∀ a, a < 8 → ∀ b, b < 8 → a ≠ b → (F_M a).2.1 ≠ (F_M b).2.1 := by decide +kernel
theorem t_M_ok : ∀ k, k < 8 → parseFieldDescriptor (F_M k).2.2.1 = some (t_M k) := by decide +kernel
theorem in_M : ∀ w ∈ u_ws R_M F_M 8, w ∈ tW := by
  intro w hw
  obtain ⟨k, hk, rfl⟩ := List.mem_map.mp hw
  have hk : k < 8 := List.mem_range.mp hk
  rcases (show k = 0 ∨ k = 1 ∨ k = 2 ∨ k = 3 ∨ k = 4 ∨ k = 5 ∨ k = 6 ∨ k = 7 by omega) with rfl | rfl | rfl | rfl | rfl | rfl | rfl | rfl
  · exact tW_mem 303 rfl rfl
  · exact tW_mem 305 rfl rfl
  · exact tW_mem 307 rfl rfl
  · exact tW_mem 309 rfl rfl
  · exact tW_mem 311 rfl rfl
  · exact tW_mem 313 rfl rfl
  · exact tW_mem 315 rfl rfl
  · exact tW_mem 317 rfl rfl
theorem k_0 : (Cond.initialized "KeepHeapLaw") ∈ tW := tW_mem 12 rfl rfl
theorem k_1 : (Cond.initialized "KeepHeap") ∈ tW := tW_mem 13 rfl rfl
theorem k_2 : (Cond.initialized "KeepHeap$State") ∈ tW := tW_mem 14 rfl rfl
theorem k_3 : (Cond.initialized "KeepHeapModel") ∈ tW := tW_mem 15 rfl rfl
theorem k_4 : (Cond.initialized "KeepHeapModel$State") ∈ tW := tW_mem 16 rfl rfl
theorem k_5 : (Cond.initialized "java/lang/System") ∈ tW := tW_mem 17 rfl rfl
theorem k_6 : (Cond.classLink "KeepHeapLaw" 7 "KeepHeap") ∈ tW := tW_mem 18 rfl rfl
theorem k_7 : (Cond.instantiable "KeepHeap" 7) ∈ tW := tW_mem 19 rfl rfl
theorem k_8 : (Cond.methodLink "KeepHeapLaw" 9 (⟨"KeepHeap", "<init>", "()V"⟩ : MethodName)) ∈ tW := tW_mem 20 rfl rfl
theorem k_9 : (Cond.instanceMethod (⟨"KeepHeap", "<init>", "()V"⟩ : MethodName)) ∈ tW := tW_mem 21 rfl rfl
theorem k_10 : (Cond.code (⟨"KeepHeap", "<init>", "()V"⟩ : MethodName) prog_1_method_1_code 2 (Option.none : Option FieldType)) ∈ tW := tW_mem 22 rfl rfl
theorem k_11 : (Cond.methodLink "KeepHeap" 1 (⟨"java/lang/Object", "<init>", "()V"⟩ : MethodName)) ∈ tW := tW_mem 23 rfl rfl
theorem k_12 : (Cond.instanceMethod (⟨"java/lang/Object", "<init>", "()V"⟩ : MethodName)) ∈ tW := tW_mem 24 rfl rfl
theorem k_13 : (Cond.code (⟨"java/lang/Object", "<init>", "()V"⟩ : MethodName) object_method_1_code 1 (Option.none : Option FieldType)) ∈ tW := tW_mem 25 rfl rfl
theorem k_14 : (Cond.classLink "KeepHeap" 7 "KeepHeap$State") ∈ tW := tW_mem 26 rfl rfl
theorem k_15 : (Cond.instantiable "KeepHeap$State" 12) ∈ tW := tW_mem 27 rfl rfl
theorem k_17 : (Cond.instanceMethod (⟨"KeepHeap$State", "<init>", "()V"⟩ : MethodName)) ∈ tW := tW_mem 29 rfl rfl
theorem k_18 : (Cond.code (⟨"KeepHeap$State", "<init>", "()V"⟩ : MethodName) prog_2_method_1_code 1 (Option.none : Option FieldType)) ∈ tW := tW_mem 30 rfl rfl
theorem k_19 : (Cond.methodLink "KeepHeap$State" 3 (⟨"java/lang/Object", "<init>", "()V"⟩ : MethodName)) ∈ tW := tW_mem 31 rfl rfl
theorem k_20 : (Cond.fieldLink "KeepHeap$State" 11 "KeepHeap$State" "kind" "[I") ∈ tW := tW_mem 32 rfl rfl
theorem k_22 : (Cond.fieldLink "KeepHeap$State" 15 "KeepHeap$State" "size" "[I") ∈ tW := tW_mem 34 rfl rfl
theorem k_24 : (Cond.fieldLink "KeepHeap$State" 18 "KeepHeap$State" "name" "[I") ∈ tW := tW_mem 36 rfl rfl
theorem k_25 : (Cond.fieldLink "KeepHeap$State" 21 "KeepHeap$State" "sort" "[I") ∈ tW := tW_mem 37 rfl rfl
theorem k_27 : (Cond.fieldLink "KeepHeap$State" 24 "KeepHeap$State" "value" "[I") ∈ tW := tW_mem 39 rfl rfl
theorem k_29 : (Cond.fieldLink "KeepHeap$State" 27 "KeepHeap$State" "rootName" "[I") ∈ tW := tW_mem 41 rfl rfl
theorem k_30 : (Cond.fieldLink "KeepHeap$State" 30 "KeepHeap$State" "rootSort" "[I") ∈ tW := tW_mem 42 rfl rfl
theorem k_32 : (Cond.fieldLink "KeepHeap$State" 33 "KeepHeap$State" "root" "[I") ∈ tW := tW_mem 44 rfl rfl
theorem k_34 : (Cond.fieldLink "KeepHeap$State" 43 "KeepHeap$State" "roots" "I") ∈ tW := tW_mem 46 rfl rfl
theorem k_36 : (Cond.fieldLink "KeepHeap$State" 36 "KeepHeap$State" "seen" "[Z") ∈ tW := tW_mem 48 rfl rfl
theorem k_37 : (Cond.fieldLink "KeepHeap$State" 40 "KeepHeap$State" "stack" "[I") ∈ tW := tW_mem 49 rfl rfl
theorem k_38 : (Cond.fieldLink "KeepHeap$State" 67 "KeepHeap$State" "waiting" "I") ∈ tW := tW_mem 50 rfl rfl
theorem k_64 : (Cond.arrayClass FieldType.int) ∈ tW := tW_mem 76 rfl rfl
theorem k_65 : (Cond.arrayClass FieldType.boolean) ∈ tW := tW_mem 77 rfl rfl
theorem k_67 : (Cond.fieldLink "KeepHeap" 10 "KeepHeap" "now" "LKeepHeap$State;") ∈ tW := tW_mem 79 rfl rfl
theorem k_68 : (Cond.fieldLink "KeepHeap" 16 "KeepHeap" "before" "LKeepHeap$State;") ∈ tW := tW_mem 80 rfl rfl
theorem k_69 : (Cond.fieldLink "KeepHeap" 19 "KeepHeap" "safe" "LKeepHeap$State;") ∈ tW := tW_mem 81 rfl rfl
theorem k_70 : (Cond.fieldLink "KeepHeap" 22 "KeepHeap" "after" "[LKeepHeap$State;") ∈ tW := tW_mem 82 rfl rfl
theorem k_71 : (Cond.fieldLink "KeepHeap" 26 "KeepHeap" "bytes" "[I") ∈ tW := tW_mem 83 rfl rfl
theorem k_72 : (Cond.fieldLink "KeepHeap" 98 "KeepHeap" "waiting" "I") ∈ tW := tW_mem 84 rfl rfl
theorem k_73 : (Cond.fieldLink "KeepHeap" 105 "KeepHeap" "log" "J") ∈ tW := tW_mem 85 rfl rfl
theorem k_89 : (Cond.methodLink "KeepHeapLaw" 13 (⟨"KeepHeap", "make", "(Z)I"⟩ : MethodName)) ∈ tW := tW_mem 101 rfl rfl
theorem k_90 : (Cond.instanceMethod (⟨"KeepHeap", "make", "(Z)I"⟩ : MethodName)) ∈ tW := tW_mem 102 rfl rfl
theorem k_91 : (Cond.selects "KeepHeap" (⟨"KeepHeap", "make", "(Z)I"⟩ : MethodName) (⟨"KeepHeap", "make", "(Z)I"⟩ : MethodName)) ∈ tW := tW_mem 103 rfl rfl
theorem k_92 : (Cond.code (⟨"KeepHeap", "make", "(Z)I"⟩ : MethodName) prog_1_method_6_code 3 (Option.some FieldType.int)) ∈ tW := tW_mem 104 rfl rfl
theorem k_93 : (Cond.methodLink "KeepHeap" 41 (⟨"KeepHeap$State", "make", "(I)I"⟩ : MethodName)) ∈ tW := tW_mem 105 rfl rfl
theorem k_94 : (Cond.instanceMethod (⟨"KeepHeap$State", "make", "(I)I"⟩ : MethodName)) ∈ tW := tW_mem 106 rfl rfl
theorem k_95 : (Cond.selects "KeepHeap$State" (⟨"KeepHeap$State", "make", "(I)I"⟩ : MethodName) (⟨"KeepHeap$State", "make", "(I)I"⟩ : MethodName)) ∈ tW := tW_mem 107 rfl rfl
theorem k_96 : (Cond.code (⟨"KeepHeap$State", "make", "(I)I"⟩ : MethodName) prog_2_method_8_code 3 (Option.some FieldType.int)) ∈ tW := tW_mem 108 rfl rfl
theorem k_97 : (Cond.methodLink "KeepHeapLaw" 18 (⟨"KeepHeap", "set", "(IIII)I"⟩ : MethodName)) ∈ tW := tW_mem 109 rfl rfl
theorem k_98 : (Cond.instanceMethod (⟨"KeepHeap", "set", "(IIII)I"⟩ : MethodName)) ∈ tW := tW_mem 110 rfl rfl
theorem k_99 : (Cond.selects "KeepHeap" (⟨"KeepHeap", "set", "(IIII)I"⟩ : MethodName) (⟨"KeepHeap", "set", "(IIII)I"⟩ : MethodName)) ∈ tW := tW_mem 111 rfl rfl
theorem k_100 : (Cond.code (⟨"KeepHeap", "set", "(IIII)I"⟩ : MethodName) prog_1_method_7_code 5 (Option.some FieldType.int)) ∈ tW := tW_mem 112 rfl rfl
theorem k_101 : (Cond.methodLink "KeepHeap" 33 (⟨"KeepHeap", "is", "(II)Z"⟩ : MethodName)) ∈ tW := tW_mem 113 rfl rfl
theorem k_103 : (Cond.instanceMethod (⟨"KeepHeap", "is", "(II)Z"⟩ : MethodName)) ∈ tW := tW_mem 115 rfl rfl
theorem k_104 : (Cond.code (⟨"KeepHeap", "is", "(II)Z"⟩ : MethodName) prog_1_method_2_code 3 (Option.some FieldType.boolean)) ∈ tW := tW_mem 116 rfl rfl
theorem k_105 : (Cond.methodLink "KeepHeap" 45 (⟨"KeepHeap", "isValue", "(II)Z"⟩ : MethodName)) ∈ tW := tW_mem 117 rfl rfl
theorem k_107 : (Cond.instanceMethod (⟨"KeepHeap", "isValue", "(II)Z"⟩ : MethodName)) ∈ tW := tW_mem 119 rfl rfl
theorem k_108 : (Cond.code (⟨"KeepHeap", "isValue", "(II)Z"⟩ : MethodName) prog_1_method_3_code 3 (Option.some FieldType.boolean)) ∈ tW := tW_mem 120 rfl rfl
theorem k_109 : (Cond.methodLink "KeepHeap" 48 (⟨"KeepHeap", "plain", "(II)I"⟩ : MethodName)) ∈ tW := tW_mem 121 rfl rfl
theorem k_110 : (Cond.static (⟨"KeepHeap", "plain", "(II)I"⟩ : MethodName)) ∈ tW := tW_mem 122 rfl rfl
theorem k_111 : (Cond.code (⟨"KeepHeap", "plain", "(II)I"⟩ : MethodName) prog_1_method_4_code 2 (Option.some FieldType.int)) ∈ tW := tW_mem 123 rfl rfl
theorem k_112 : (Cond.methodLink "KeepHeap" 52 (⟨"KeepHeap$State", "setField", "(IIII)Z"⟩ : MethodName)) ∈ tW := tW_mem 124 rfl rfl
theorem k_113 : (Cond.instanceMethod (⟨"KeepHeap$State", "setField", "(IIII)Z"⟩ : MethodName)) ∈ tW := tW_mem 125 rfl rfl
theorem k_114 : (Cond.selects "KeepHeap$State" (⟨"KeepHeap$State", "setField", "(IIII)Z"⟩ : MethodName) (⟨"KeepHeap$State", "setField", "(IIII)Z"⟩ : MethodName)) ∈ tW := tW_mem 126 rfl rfl
theorem k_115 : (Cond.code (⟨"KeepHeap$State", "setField", "(IIII)Z"⟩ : MethodName) prog_2_method_11_code 8 (Option.some FieldType.boolean)) ∈ tW := tW_mem 127 rfl rfl
theorem k_116 : (Cond.methodLink "KeepHeap$State" 59 (⟨"KeepHeap$State", "findField", "(II)I"⟩ : MethodName)) ∈ tW := tW_mem 128 rfl rfl
theorem k_117 : (Cond.instanceMethod (⟨"KeepHeap$State", "findField", "(II)I"⟩ : MethodName)) ∈ tW := tW_mem 129 rfl rfl
theorem k_118 : (Cond.selects "KeepHeap$State" (⟨"KeepHeap$State", "findField", "(II)I"⟩ : MethodName) (⟨"KeepHeap$State", "findField", "(II)I"⟩ : MethodName)) ∈ tW := tW_mem 130 rfl rfl
theorem k_119 : (Cond.code (⟨"KeepHeap$State", "findField", "(II)I"⟩ : MethodName) prog_2_method_9_code 4 (Option.some FieldType.int)) ∈ tW := tW_mem 131 rfl rfl
theorem k_120 : (Cond.methodLink "KeepHeap$State" 63 (⟨"KeepHeap$State", "store", "(IIII)V"⟩ : MethodName)) ∈ tW := tW_mem 132 rfl rfl
theorem k_121 : (Cond.instanceMethod (⟨"KeepHeap$State", "store", "(IIII)V"⟩ : MethodName)) ∈ tW := tW_mem 133 rfl rfl
theorem k_122 : (Cond.selects "KeepHeap$State" (⟨"KeepHeap$State", "store", "(IIII)V"⟩ : MethodName) (⟨"KeepHeap$State", "store", "(IIII)V"⟩ : MethodName)) ∈ tW := tW_mem 134 rfl rfl
theorem k_123 : (Cond.code (⟨"KeepHeap$State", "store", "(IIII)V"⟩ : MethodName) prog_2_method_10_code 5 (Option.none : Option FieldType)) ∈ tW := tW_mem 135 rfl rfl
theorem k_124 : (Cond.methodLink "KeepHeapLaw" 23 (⟨"KeepHeap", "get", "(II)J"⟩ : MethodName)) ∈ tW := tW_mem 136 rfl rfl
theorem k_125 : (Cond.instanceMethod (⟨"KeepHeap", "get", "(II)J"⟩ : MethodName)) ∈ tW := tW_mem 137 rfl rfl
theorem k_126 : (Cond.selects "KeepHeap" (⟨"KeepHeap", "get", "(II)J"⟩ : MethodName) (⟨"KeepHeap", "get", "(II)J"⟩ : MethodName)) ∈ tW := tW_mem 138 rfl rfl
theorem k_127 : (Cond.code (⟨"KeepHeap", "get", "(II)J"⟩ : MethodName) prog_1_method_8_code 4 (Option.some FieldType.long)) ∈ tW := tW_mem 139 rfl rfl
theorem k_128 : (Cond.constantLong "KeepHeap" 59 (-1099511627776 : Int64)) ∈ tW := tW_mem 140 rfl rfl
theorem k_129 : (Cond.methodLink "KeepHeap" 61 (⟨"KeepHeap$State", "findField", "(II)I"⟩ : MethodName)) ∈ tW := tW_mem 141 rfl rfl
theorem k_130 : (Cond.constantLong "KeepHeap" 37 (1099511627776 : Int64)) ∈ tW := tW_mem 142 rfl rfl
theorem k_131 : (Cond.methodLink "KeepHeap" 70 (⟨"KeepHeap", "told", "(II)J"⟩ : MethodName)) ∈ tW := tW_mem 143 rfl rfl
theorem k_132 : (Cond.static (⟨"KeepHeap", "told", "(II)J"⟩ : MethodName)) ∈ tW := tW_mem 144 rfl rfl
theorem k_133 : (Cond.code (⟨"KeepHeap", "told", "(II)J"⟩ : MethodName) prog_1_method_5_code 2 (Option.some FieldType.long)) ∈ tW := tW_mem 145 rfl rfl
theorem k_134 : (Cond.constantLong "KeepHeap" 39 (1099511627777 : Int64)) ∈ tW := tW_mem 146 rfl rfl
theorem k_135 : (Cond.methodLink "KeepHeapLaw" 28 (⟨"KeepHeap", "push", "(III)I"⟩ : MethodName)) ∈ tW := tW_mem 147 rfl rfl
theorem k_136 : (Cond.instanceMethod (⟨"KeepHeap", "push", "(III)I"⟩ : MethodName)) ∈ tW := tW_mem 148 rfl rfl
theorem k_137 : (Cond.selects "KeepHeap" (⟨"KeepHeap", "push", "(III)I"⟩ : MethodName) (⟨"KeepHeap", "push", "(III)I"⟩ : MethodName)) ∈ tW := tW_mem 149 rfl rfl
theorem k_138 : (Cond.code (⟨"KeepHeap", "push", "(III)I"⟩ : MethodName) prog_1_method_9_code 4 (Option.some FieldType.int)) ∈ tW := tW_mem 150 rfl rfl
theorem k_139 : (Cond.methodLink "KeepHeap" 74 (⟨"KeepHeap$State", "store", "(IIII)V"⟩ : MethodName)) ∈ tW := tW_mem 151 rfl rfl
theorem k_140 : (Cond.methodLink "KeepHeapLaw" 33 (⟨"KeepHeap", "pop", "(I)J"⟩ : MethodName)) ∈ tW := tW_mem 152 rfl rfl
theorem k_141 : (Cond.instanceMethod (⟨"KeepHeap", "pop", "(I)J"⟩ : MethodName)) ∈ tW := tW_mem 153 rfl rfl
theorem k_142 : (Cond.selects "KeepHeap" (⟨"KeepHeap", "pop", "(I)J"⟩ : MethodName) (⟨"KeepHeap", "pop", "(I)J"⟩ : MethodName)) ∈ tW := tW_mem 154 rfl rfl
theorem k_143 : (Cond.code (⟨"KeepHeap", "pop", "(I)J"⟩ : MethodName) prog_1_method_11_code 3 (Option.some FieldType.long)) ∈ tW := tW_mem 155 rfl rfl
theorem k_144 : (Cond.methodLink "KeepHeapLaw" 38 (⟨"KeepHeap", "put", "(IIII)I"⟩ : MethodName)) ∈ tW := tW_mem 156 rfl rfl
theorem k_145 : (Cond.instanceMethod (⟨"KeepHeap", "put", "(IIII)I"⟩ : MethodName)) ∈ tW := tW_mem 157 rfl rfl
theorem k_146 : (Cond.selects "KeepHeap" (⟨"KeepHeap", "put", "(IIII)I"⟩ : MethodName) (⟨"KeepHeap", "put", "(IIII)I"⟩ : MethodName)) ∈ tW := tW_mem 158 rfl rfl
theorem k_147 : (Cond.code (⟨"KeepHeap", "put", "(IIII)I"⟩ : MethodName) prog_1_method_12_code 5 (Option.some FieldType.int)) ∈ tW := tW_mem 159 rfl rfl
theorem k_148 : (Cond.methodLink "KeepHeap" 78 (⟨"KeepHeap", "isItem", "(II)Z"⟩ : MethodName)) ∈ tW := tW_mem 160 rfl rfl
theorem k_150 : (Cond.instanceMethod (⟨"KeepHeap", "isItem", "(II)Z"⟩ : MethodName)) ∈ tW := tW_mem 162 rfl rfl
theorem k_151 : (Cond.code (⟨"KeepHeap", "isItem", "(II)Z"⟩ : MethodName) prog_1_method_10_code 3 (Option.some FieldType.boolean)) ∈ tW := tW_mem 163 rfl rfl
theorem k_152 : (Cond.methodLink "KeepHeapLaw" 42 (⟨"KeepHeap", "item", "(II)J"⟩ : MethodName)) ∈ tW := tW_mem 164 rfl rfl
theorem k_153 : (Cond.instanceMethod (⟨"KeepHeap", "item", "(II)J"⟩ : MethodName)) ∈ tW := tW_mem 165 rfl rfl
theorem k_154 : (Cond.selects "KeepHeap" (⟨"KeepHeap", "item", "(II)J"⟩ : MethodName) (⟨"KeepHeap", "item", "(II)J"⟩ : MethodName)) ∈ tW := tW_mem 166 rfl rfl
theorem k_155 : (Cond.code (⟨"KeepHeap", "item", "(II)J"⟩ : MethodName) prog_1_method_13_code 4 (Option.some FieldType.long)) ∈ tW := tW_mem 167 rfl rfl
theorem k_156 : (Cond.methodLink "KeepHeapLaw" 46 (⟨"KeepHeap", "root", "(III)I"⟩ : MethodName)) ∈ tW := tW_mem 168 rfl rfl
theorem k_157 : (Cond.instanceMethod (⟨"KeepHeap", "root", "(III)I"⟩ : MethodName)) ∈ tW := tW_mem 169 rfl rfl
theorem k_158 : (Cond.selects "KeepHeap" (⟨"KeepHeap", "root", "(III)I"⟩ : MethodName) (⟨"KeepHeap", "root", "(III)I"⟩ : MethodName)) ∈ tW := tW_mem 170 rfl rfl
theorem k_159 : (Cond.code (⟨"KeepHeap", "root", "(III)I"⟩ : MethodName) prog_1_method_14_code 4 (Option.some FieldType.int)) ∈ tW := tW_mem 171 rfl rfl
theorem k_160 : (Cond.methodLink "KeepHeap" 81 (⟨"KeepHeap$State", "setRoot", "(III)Z"⟩ : MethodName)) ∈ tW := tW_mem 172 rfl rfl
theorem k_161 : (Cond.instanceMethod (⟨"KeepHeap$State", "setRoot", "(III)Z"⟩ : MethodName)) ∈ tW := tW_mem 173 rfl rfl
theorem k_162 : (Cond.selects "KeepHeap$State" (⟨"KeepHeap$State", "setRoot", "(III)Z"⟩ : MethodName) (⟨"KeepHeap$State", "setRoot", "(III)Z"⟩ : MethodName)) ∈ tW := tW_mem 174 rfl rfl
theorem k_163 : (Cond.code (⟨"KeepHeap$State", "setRoot", "(III)Z"⟩ : MethodName) prog_2_method_12_code 5 (Option.some FieldType.boolean)) ∈ tW := tW_mem 175 rfl rfl
theorem k_164 : (Cond.methodLink "KeepHeap$State" 47 (⟨"KeepHeap$State", "findRoot", "(I)I"⟩ : MethodName)) ∈ tW := tW_mem 176 rfl rfl
theorem k_165 : (Cond.instanceMethod (⟨"KeepHeap$State", "findRoot", "(I)I"⟩ : MethodName)) ∈ tW := tW_mem 177 rfl rfl
theorem k_166 : (Cond.selects "KeepHeap$State" (⟨"KeepHeap$State", "findRoot", "(I)I"⟩ : MethodName) (⟨"KeepHeap$State", "findRoot", "(I)I"⟩ : MethodName)) ∈ tW := tW_mem 178 rfl rfl
theorem k_167 : (Cond.code (⟨"KeepHeap$State", "findRoot", "(I)I"⟩ : MethodName) prog_2_method_4_code 3 (Option.some FieldType.int)) ∈ tW := tW_mem 179 rfl rfl
theorem k_168 : (Cond.methodLink "KeepHeapLaw" 50 (⟨"KeepHeap", "rooted", "(I)J"⟩ : MethodName)) ∈ tW := tW_mem 180 rfl rfl
theorem k_169 : (Cond.instanceMethod (⟨"KeepHeap", "rooted", "(I)J"⟩ : MethodName)) ∈ tW := tW_mem 181 rfl rfl
theorem k_170 : (Cond.selects "KeepHeap" (⟨"KeepHeap", "rooted", "(I)J"⟩ : MethodName) (⟨"KeepHeap", "rooted", "(I)J"⟩ : MethodName)) ∈ tW := tW_mem 182 rfl rfl
theorem k_171 : (Cond.code (⟨"KeepHeap", "rooted", "(I)J"⟩ : MethodName) prog_1_method_15_code 3 (Option.some FieldType.long)) ∈ tW := tW_mem 183 rfl rfl
theorem k_172 : (Cond.methodLink "KeepHeap" 89 (⟨"KeepHeap$State", "findRoot", "(I)I"⟩ : MethodName)) ∈ tW := tW_mem 184 rfl rfl
theorem k_173 : (Cond.methodLink "KeepHeapLaw" 54 (⟨"KeepHeap", "commit", "()I"⟩ : MethodName)) ∈ tW := tW_mem 185 rfl rfl
theorem k_174 : (Cond.instanceMethod (⟨"KeepHeap", "commit", "()I"⟩ : MethodName)) ∈ tW := tW_mem 186 rfl rfl
theorem k_175 : (Cond.selects "KeepHeap" (⟨"KeepHeap", "commit", "()I"⟩ : MethodName) (⟨"KeepHeap", "commit", "()I"⟩ : MethodName)) ∈ tW := tW_mem 187 rfl rfl
theorem k_176 : (Cond.code (⟨"KeepHeap", "commit", "()I"⟩ : MethodName) prog_1_method_17_code 2 (Option.some FieldType.int)) ∈ tW := tW_mem 188 rfl rfl
theorem k_177 : (Cond.methodLink "KeepHeap" 109 (⟨"KeepHeap$State", "changes", "(LKeepHeap$State;)I"⟩ : MethodName)) ∈ tW := tW_mem 189 rfl rfl
theorem k_178 : (Cond.instanceMethod (⟨"KeepHeap$State", "changes", "(LKeepHeap$State;)I"⟩ : MethodName)) ∈ tW := tW_mem 190 rfl rfl
theorem k_179 : (Cond.selects "KeepHeap$State" (⟨"KeepHeap$State", "changes", "(LKeepHeap$State;)I"⟩ : MethodName) (⟨"KeepHeap$State", "changes", "(LKeepHeap$State;)I"⟩ : MethodName)) ∈ tW := tW_mem 191 rfl rfl
theorem k_180 : (Cond.code (⟨"KeepHeap$State", "changes", "(LKeepHeap$State;)I"⟩ : MethodName) prog_2_method_6_code 4 (Option.some FieldType.int)) ∈ tW := tW_mem 192 rfl rfl
theorem k_181 : (Cond.methodLink "KeepHeap$State" 51 (⟨"KeepHeap$State", "rootsChanged", "(LKeepHeap$State;)I"⟩ : MethodName)) ∈ tW := tW_mem 193 rfl rfl
theorem k_183 : (Cond.instanceMethod (⟨"KeepHeap$State", "rootsChanged", "(LKeepHeap$State;)I"⟩ : MethodName)) ∈ tW := tW_mem 195 rfl rfl
theorem k_184 : (Cond.code (⟨"KeepHeap$State", "rootsChanged", "(LKeepHeap$State;)I"⟩ : MethodName) prog_2_method_5_code 5 (Option.some FieldType.int)) ∈ tW := tW_mem 196 rfl rfl
theorem k_185 : (Cond.methodLink "KeepHeap$State" 55 (⟨"KeepHeap$State", "sameObject", "(LKeepHeap$State;I)Z"⟩ : MethodName)) ∈ tW := tW_mem 197 rfl rfl
theorem k_187 : (Cond.instanceMethod (⟨"KeepHeap$State", "sameObject", "(LKeepHeap$State;I)Z"⟩ : MethodName)) ∈ tW := tW_mem 199 rfl rfl
theorem k_188 : (Cond.code (⟨"KeepHeap$State", "sameObject", "(LKeepHeap$State;I)Z"⟩ : MethodName) prog_2_method_3_code 4 (Option.some FieldType.boolean)) ∈ tW := tW_mem 200 rfl rfl
theorem k_189 : (Cond.methodLink "KeepHeap" 113 (⟨"KeepHeap", "write", "(I)V"⟩ : MethodName)) ∈ tW := tW_mem 201 rfl rfl
theorem k_191 : (Cond.instanceMethod (⟨"KeepHeap", "write", "(I)V"⟩ : MethodName)) ∈ tW := tW_mem 203 rfl rfl
theorem k_192 : (Cond.code (⟨"KeepHeap", "write", "(I)V"⟩ : MethodName) prog_1_method_16_code 4 (Option.none : Option FieldType)) ∈ tW := tW_mem 204 rfl rfl
theorem k_193 : (Cond.methodLink "KeepHeap" 101 (⟨"KeepHeap$State", "copy", "(LKeepHeap$State;)V"⟩ : MethodName)) ∈ tW := tW_mem 205 rfl rfl
theorem k_194 : (Cond.instanceMethod (⟨"KeepHeap$State", "copy", "(LKeepHeap$State;)V"⟩ : MethodName)) ∈ tW := tW_mem 206 rfl rfl
theorem k_195 : (Cond.selects "KeepHeap$State" (⟨"KeepHeap$State", "copy", "(LKeepHeap$State;)V"⟩ : MethodName) (⟨"KeepHeap$State", "copy", "(LKeepHeap$State;)V"⟩ : MethodName)) ∈ tW := tW_mem 207 rfl rfl
theorem k_196 : (Cond.code (⟨"KeepHeap$State", "copy", "(LKeepHeap$State;)V"⟩ : MethodName) prog_2_method_2_code 4 (Option.none : Option FieldType)) ∈ tW := tW_mem 208 rfl rfl
theorem k_197 : (Cond.methodLink "KeepHeapLaw" 59 (⟨"KeepHeap", "undo", "()I"⟩ : MethodName)) ∈ tW := tW_mem 209 rfl rfl
theorem k_198 : (Cond.instanceMethod (⟨"KeepHeap", "undo", "()I"⟩ : MethodName)) ∈ tW := tW_mem 210 rfl rfl
theorem k_199 : (Cond.selects "KeepHeap" (⟨"KeepHeap", "undo", "()I"⟩ : MethodName) (⟨"KeepHeap", "undo", "()I"⟩ : MethodName)) ∈ tW := tW_mem 211 rfl rfl
theorem k_200 : (Cond.code (⟨"KeepHeap", "undo", "()I"⟩ : MethodName) prog_1_method_18_code 2 (Option.some FieldType.int)) ∈ tW := tW_mem 212 rfl rfl
theorem k_201 : (Cond.methodLink "KeepHeapLaw" 63 (⟨"KeepHeap", "sweep", "()I"⟩ : MethodName)) ∈ tW := tW_mem 213 rfl rfl
theorem k_202 : (Cond.instanceMethod (⟨"KeepHeap", "sweep", "()I"⟩ : MethodName)) ∈ tW := tW_mem 214 rfl rfl
theorem k_203 : (Cond.selects "KeepHeap" (⟨"KeepHeap", "sweep", "()I"⟩ : MethodName) (⟨"KeepHeap", "sweep", "()I"⟩ : MethodName)) ∈ tW := tW_mem 215 rfl rfl
theorem k_204 : (Cond.code (⟨"KeepHeap", "sweep", "()I"⟩ : MethodName) prog_1_method_19_code 2 (Option.some FieldType.int)) ∈ tW := tW_mem 216 rfl rfl
theorem k_205 : (Cond.methodLink "KeepHeap" 117 (⟨"KeepHeap$State", "sweep", "()I"⟩ : MethodName)) ∈ tW := tW_mem 217 rfl rfl
theorem k_206 : (Cond.instanceMethod (⟨"KeepHeap$State", "sweep", "()I"⟩ : MethodName)) ∈ tW := tW_mem 218 rfl rfl
theorem k_207 : (Cond.selects "KeepHeap$State" (⟨"KeepHeap$State", "sweep", "()I"⟩ : MethodName) (⟨"KeepHeap$State", "sweep", "()I"⟩ : MethodName)) ∈ tW := tW_mem 219 rfl rfl
theorem k_208 : (Cond.code (⟨"KeepHeap$State", "sweep", "()I"⟩ : MethodName) prog_2_method_14_code 3 (Option.some FieldType.int)) ∈ tW := tW_mem 220 rfl rfl
theorem k_209 : (Cond.methodLink "KeepHeap$State" 70 (⟨"KeepHeap$State", "reach", "(II)V"⟩ : MethodName)) ∈ tW := tW_mem 221 rfl rfl
theorem k_211 : (Cond.instanceMethod (⟨"KeepHeap$State", "reach", "(II)V"⟩ : MethodName)) ∈ tW := tW_mem 223 rfl rfl
theorem k_212 : (Cond.code (⟨"KeepHeap$State", "reach", "(II)V"⟩ : MethodName) prog_2_method_13_code 3 (Option.none : Option FieldType)) ∈ tW := tW_mem 224 rfl rfl
theorem k_213 : (Cond.methodLink "KeepHeapLaw" 67 (⟨"KeepHeap", "sync", "()I"⟩ : MethodName)) ∈ tW := tW_mem 225 rfl rfl
theorem k_214 : (Cond.instanceMethod (⟨"KeepHeap", "sync", "()I"⟩ : MethodName)) ∈ tW := tW_mem 226 rfl rfl
theorem k_215 : (Cond.selects "KeepHeap" (⟨"KeepHeap", "sync", "()I"⟩ : MethodName) (⟨"KeepHeap", "sync", "()I"⟩ : MethodName)) ∈ tW := tW_mem 227 rfl rfl
theorem k_216 : (Cond.code (⟨"KeepHeap", "sync", "()I"⟩ : MethodName) prog_1_method_20_code 2 (Option.some FieldType.int)) ∈ tW := tW_mem 228 rfl rfl
theorem k_217 : (Cond.methodLink "KeepHeapLaw" 71 (⟨"KeepHeap", "crash", "(I)I"⟩ : MethodName)) ∈ tW := tW_mem 229 rfl rfl
theorem k_218 : (Cond.instanceMethod (⟨"KeepHeap", "crash", "(I)I"⟩ : MethodName)) ∈ tW := tW_mem 230 rfl rfl
theorem k_219 : (Cond.selects "KeepHeap" (⟨"KeepHeap", "crash", "(I)I"⟩ : MethodName) (⟨"KeepHeap", "crash", "(I)I"⟩ : MethodName)) ∈ tW := tW_mem 231 rfl rfl
theorem k_220 : (Cond.code (⟨"KeepHeap", "crash", "(I)I"⟩ : MethodName) prog_1_method_21_code 5 (Option.some FieldType.int)) ∈ tW := tW_mem 232 rfl rfl
theorem k_221 : (Cond.methodLink "KeepHeapLaw" 76 (⟨"KeepHeap", "kind", "(I)I"⟩ : MethodName)) ∈ tW := tW_mem 233 rfl rfl
theorem k_222 : (Cond.instanceMethod (⟨"KeepHeap", "kind", "(I)I"⟩ : MethodName)) ∈ tW := tW_mem 234 rfl rfl
theorem k_223 : (Cond.selects "KeepHeap" (⟨"KeepHeap", "kind", "(I)I"⟩ : MethodName) (⟨"KeepHeap", "kind", "(I)I"⟩ : MethodName)) ∈ tW := tW_mem 235 rfl rfl
theorem k_224 : (Cond.code (⟨"KeepHeap", "kind", "(I)I"⟩ : MethodName) prog_1_method_22_code 2 (Option.some FieldType.int)) ∈ tW := tW_mem 236 rfl rfl
theorem k_225 : (Cond.methodLink "KeepHeapLaw" 80 (⟨"KeepHeap", "size", "(I)I"⟩ : MethodName)) ∈ tW := tW_mem 237 rfl rfl
theorem k_226 : (Cond.instanceMethod (⟨"KeepHeap", "size", "(I)I"⟩ : MethodName)) ∈ tW := tW_mem 238 rfl rfl
theorem k_227 : (Cond.selects "KeepHeap" (⟨"KeepHeap", "size", "(I)I"⟩ : MethodName) (⟨"KeepHeap", "size", "(I)I"⟩ : MethodName)) ∈ tW := tW_mem 239 rfl rfl
theorem k_228 : (Cond.code (⟨"KeepHeap", "size", "(I)I"⟩ : MethodName) prog_1_method_23_code 2 (Option.some FieldType.int)) ∈ tW := tW_mem 240 rfl rfl
theorem k_229 : (Cond.methodLink "KeepHeapLaw" 84 (⟨"KeepHeap", "count", "(I)I"⟩ : MethodName)) ∈ tW := tW_mem 241 rfl rfl
theorem k_230 : (Cond.instanceMethod (⟨"KeepHeap", "count", "(I)I"⟩ : MethodName)) ∈ tW := tW_mem 242 rfl rfl
theorem k_231 : (Cond.selects "KeepHeap" (⟨"KeepHeap", "count", "(I)I"⟩ : MethodName) (⟨"KeepHeap", "count", "(I)I"⟩ : MethodName)) ∈ tW := tW_mem 243 rfl rfl
theorem k_232 : (Cond.code (⟨"KeepHeap", "count", "(I)I"⟩ : MethodName) prog_1_method_24_code 2 (Option.some FieldType.int)) ∈ tW := tW_mem 244 rfl rfl
theorem k_233 : (Cond.methodLink "KeepHeap" 121 (⟨"KeepHeap$State", "objects", "()I"⟩ : MethodName)) ∈ tW := tW_mem 245 rfl rfl
theorem k_234 : (Cond.instanceMethod (⟨"KeepHeap$State", "objects", "()I"⟩ : MethodName)) ∈ tW := tW_mem 246 rfl rfl
theorem k_235 : (Cond.selects "KeepHeap$State" (⟨"KeepHeap$State", "objects", "()I"⟩ : MethodName) (⟨"KeepHeap$State", "objects", "()I"⟩ : MethodName)) ∈ tW := tW_mem 247 rfl rfl
theorem k_236 : (Cond.code (⟨"KeepHeap$State", "objects", "()I"⟩ : MethodName) prog_2_method_7_code 3 (Option.some FieldType.int)) ∈ tW := tW_mem 248 rfl rfl
theorem k_237 : (Cond.classLink "KeepHeapLaw" 10 "KeepHeapModel") ∈ tW := tW_mem 249 rfl rfl
theorem k_238 : (Cond.instantiable "KeepHeapModel" 8) ∈ tW := tW_mem 250 rfl rfl
theorem k_239 : (Cond.methodLink "KeepHeapLaw" 12 (⟨"KeepHeapModel", "<init>", "()V"⟩ : MethodName)) ∈ tW := tW_mem 251 rfl rfl
theorem k_240 : (Cond.instanceMethod (⟨"KeepHeapModel", "<init>", "()V"⟩ : MethodName)) ∈ tW := tW_mem 252 rfl rfl
theorem k_241 : (Cond.code (⟨"KeepHeapModel", "<init>", "()V"⟩ : MethodName) prog_4_method_2_code 2 (Option.none : Option FieldType)) ∈ tW := tW_mem 253 rfl rfl
theorem k_242 : (Cond.methodLink "KeepHeapModel" 1 (⟨"java/lang/Object", "<init>", "()V"⟩ : MethodName)) ∈ tW := tW_mem 254 rfl rfl
theorem k_243 : (Cond.classLink "KeepHeapModel" 7 "KeepHeapModel$State") ∈ tW := tW_mem 255 rfl rfl
theorem k_244 : (Cond.instantiable "KeepHeapModel$State" 8) ∈ tW := tW_mem 256 rfl rfl
theorem k_246 : (Cond.instanceMethod (⟨"KeepHeapModel$State", "<init>", "()V"⟩ : MethodName)) ∈ tW := tW_mem 258 rfl rfl
theorem k_247 : (Cond.code (⟨"KeepHeapModel$State", "<init>", "()V"⟩ : MethodName) prog_5_method_1_code 1 (Option.none : Option FieldType)) ∈ tW := tW_mem 259 rfl rfl
theorem k_248 : (Cond.methodLink "KeepHeapModel$State" 3 (⟨"java/lang/Object", "<init>", "()V"⟩ : MethodName)) ∈ tW := tW_mem 260 rfl rfl
theorem k_249 : (Cond.fieldLink "KeepHeapModel$State" 9 "KeepHeapModel$State" "kind" "[I") ∈ tW := tW_mem 261 rfl rfl
theorem k_250 : (Cond.fieldLink "KeepHeapModel" 40 "KeepHeapModel$State" "kind" "[I") ∈ tW := tW_mem 262 rfl rfl
theorem k_251 : (Cond.fieldLink "KeepHeapModel$State" 15 "KeepHeapModel$State" "size" "[I") ∈ tW := tW_mem 263 rfl rfl
theorem k_252 : (Cond.fieldLink "KeepHeapModel" 51 "KeepHeapModel$State" "size" "[I") ∈ tW := tW_mem 264 rfl rfl
theorem k_253 : (Cond.fieldLink "KeepHeapModel$State" 18 "KeepHeapModel$State" "name" "[I") ∈ tW := tW_mem 265 rfl rfl
theorem k_254 : (Cond.fieldLink "KeepHeapModel" 65 "KeepHeapModel$State" "name" "[I") ∈ tW := tW_mem 266 rfl rfl
theorem k_255 : (Cond.fieldLink "KeepHeapModel$State" 21 "KeepHeapModel$State" "root" "[I") ∈ tW := tW_mem 267 rfl rfl
theorem k_256 : (Cond.fieldLink "KeepHeapModel" 86 "KeepHeapModel$State" "root" "[I") ∈ tW := tW_mem 268 rfl rfl
theorem k_257 : (Cond.fieldLink "KeepHeapModel$State" 24 "KeepHeapModel$State" "slot" "[J") ∈ tW := tW_mem 269 rfl rfl
theorem k_258 : (Cond.fieldLink "KeepHeapModel" 68 "KeepHeapModel$State" "slot" "[J") ∈ tW := tW_mem 270 rfl rfl
theorem k_259 : (Cond.fieldLink "KeepHeapModel$State" 28 "KeepHeapModel$State" "value" "[J") ∈ tW := tW_mem 271 rfl rfl
theorem k_260 : (Cond.fieldLink "KeepHeapModel" 89 "KeepHeapModel$State" "value" "[J") ∈ tW := tW_mem 272 rfl rfl
theorem k_261 : (Cond.fieldLink "KeepHeapModel$State" 37 "KeepHeapModel$State" "roots" "I") ∈ tW := tW_mem 273 rfl rfl
theorem k_262 : (Cond.fieldLink "KeepHeapModel" 82 "KeepHeapModel$State" "roots" "I") ∈ tW := tW_mem 274 rfl rfl
theorem k_263 : (Cond.fieldLink "KeepHeapModel" 101 "KeepHeapModel$State" "bytes" "I") ∈ tW := tW_mem 275 rfl rfl
theorem k_281 : (Cond.arrayClass FieldType.long) ∈ tW := tW_mem 293 rfl rfl
theorem k_283 : (Cond.fieldLink "KeepHeapModel" 10 "KeepHeapModel" "now" "LKeepHeapModel$State;") ∈ tW := tW_mem 295 rfl rfl
theorem k_284 : (Cond.fieldLink "KeepHeapModel" 16 "KeepHeapModel" "kept" "LKeepHeapModel$State;") ∈ tW := tW_mem 296 rfl rfl
theorem k_285 : (Cond.fieldLink "KeepHeapModel" 19 "KeepHeapModel" "safe" "LKeepHeapModel$State;") ∈ tW := tW_mem 297 rfl rfl
theorem k_286 : (Cond.fieldLink "KeepHeapModel" 22 "KeepHeapModel" "waiting" "[LKeepHeapModel$State;") ∈ tW := tW_mem 298 rfl rfl
theorem k_287 : (Cond.fieldLink "KeepHeapModel" 98 "KeepHeapModel" "waits" "I") ∈ tW := tW_mem 299 rfl rfl
theorem k_288 : (Cond.fieldLink "KeepHeapModel" 95 "KeepHeapModel" "logged" "I") ∈ tW := tW_mem 300 rfl rfl
theorem k_289 : (Cond.fieldLink "KeepHeapModel" 26 "KeepHeapModel" "reached" "[Z") ∈ tW := tW_mem 301 rfl rfl
theorem k_290 : (Cond.fieldLink "KeepHeapModel" 30 "KeepHeapModel" "path" "[I") ∈ tW := tW_mem 302 rfl rfl
theorem k_308 : (Cond.methodLink "KeepHeapLaw" 17 (⟨"KeepHeapModel", "make", "(Z)I"⟩ : MethodName)) ∈ tW := tW_mem 320 rfl rfl
theorem k_309 : (Cond.instanceMethod (⟨"KeepHeapModel", "make", "(Z)I"⟩ : MethodName)) ∈ tW := tW_mem 321 rfl rfl
theorem k_310 : (Cond.selects "KeepHeapModel" (⟨"KeepHeapModel", "make", "(Z)I"⟩ : MethodName) (⟨"KeepHeapModel", "make", "(Z)I"⟩ : MethodName)) ∈ tW := tW_mem 322 rfl rfl
theorem k_311 : (Cond.code (⟨"KeepHeapModel", "make", "(Z)I"⟩ : MethodName) prog_4_method_7_code 3 (Option.some FieldType.int)) ∈ tW := tW_mem 323 rfl rfl
theorem k_312 : (Cond.methodLink "KeepHeapLaw" 22 (⟨"KeepHeapModel", "set", "(IIII)I"⟩ : MethodName)) ∈ tW := tW_mem 324 rfl rfl
theorem k_313 : (Cond.instanceMethod (⟨"KeepHeapModel", "set", "(IIII)I"⟩ : MethodName)) ∈ tW := tW_mem 325 rfl rfl
theorem k_314 : (Cond.selects "KeepHeapModel" (⟨"KeepHeapModel", "set", "(IIII)I"⟩ : MethodName) (⟨"KeepHeapModel", "set", "(IIII)I"⟩ : MethodName)) ∈ tW := tW_mem 326 rfl rfl
theorem k_315 : (Cond.code (⟨"KeepHeapModel", "set", "(IIII)I"⟩ : MethodName) prog_4_method_8_code 9 (Option.some FieldType.int)) ∈ tW := tW_mem 327 rfl rfl
theorem k_316 : (Cond.methodLink "KeepHeapModel" 54 (⟨"KeepHeapModel", "is", "(II)Z"⟩ : MethodName)) ∈ tW := tW_mem 328 rfl rfl
theorem k_318 : (Cond.instanceMethod (⟨"KeepHeapModel", "is", "(II)Z"⟩ : MethodName)) ∈ tW := tW_mem 330 rfl rfl
theorem k_319 : (Cond.code (⟨"KeepHeapModel", "is", "(II)Z"⟩ : MethodName) prog_4_method_3_code 3 (Option.some FieldType.boolean)) ∈ tW := tW_mem 331 rfl rfl
theorem k_320 : (Cond.constantLong "KeepHeapModel" 34 (99 : Int64)) ∈ tW := tW_mem 332 rfl rfl
theorem k_321 : (Cond.methodLink "KeepHeapModel" 36 (⟨"KeepHeapModel", "in", "(JJJ)Z"⟩ : MethodName)) ∈ tW := tW_mem 333 rfl rfl
theorem k_322 : (Cond.static (⟨"KeepHeapModel", "in", "(JJJ)Z"⟩ : MethodName)) ∈ tW := tW_mem 334 rfl rfl
theorem k_323 : (Cond.code (⟨"KeepHeapModel", "in", "(JJJ)Z"⟩ : MethodName) prog_4_method_1_code 6 (Option.some FieldType.boolean)) ∈ tW := tW_mem 335 rfl rfl
theorem k_324 : (Cond.methodLink "KeepHeapModel" 58 (⟨"KeepHeapModel", "isValue", "(II)Z"⟩ : MethodName)) ∈ tW := tW_mem 336 rfl rfl
theorem k_326 : (Cond.instanceMethod (⟨"KeepHeapModel", "isValue", "(II)Z"⟩ : MethodName)) ∈ tW := tW_mem 338 rfl rfl
theorem k_327 : (Cond.code (⟨"KeepHeapModel", "isValue", "(II)Z"⟩ : MethodName) prog_4_method_5_code 3 (Option.some FieldType.boolean)) ∈ tW := tW_mem 339 rfl rfl
theorem k_328 : (Cond.methodLink "KeepHeapModel" 43 (⟨"KeepHeapModel", "isThere", "(I)Z"⟩ : MethodName)) ∈ tW := tW_mem 340 rfl rfl
theorem k_330 : (Cond.instanceMethod (⟨"KeepHeapModel", "isThere", "(I)Z"⟩ : MethodName)) ∈ tW := tW_mem 342 rfl rfl
theorem k_331 : (Cond.code (⟨"KeepHeapModel", "isThere", "(I)Z"⟩ : MethodName) prog_4_method_4_code 2 (Option.some FieldType.boolean)) ∈ tW := tW_mem 343 rfl rfl
theorem k_332 : (Cond.methodLink "KeepHeapModel" 61 (⟨"KeepHeapModel$State", "findField", "(II)I"⟩ : MethodName)) ∈ tW := tW_mem 344 rfl rfl
theorem k_333 : (Cond.instanceMethod (⟨"KeepHeapModel$State", "findField", "(II)I"⟩ : MethodName)) ∈ tW := tW_mem 345 rfl rfl
theorem k_334 : (Cond.selects "KeepHeapModel$State" (⟨"KeepHeapModel$State", "findField", "(II)I"⟩ : MethodName) (⟨"KeepHeapModel$State", "findField", "(II)I"⟩ : MethodName)) ∈ tW := tW_mem 346 rfl rfl
theorem k_335 : (Cond.code (⟨"KeepHeapModel$State", "findField", "(II)I"⟩ : MethodName) prog_5_method_4_code 4 (Option.some FieldType.int)) ∈ tW := tW_mem 347 rfl rfl
theorem k_336 : (Cond.methodLink "KeepHeapModel" 72 (⟨"KeepHeapModel", "value", "(II)J"⟩ : MethodName)) ∈ tW := tW_mem 348 rfl rfl
theorem k_337 : (Cond.static (⟨"KeepHeapModel", "value", "(II)J"⟩ : MethodName)) ∈ tW := tW_mem 349 rfl rfl
theorem k_338 : (Cond.code (⟨"KeepHeapModel", "value", "(II)J"⟩ : MethodName) prog_4_method_6_code 2 (Option.some FieldType.long)) ∈ tW := tW_mem 350 rfl rfl
theorem k_339 : (Cond.constantLong "KeepHeapModel" 47 (1099511627776 : Int64)) ∈ tW := tW_mem 351 rfl rfl
theorem k_340 : (Cond.constantLong "KeepHeapModel" 49 (1099511627777 : Int64)) ∈ tW := tW_mem 352 rfl rfl
theorem k_341 : (Cond.methodLink "KeepHeapLaw" 27 (⟨"KeepHeapModel", "get", "(II)J"⟩ : MethodName)) ∈ tW := tW_mem 353 rfl rfl
theorem k_342 : (Cond.instanceMethod (⟨"KeepHeapModel", "get", "(II)J"⟩ : MethodName)) ∈ tW := tW_mem 354 rfl rfl
theorem k_343 : (Cond.selects "KeepHeapModel" (⟨"KeepHeapModel", "get", "(II)J"⟩ : MethodName) (⟨"KeepHeapModel", "get", "(II)J"⟩ : MethodName)) ∈ tW := tW_mem 355 rfl rfl
theorem k_344 : (Cond.code (⟨"KeepHeapModel", "get", "(II)J"⟩ : MethodName) prog_4_method_9_code 4 (Option.some FieldType.long)) ∈ tW := tW_mem 356 rfl rfl
theorem k_345 : (Cond.constantLong "KeepHeapModel" 76 (-1099511627776 : Int64)) ∈ tW := tW_mem 357 rfl rfl
theorem k_346 : (Cond.methodLink "KeepHeapLaw" 32 (⟨"KeepHeapModel", "push", "(III)I"⟩ : MethodName)) ∈ tW := tW_mem 358 rfl rfl
theorem k_347 : (Cond.instanceMethod (⟨"KeepHeapModel", "push", "(III)I"⟩ : MethodName)) ∈ tW := tW_mem 359 rfl rfl
theorem k_348 : (Cond.selects "KeepHeapModel" (⟨"KeepHeapModel", "push", "(III)I"⟩ : MethodName) (⟨"KeepHeapModel", "push", "(III)I"⟩ : MethodName)) ∈ tW := tW_mem 360 rfl rfl
theorem k_349 : (Cond.code (⟨"KeepHeapModel", "push", "(III)I"⟩ : MethodName) prog_4_method_10_code 4 (Option.some FieldType.int)) ∈ tW := tW_mem 361 rfl rfl
theorem k_350 : (Cond.methodLink "KeepHeapLaw" 37 (⟨"KeepHeapModel", "pop", "(I)J"⟩ : MethodName)) ∈ tW := tW_mem 362 rfl rfl
theorem k_351 : (Cond.instanceMethod (⟨"KeepHeapModel", "pop", "(I)J"⟩ : MethodName)) ∈ tW := tW_mem 363 rfl rfl
theorem k_352 : (Cond.selects "KeepHeapModel" (⟨"KeepHeapModel", "pop", "(I)J"⟩ : MethodName) (⟨"KeepHeapModel", "pop", "(I)J"⟩ : MethodName)) ∈ tW := tW_mem 364 rfl rfl
theorem k_353 : (Cond.code (⟨"KeepHeapModel", "pop", "(I)J"⟩ : MethodName) prog_4_method_11_code 2 (Option.some FieldType.long)) ∈ tW := tW_mem 365 rfl rfl
theorem k_354 : (Cond.methodLink "KeepHeapLaw" 41 (⟨"KeepHeapModel", "put", "(IIII)I"⟩ : MethodName)) ∈ tW := tW_mem 366 rfl rfl
theorem k_355 : (Cond.instanceMethod (⟨"KeepHeapModel", "put", "(IIII)I"⟩ : MethodName)) ∈ tW := tW_mem 367 rfl rfl
theorem k_356 : (Cond.selects "KeepHeapModel" (⟨"KeepHeapModel", "put", "(IIII)I"⟩ : MethodName) (⟨"KeepHeapModel", "put", "(IIII)I"⟩ : MethodName)) ∈ tW := tW_mem 368 rfl rfl
theorem k_357 : (Cond.code (⟨"KeepHeapModel", "put", "(IIII)I"⟩ : MethodName) prog_4_method_12_code 5 (Option.some FieldType.int)) ∈ tW := tW_mem 369 rfl rfl
theorem k_358 : (Cond.methodLink "KeepHeapLaw" 45 (⟨"KeepHeapModel", "item", "(II)J"⟩ : MethodName)) ∈ tW := tW_mem 370 rfl rfl
theorem k_359 : (Cond.instanceMethod (⟨"KeepHeapModel", "item", "(II)J"⟩ : MethodName)) ∈ tW := tW_mem 371 rfl rfl
theorem k_360 : (Cond.selects "KeepHeapModel" (⟨"KeepHeapModel", "item", "(II)J"⟩ : MethodName) (⟨"KeepHeapModel", "item", "(II)J"⟩ : MethodName)) ∈ tW := tW_mem 372 rfl rfl
theorem k_361 : (Cond.code (⟨"KeepHeapModel", "item", "(II)J"⟩ : MethodName) prog_4_method_13_code 3 (Option.some FieldType.long)) ∈ tW := tW_mem 373 rfl rfl
theorem k_362 : (Cond.methodLink "KeepHeapLaw" 49 (⟨"KeepHeapModel", "root", "(III)I"⟩ : MethodName)) ∈ tW := tW_mem 374 rfl rfl
theorem k_363 : (Cond.instanceMethod (⟨"KeepHeapModel", "root", "(III)I"⟩ : MethodName)) ∈ tW := tW_mem 375 rfl rfl
theorem k_364 : (Cond.selects "KeepHeapModel" (⟨"KeepHeapModel", "root", "(III)I"⟩ : MethodName) (⟨"KeepHeapModel", "root", "(III)I"⟩ : MethodName)) ∈ tW := tW_mem 376 rfl rfl
theorem k_365 : (Cond.code (⟨"KeepHeapModel", "root", "(III)I"⟩ : MethodName) prog_4_method_14_code 5 (Option.some FieldType.int)) ∈ tW := tW_mem 377 rfl rfl
theorem k_366 : (Cond.methodLink "KeepHeapModel" 78 (⟨"KeepHeapModel$State", "findRoot", "(I)I"⟩ : MethodName)) ∈ tW := tW_mem 378 rfl rfl
theorem k_367 : (Cond.instanceMethod (⟨"KeepHeapModel$State", "findRoot", "(I)I"⟩ : MethodName)) ∈ tW := tW_mem 379 rfl rfl
theorem k_368 : (Cond.selects "KeepHeapModel$State" (⟨"KeepHeapModel$State", "findRoot", "(I)I"⟩ : MethodName) (⟨"KeepHeapModel$State", "findRoot", "(I)I"⟩ : MethodName)) ∈ tW := tW_mem 380 rfl rfl
theorem k_369 : (Cond.code (⟨"KeepHeapModel$State", "findRoot", "(I)I"⟩ : MethodName) prog_5_method_3_code 3 (Option.some FieldType.int)) ∈ tW := tW_mem 381 rfl rfl
theorem k_370 : (Cond.methodLink "KeepHeapLaw" 53 (⟨"KeepHeapModel", "rooted", "(I)J"⟩ : MethodName)) ∈ tW := tW_mem 382 rfl rfl
theorem k_371 : (Cond.instanceMethod (⟨"KeepHeapModel", "rooted", "(I)J"⟩ : MethodName)) ∈ tW := tW_mem 383 rfl rfl
theorem k_372 : (Cond.selects "KeepHeapModel" (⟨"KeepHeapModel", "rooted", "(I)J"⟩ : MethodName) (⟨"KeepHeapModel", "rooted", "(I)J"⟩ : MethodName)) ∈ tW := tW_mem 384 rfl rfl
theorem k_373 : (Cond.code (⟨"KeepHeapModel", "rooted", "(I)J"⟩ : MethodName) prog_4_method_15_code 3 (Option.some FieldType.long)) ∈ tW := tW_mem 385 rfl rfl
theorem k_374 : (Cond.methodLink "KeepHeapLaw" 58 (⟨"KeepHeapModel", "commit", "()I"⟩ : MethodName)) ∈ tW := tW_mem 386 rfl rfl
theorem k_375 : (Cond.instanceMethod (⟨"KeepHeapModel", "commit", "()I"⟩ : MethodName)) ∈ tW := tW_mem 387 rfl rfl
theorem k_376 : (Cond.selects "KeepHeapModel" (⟨"KeepHeapModel", "commit", "()I"⟩ : MethodName) (⟨"KeepHeapModel", "commit", "()I"⟩ : MethodName)) ∈ tW := tW_mem 388 rfl rfl
theorem k_377 : (Cond.code (⟨"KeepHeapModel", "commit", "()I"⟩ : MethodName) prog_4_method_17_code 2 (Option.some FieldType.int)) ∈ tW := tW_mem 389 rfl rfl
theorem k_378 : (Cond.methodLink "KeepHeapModel" 104 (⟨"KeepHeapModel$State", "bytesBehind", "(LKeepHeapModel$State;)I"⟩ : MethodName)) ∈ tW := tW_mem 390 rfl rfl
theorem k_379 : (Cond.instanceMethod (⟨"KeepHeapModel$State", "bytesBehind", "(LKeepHeapModel$State;)I"⟩ : MethodName)) ∈ tW := tW_mem 391 rfl rfl
theorem k_380 : (Cond.selects "KeepHeapModel$State" (⟨"KeepHeapModel$State", "bytesBehind", "(LKeepHeapModel$State;)I"⟩ : MethodName) (⟨"KeepHeapModel$State", "bytesBehind", "(LKeepHeapModel$State;)I"⟩ : MethodName)) ∈ tW := tW_mem 392 rfl rfl
theorem k_381 : (Cond.code (⟨"KeepHeapModel$State", "bytesBehind", "(LKeepHeapModel$State;)I"⟩ : MethodName) prog_5_method_6_code 5 (Option.some FieldType.int)) ∈ tW := tW_mem 393 rfl rfl
theorem k_382 : (Cond.methodLink "KeepHeapModel$State" 41 (⟨"KeepHeapModel$State", "isSame", "(ILKeepHeapModel$State;)Z"⟩ : MethodName)) ∈ tW := tW_mem 394 rfl rfl
theorem k_383 : (Cond.instanceMethod (⟨"KeepHeapModel$State", "isSame", "(ILKeepHeapModel$State;)Z"⟩ : MethodName)) ∈ tW := tW_mem 395 rfl rfl
theorem k_384 : (Cond.selects "KeepHeapModel$State" (⟨"KeepHeapModel$State", "isSame", "(ILKeepHeapModel$State;)Z"⟩ : MethodName) (⟨"KeepHeapModel$State", "isSame", "(ILKeepHeapModel$State;)Z"⟩ : MethodName)) ∈ tW := tW_mem 396 rfl rfl
theorem k_385 : (Cond.code (⟨"KeepHeapModel$State", "isSame", "(ILKeepHeapModel$State;)Z"⟩ : MethodName) prog_5_method_5_code 4 (Option.some FieldType.boolean)) ∈ tW := tW_mem 397 rfl rfl
theorem k_386 : (Cond.methodLink "KeepHeapModel$State" 45 (⟨"KeepHeapModel$State", "findRoot", "(I)I"⟩ : MethodName)) ∈ tW := tW_mem 398 rfl rfl
theorem k_387 : (Cond.methodLink "KeepHeapModel" 108 (⟨"KeepHeapModel", "keep", "(I)V"⟩ : MethodName)) ∈ tW := tW_mem 399 rfl rfl
theorem k_389 : (Cond.instanceMethod (⟨"KeepHeapModel", "keep", "(I)V"⟩ : MethodName)) ∈ tW := tW_mem 401 rfl rfl
theorem k_390 : (Cond.code (⟨"KeepHeapModel", "keep", "(I)V"⟩ : MethodName) prog_4_method_16_code 4 (Option.none : Option FieldType)) ∈ tW := tW_mem 402 rfl rfl
theorem k_391 : (Cond.methodLink "KeepHeapModel" 91 (⟨"KeepHeapModel$State", "copy", "(LKeepHeapModel$State;)V"⟩ : MethodName)) ∈ tW := tW_mem 403 rfl rfl
theorem k_392 : (Cond.instanceMethod (⟨"KeepHeapModel$State", "copy", "(LKeepHeapModel$State;)V"⟩ : MethodName)) ∈ tW := tW_mem 404 rfl rfl
theorem k_393 : (Cond.selects "KeepHeapModel$State" (⟨"KeepHeapModel$State", "copy", "(LKeepHeapModel$State;)V"⟩ : MethodName) (⟨"KeepHeapModel$State", "copy", "(LKeepHeapModel$State;)V"⟩ : MethodName)) ∈ tW := tW_mem 405 rfl rfl
theorem k_394 : (Cond.code (⟨"KeepHeapModel$State", "copy", "(LKeepHeapModel$State;)V"⟩ : MethodName) prog_5_method_2_code 2 (Option.none : Option FieldType)) ∈ tW := tW_mem 406 rfl rfl
theorem k_395 : (Cond.methodLink "KeepHeapModel$State" 31 (⟨"java/lang/System", "arraycopy", "(Ljava/lang/Object;ILjava/lang/Object;II)V"⟩ : MethodName)) ∈ tW := tW_mem 407 rfl rfl
theorem k_396 : (Cond.static (⟨"java/lang/System", "arraycopy", "(Ljava/lang/Object;ILjava/lang/Object;II)V"⟩ : MethodName)) ∈ tW := tW_mem 408 rfl rfl
theorem k_397 : (Cond.native (⟨"java/lang/System", "arraycopy", "(Ljava/lang/Object;ILjava/lang/Object;II)V"⟩ : MethodName)) ∈ tW := tW_mem 409 rfl rfl
theorem k_398 : (Cond.methodLink "KeepHeapLaw" 62 (⟨"KeepHeapModel", "undo", "()I"⟩ : MethodName)) ∈ tW := tW_mem 410 rfl rfl
theorem k_399 : (Cond.instanceMethod (⟨"KeepHeapModel", "undo", "()I"⟩ : MethodName)) ∈ tW := tW_mem 411 rfl rfl
theorem k_400 : (Cond.selects "KeepHeapModel" (⟨"KeepHeapModel", "undo", "()I"⟩ : MethodName) (⟨"KeepHeapModel", "undo", "()I"⟩ : MethodName)) ∈ tW := tW_mem 412 rfl rfl
theorem k_401 : (Cond.code (⟨"KeepHeapModel", "undo", "()I"⟩ : MethodName) prog_4_method_18_code 2 (Option.some FieldType.int)) ∈ tW := tW_mem 413 rfl rfl
theorem k_402 : (Cond.methodLink "KeepHeapLaw" 66 (⟨"KeepHeapModel", "sweep", "()I"⟩ : MethodName)) ∈ tW := tW_mem 414 rfl rfl
theorem k_403 : (Cond.instanceMethod (⟨"KeepHeapModel", "sweep", "()I"⟩ : MethodName)) ∈ tW := tW_mem 415 rfl rfl
theorem k_404 : (Cond.selects "KeepHeapModel" (⟨"KeepHeapModel", "sweep", "()I"⟩ : MethodName) (⟨"KeepHeapModel", "sweep", "()I"⟩ : MethodName)) ∈ tW := tW_mem 416 rfl rfl
theorem k_405 : (Cond.code (⟨"KeepHeapModel", "sweep", "()I"⟩ : MethodName) prog_4_method_19_code 7 (Option.some FieldType.int)) ∈ tW := tW_mem 417 rfl rfl
theorem k_406 : (Cond.methodLink "KeepHeapModel" 112 (⟨"KeepHeapModel", "reach", "(JI)I"⟩ : MethodName)) ∈ tW := tW_mem 418 rfl rfl
theorem k_408 : (Cond.instanceMethod (⟨"KeepHeapModel", "reach", "(JI)I"⟩ : MethodName)) ∈ tW := tW_mem 420 rfl rfl
theorem k_409 : (Cond.code (⟨"KeepHeapModel", "reach", "(JI)I"⟩ : MethodName) prog_4_method_20_code 4 (Option.some FieldType.int)) ∈ tW := tW_mem 421 rfl rfl
theorem k_410 : (Cond.methodLink "KeepHeapLaw" 70 (⟨"KeepHeapModel", "sync", "()I"⟩ : MethodName)) ∈ tW := tW_mem 422 rfl rfl
theorem k_411 : (Cond.instanceMethod (⟨"KeepHeapModel", "sync", "()I"⟩ : MethodName)) ∈ tW := tW_mem 423 rfl rfl
theorem k_412 : (Cond.selects "KeepHeapModel" (⟨"KeepHeapModel", "sync", "()I"⟩ : MethodName) (⟨"KeepHeapModel", "sync", "()I"⟩ : MethodName)) ∈ tW := tW_mem 424 rfl rfl
theorem k_413 : (Cond.code (⟨"KeepHeapModel", "sync", "()I"⟩ : MethodName) prog_4_method_21_code 2 (Option.some FieldType.int)) ∈ tW := tW_mem 425 rfl rfl
theorem k_414 : (Cond.methodLink "KeepHeapLaw" 75 (⟨"KeepHeapModel", "crash", "(I)I"⟩ : MethodName)) ∈ tW := tW_mem 426 rfl rfl
theorem k_415 : (Cond.instanceMethod (⟨"KeepHeapModel", "crash", "(I)I"⟩ : MethodName)) ∈ tW := tW_mem 427 rfl rfl
theorem k_416 : (Cond.selects "KeepHeapModel" (⟨"KeepHeapModel", "crash", "(I)I"⟩ : MethodName) (⟨"KeepHeapModel", "crash", "(I)I"⟩ : MethodName)) ∈ tW := tW_mem 428 rfl rfl
theorem k_417 : (Cond.code (⟨"KeepHeapModel", "crash", "(I)I"⟩ : MethodName) prog_4_method_22_code 6 (Option.some FieldType.int)) ∈ tW := tW_mem 429 rfl rfl
theorem k_418 : (Cond.methodLink "KeepHeapLaw" 79 (⟨"KeepHeapModel", "kind", "(I)I"⟩ : MethodName)) ∈ tW := tW_mem 430 rfl rfl
theorem k_419 : (Cond.instanceMethod (⟨"KeepHeapModel", "kind", "(I)I"⟩ : MethodName)) ∈ tW := tW_mem 431 rfl rfl
theorem k_420 : (Cond.selects "KeepHeapModel" (⟨"KeepHeapModel", "kind", "(I)I"⟩ : MethodName) (⟨"KeepHeapModel", "kind", "(I)I"⟩ : MethodName)) ∈ tW := tW_mem 432 rfl rfl
theorem k_421 : (Cond.code (⟨"KeepHeapModel", "kind", "(I)I"⟩ : MethodName) prog_4_method_23_code 2 (Option.some FieldType.int)) ∈ tW := tW_mem 433 rfl rfl
theorem k_422 : (Cond.methodLink "KeepHeapLaw" 83 (⟨"KeepHeapModel", "size", "(I)I"⟩ : MethodName)) ∈ tW := tW_mem 434 rfl rfl
theorem k_423 : (Cond.instanceMethod (⟨"KeepHeapModel", "size", "(I)I"⟩ : MethodName)) ∈ tW := tW_mem 435 rfl rfl
theorem k_424 : (Cond.selects "KeepHeapModel" (⟨"KeepHeapModel", "size", "(I)I"⟩ : MethodName) (⟨"KeepHeapModel", "size", "(I)I"⟩ : MethodName)) ∈ tW := tW_mem 436 rfl rfl
theorem k_425 : (Cond.code (⟨"KeepHeapModel", "size", "(I)I"⟩ : MethodName) prog_4_method_24_code 2 (Option.some FieldType.int)) ∈ tW := tW_mem 437 rfl rfl
theorem k_426 : (Cond.methodLink "KeepHeapLaw" 87 (⟨"KeepHeapModel", "count", "(I)I"⟩ : MethodName)) ∈ tW := tW_mem 438 rfl rfl
theorem k_427 : (Cond.instanceMethod (⟨"KeepHeapModel", "count", "(I)I"⟩ : MethodName)) ∈ tW := tW_mem 439 rfl rfl
theorem k_428 : (Cond.selects "KeepHeapModel" (⟨"KeepHeapModel", "count", "(I)I"⟩ : MethodName) (⟨"KeepHeapModel", "count", "(I)I"⟩ : MethodName)) ∈ tW := tW_mem 440 rfl rfl
theorem k_429 : (Cond.code (⟨"KeepHeapModel", "count", "(I)I"⟩ : MethodName) prog_4_method_25_code 7 (Option.some FieldType.int)) ∈ tW := tW_mem 441 rfl rfl
theorem kp_0 : Cond.selects "KeepHeap" (⟨"KeepHeap", "is", "(II)Z"⟩ : MethodName) (⟨"KeepHeap", "is", "(II)Z"⟩ : MethodName) ∈ tW := tW_mem 0 rfl rfl
theorem kp_1 : Cond.selects "KeepHeap" (⟨"KeepHeap", "isValue", "(II)Z"⟩ : MethodName) (⟨"KeepHeap", "isValue", "(II)Z"⟩ : MethodName) ∈ tW := tW_mem 1 rfl rfl
theorem kp_2 : Cond.selects "KeepHeap" (⟨"KeepHeap", "isItem", "(II)Z"⟩ : MethodName) (⟨"KeepHeap", "isItem", "(II)Z"⟩ : MethodName) ∈ tW := tW_mem 2 rfl rfl
theorem kp_3 : Cond.selects "KeepHeap$State" (⟨"KeepHeap$State", "rootsChanged", "(LKeepHeap$State;)I"⟩ : MethodName) (⟨"KeepHeap$State", "rootsChanged", "(LKeepHeap$State;)I"⟩ : MethodName) ∈ tW := tW_mem 3 rfl rfl
theorem kp_4 : Cond.selects "KeepHeap$State" (⟨"KeepHeap$State", "sameObject", "(LKeepHeap$State;I)Z"⟩ : MethodName) (⟨"KeepHeap$State", "sameObject", "(LKeepHeap$State;I)Z"⟩ : MethodName) ∈ tW := tW_mem 4 rfl rfl
theorem kp_5 : Cond.selects "KeepHeap" (⟨"KeepHeap", "write", "(I)V"⟩ : MethodName) (⟨"KeepHeap", "write", "(I)V"⟩ : MethodName) ∈ tW := tW_mem 5 rfl rfl
theorem kp_6 : Cond.selects "KeepHeap$State" (⟨"KeepHeap$State", "reach", "(II)V"⟩ : MethodName) (⟨"KeepHeap$State", "reach", "(II)V"⟩ : MethodName) ∈ tW := tW_mem 6 rfl rfl
theorem kp_7 : Cond.selects "KeepHeapModel" (⟨"KeepHeapModel", "is", "(II)Z"⟩ : MethodName) (⟨"KeepHeapModel", "is", "(II)Z"⟩ : MethodName) ∈ tW := tW_mem 7 rfl rfl
theorem kp_8 : Cond.selects "KeepHeapModel" (⟨"KeepHeapModel", "isValue", "(II)Z"⟩ : MethodName) (⟨"KeepHeapModel", "isValue", "(II)Z"⟩ : MethodName) ∈ tW := tW_mem 8 rfl rfl
theorem kp_9 : Cond.selects "KeepHeapModel" (⟨"KeepHeapModel", "isThere", "(I)Z"⟩ : MethodName) (⟨"KeepHeapModel", "isThere", "(I)Z"⟩ : MethodName) ∈ tW := tW_mem 9 rfl rfl
theorem kp_10 : Cond.selects "KeepHeapModel" (⟨"KeepHeapModel", "keep", "(I)V"⟩ : MethodName) (⟨"KeepHeapModel", "keep", "(I)V"⟩ : MethodName) ∈ tW := tW_mem 10 rfl rfl
theorem kp_11 : Cond.selects "KeepHeapModel" (⟨"KeepHeapModel", "reach", "(JI)I"⟩ : MethodName) (⟨"KeepHeapModel", "reach", "(JI)I"⟩ : MethodName) ∈ tW := tW_mem 11 rfl rfl
end
section
theorem d_KS_init_0 : decode b_KS_init 0 = .ok (.aload_n 0, 1) := by decide +kernel
theorem d_KS_init_1 : decode b_KS_init 1 = .ok (.invokespecial 3, 3) := by decide +kernel
theorem d_KS_init_4 : decode b_KS_init 4 = .ok (.aload_n 0, 1) := by decide +kernel
theorem d_KS_init_5 : decode b_KS_init 5 = .ok (.bipush 100, 2) := by decide +kernel
theorem d_KS_init_7 : decode b_KS_init 7 = .ok (.newarray .int, 2) := by decide +kernel
theorem d_KS_init_9 : decode b_KS_init 9 = .ok (.putfield 11, 3) := by decide +kernel
theorem d_KS_init_12 : decode b_KS_init 12 = .ok (.aload_n 0, 1) := by decide +kernel
theorem d_KS_init_13 : decode b_KS_init 13 = .ok (.bipush 100, 2) := by decide +kernel
theorem d_KS_init_15 : decode b_KS_init 15 = .ok (.newarray .int, 2) := by decide +kernel
theorem d_KS_init_17 : decode b_KS_init 17 = .ok (.putfield 15, 3) := by decide +kernel
theorem d_KS_init_20 : decode b_KS_init 20 = .ok (.aload_n 0, 1) := by decide +kernel
theorem d_KS_init_21 : decode b_KS_init 21 = .ok (.sipush 2000, 3) := by decide +kernel
theorem d_KS_init_24 : decode b_KS_init 24 = .ok (.newarray .int, 2) := by decide +kernel
theorem d_KS_init_26 : decode b_KS_init 26 = .ok (.putfield 18, 3) := by decide +kernel
theorem d_KS_init_29 : decode b_KS_init 29 = .ok (.aload_n 0, 1) := by decide +kernel
theorem d_KS_init_30 : decode b_KS_init 30 = .ok (.sipush 2000, 3) := by decide +kernel
theorem d_KS_init_33 : decode b_KS_init 33 = .ok (.newarray .int, 2) := by decide +kernel
theorem d_KS_init_35 : decode b_KS_init 35 = .ok (.putfield 21, 3) := by decide +kernel
theorem d_KS_init_38 : decode b_KS_init 38 = .ok (.aload_n 0, 1) := by decide +kernel
theorem d_KS_init_39 : decode b_KS_init 39 = .ok (.sipush 2000, 3) := by decide +kernel
theorem d_KS_init_42 : decode b_KS_init 42 = .ok (.newarray .int, 2) := by decide +kernel
theorem d_KS_init_44 : decode b_KS_init 44 = .ok (.putfield 24, 3) := by decide +kernel
theorem d_KS_init_47 : decode b_KS_init 47 = .ok (.aload_n 0, 1) := by decide +kernel
theorem d_KS_init_48 : decode b_KS_init 48 = .ok (.bipush 12, 2) := by decide +kernel
theorem d_KS_init_50 : decode b_KS_init 50 = .ok (.newarray .int, 2) := by decide +kernel
theorem d_KS_init_52 : decode b_KS_init 52 = .ok (.putfield 27, 3) := by decide +kernel
theorem d_KS_init_55 : decode b_KS_init 55 = .ok (.aload_n 0, 1) := by decide +kernel
theorem d_KS_init_56 : decode b_KS_init 56 = .ok (.bipush 12, 2) := by decide +kernel
theorem d_KS_init_58 : decode b_KS_init 58 = .ok (.newarray .int, 2) := by decide +kernel
theorem d_KS_init_60 : decode b_KS_init 60 = .ok (.putfield 30, 3) := by decide +kernel
theorem d_KS_init_63 : decode b_KS_init 63 = .ok (.aload_n 0, 1) := by decide +kernel
theorem d_KS_init_64 : decode b_KS_init 64 = .ok (.bipush 12, 2) := by decide +kernel
theorem d_KS_init_66 : decode b_KS_init 66 = .ok (.newarray .int, 2) := by decide +kernel
theorem d_KS_init_68 : decode b_KS_init 68 = .ok (.putfield 33, 3) := by decide +kernel
theorem d_KS_init_71 : decode b_KS_init 71 = .ok (.aload_n 0, 1) := by decide +kernel
theorem d_KS_init_72 : decode b_KS_init 72 = .ok (.bipush 100, 2) := by decide +kernel
theorem d_KS_init_74 : decode b_KS_init 74 = .ok (.newarray .boolean, 2) := by decide +kernel
theorem d_KS_init_76 : decode b_KS_init 76 = .ok (.putfield 36, 3) := by decide +kernel
theorem d_KS_init_79 : decode b_KS_init 79 = .ok (.aload_n 0, 1) := by decide +kernel
theorem d_KS_init_80 : decode b_KS_init 80 = .ok (.bipush 100, 2) := by decide +kernel
theorem d_KS_init_82 : decode b_KS_init 82 = .ok (.newarray .int, 2) := by decide +kernel
theorem d_KS_init_84 : decode b_KS_init 84 = .ok (.putfield 40, 3) := by decide +kernel
theorem d_KS_init_87 : decode b_KS_init 87 = .ok (.return_, 1) := by decide +kernel
theorem d_KS_make_0 : decode b_KS_make 0 = .ok (.iconst 0, 1) := by decide +kernel
theorem d_KS_make_1 : decode b_KS_make 1 = .ok (.istore_n 2, 1) := by decide +kernel
theorem d_KS_make_2 : decode b_KS_make 2 = .ok (.iload_n 2, 1) := by decide +kernel
theorem d_KS_make_3 : decode b_KS_make 3 = .ok (.bipush 100, 2) := by decide +kernel
theorem d_KS_make_5 : decode b_KS_make 5 = .ok (.if_icmp .ge 37, 3) := by decide +kernel
theorem d_KS_make_8 : decode b_KS_make 8 = .ok (.aload_n 0, 1) := by decide +kernel
theorem d_KS_make_9 : decode b_KS_make 9 = .ok (.getfield 11, 3) := by decide +kernel
theorem d_KS_make_12 : decode b_KS_make 12 = .ok (.iload_n 2, 1) := by decide +kernel
theorem d_KS_make_13 : decode b_KS_make 13 = .ok (.iaload, 1) := by decide +kernel
theorem d_KS_make_14 : decode b_KS_make 14 = .ok (.ifCond .eq 6, 3) := by decide +kernel
theorem d_KS_make_17 : decode b_KS_make 17 = .ok (.goto 19, 3) := by decide +kernel
theorem d_KS_make_20 : decode b_KS_make 20 = .ok (.aload_n 0, 1) := by decide +kernel
theorem d_KS_make_21 : decode b_KS_make 21 = .ok (.getfield 11, 3) := by decide +kernel
theorem d_KS_make_24 : decode b_KS_make 24 = .ok (.iload_n 2, 1) := by decide +kernel
theorem d_KS_make_25 : decode b_KS_make 25 = .ok (.iload_n 1, 1) := by decide +kernel
theorem d_KS_make_26 : decode b_KS_make 26 = .ok (.iastore, 1) := by decide +kernel
theorem d_KS_make_27 : decode b_KS_make 27 = .ok (.aload_n 0, 1) := by decide +kernel
theorem d_KS_make_28 : decode b_KS_make 28 = .ok (.getfield 15, 3) := by decide +kernel
theorem d_KS_make_31 : decode b_KS_make 31 = .ok (.iload_n 2, 1) := by decide +kernel
theorem d_KS_make_32 : decode b_KS_make 32 = .ok (.iconst 0, 1) := by decide +kernel
theorem d_KS_make_33 : decode b_KS_make 33 = .ok (.iastore, 1) := by decide +kernel
theorem d_KS_make_34 : decode b_KS_make 34 = .ok (.iload_n 2, 1) := by decide +kernel
theorem d_KS_make_35 : decode b_KS_make 35 = .ok (.ireturn, 1) := by decide +kernel
theorem d_KS_make_36 : decode b_KS_make 36 = .ok (.iinc 2 1, 3) := by decide +kernel
theorem d_KS_make_39 : decode b_KS_make 39 = .ok (.goto (-37), 3) := by decide +kernel
theorem d_KS_make_42 : decode b_KS_make 42 = .ok (.iconst (-1), 1) := by decide +kernel
theorem d_KS_make_43 : decode b_KS_make 43 = .ok (.ireturn, 1) := by decide +kernel
theorem d_KS_setField_0 : decode b_KS_setField 0 = .ok (.aload_n 0, 1) := by decide +kernel
theorem d_KS_setField_1 : decode b_KS_setField 1 = .ok (.iload_n 1, 1) := by decide +kernel
theorem d_KS_setField_2 : decode b_KS_setField 2 = .ok (.iload_n 2, 1) := by decide +kernel
theorem d_KS_setField_3 : decode b_KS_setField 3 = .ok (.invokevirtual 59, 3) := by decide +kernel
theorem d_KS_setField_6 : decode b_KS_setField 6 = .ok (.istore 5, 2) := by decide +kernel
theorem d_KS_setField_8 : decode b_KS_setField 8 = .ok (.iload_n 1, 1) := by decide +kernel
theorem d_KS_setField_9 : decode b_KS_setField 9 = .ok (.bipush 20, 2) := by decide +kernel
theorem d_KS_setField_11 : decode b_KS_setField 11 = .ok (.imul, 1) := by decide +kernel
theorem d_KS_setField_12 : decode b_KS_setField 12 = .ok (.aload_n 0, 1) := by decide +kernel
theorem d_KS_setField_13 : decode b_KS_setField 13 = .ok (.getfield 15, 3) := by decide +kernel
theorem d_KS_setField_16 : decode b_KS_setField 16 = .ok (.iload_n 1, 1) := by decide +kernel
theorem d_KS_setField_17 : decode b_KS_setField 17 = .ok (.iaload, 1) := by decide +kernel
theorem d_KS_setField_18 : decode b_KS_setField 18 = .ok (.iadd, 1) := by decide +kernel
theorem d_KS_setField_19 : decode b_KS_setField 19 = .ok (.istore 6, 2) := by decide +kernel
theorem d_KS_setField_21 : decode b_KS_setField 21 = .ok (.iload_n 3, 1) := by decide +kernel
theorem d_KS_setField_22 : decode b_KS_setField 22 = .ok (.ifCond .eq 58, 3) := by decide +kernel
theorem d_KS_setField_25 : decode b_KS_setField 25 = .ok (.iload 5, 2) := by decide +kernel
theorem d_KS_setField_27 : decode b_KS_setField 27 = .ok (.ifCond .ge 16, 3) := by decide +kernel
theorem d_KS_setField_30 : decode b_KS_setField 30 = .ok (.aload_n 0, 1) := by decide +kernel
theorem d_KS_setField_31 : decode b_KS_setField 31 = .ok (.getfield 15, 3) := by decide +kernel
theorem d_KS_setField_34 : decode b_KS_setField 34 = .ok (.iload_n 1, 1) := by decide +kernel
theorem d_KS_setField_35 : decode b_KS_setField 35 = .ok (.iaload, 1) := by decide +kernel
theorem d_KS_setField_36 : decode b_KS_setField 36 = .ok (.bipush 8, 2) := by decide +kernel
theorem d_KS_setField_38 : decode b_KS_setField 38 = .ok (.if_icmp .ne 5, 3) := by decide +kernel
theorem d_KS_setField_41 : decode b_KS_setField 41 = .ok (.iconst 0, 1) := by decide +kernel
theorem d_KS_setField_42 : decode b_KS_setField 42 = .ok (.ireturn, 1) := by decide +kernel
theorem d_KS_setField_43 : decode b_KS_setField 43 = .ok (.iload 5, 2) := by decide +kernel
theorem d_KS_setField_45 : decode b_KS_setField 45 = .ok (.ifCond .ge 13, 3) := by decide +kernel
theorem d_KS_setField_48 : decode b_KS_setField 48 = .ok (.aload_n 0, 1) := by decide +kernel
theorem d_KS_setField_49 : decode b_KS_setField 49 = .ok (.getfield 15, 3) := by decide +kernel
theorem d_KS_setField_52 : decode b_KS_setField 52 = .ok (.iload_n 1, 1) := by decide +kernel
theorem d_KS_setField_53 : decode b_KS_setField 53 = .ok (.dup2, 1) := by decide +kernel
theorem d_KS_setField_54 : decode b_KS_setField 54 = .ok (.iaload, 1) := by decide +kernel
theorem d_KS_setField_55 : decode b_KS_setField 55 = .ok (.iconst 1, 1) := by decide +kernel
theorem d_KS_setField_56 : decode b_KS_setField 56 = .ok (.iadd, 1) := by decide +kernel
theorem d_KS_setField_57 : decode b_KS_setField 57 = .ok (.iastore, 1) := by decide +kernel
theorem d_KS_setField_58 : decode b_KS_setField 58 = .ok (.aload_n 0, 1) := by decide +kernel
theorem d_KS_setField_59 : decode b_KS_setField 59 = .ok (.iload 5, 2) := by decide +kernel
theorem d_KS_setField_61 : decode b_KS_setField 61 = .ok (.ifCond .ge 8, 3) := by decide +kernel
theorem d_KS_setField_64 : decode b_KS_setField 64 = .ok (.iload 6, 2) := by decide +kernel
theorem d_KS_setField_66 : decode b_KS_setField 66 = .ok (.goto 5, 3) := by decide +kernel
theorem d_KS_setField_69 : decode b_KS_setField 69 = .ok (.iload 5, 2) := by decide +kernel
theorem d_KS_setField_71 : decode b_KS_setField 71 = .ok (.iload_n 2, 1) := by decide +kernel
theorem d_KS_setField_72 : decode b_KS_setField 72 = .ok (.iload_n 3, 1) := by decide +kernel
theorem d_KS_setField_73 : decode b_KS_setField 73 = .ok (.iload 4, 2) := by decide +kernel
theorem d_KS_setField_75 : decode b_KS_setField 75 = .ok (.invokevirtual 63, 3) := by decide +kernel
theorem d_KS_setField_78 : decode b_KS_setField 78 = .ok (.iconst 1, 1) := by decide +kernel
theorem d_KS_setField_79 : decode b_KS_setField 79 = .ok (.ireturn, 1) := by decide +kernel
theorem d_KS_setField_80 : decode b_KS_setField 80 = .ok (.iload 5, 2) := by decide +kernel
theorem d_KS_setField_82 : decode b_KS_setField 82 = .ok (.ifCond .ge 5, 3) := by decide +kernel
theorem d_KS_setField_85 : decode b_KS_setField 85 = .ok (.iconst 1, 1) := by decide +kernel
theorem d_KS_setField_86 : decode b_KS_setField 86 = .ok (.ireturn, 1) := by decide +kernel
theorem d_KS_setField_87 : decode b_KS_setField 87 = .ok (.aload_n 0, 1) := by decide +kernel
theorem d_KS_setField_88 : decode b_KS_setField 88 = .ok (.getfield 15, 3) := by decide +kernel
theorem d_KS_setField_91 : decode b_KS_setField 91 = .ok (.iload_n 1, 1) := by decide +kernel
theorem d_KS_setField_92 : decode b_KS_setField 92 = .ok (.dup2, 1) := by decide +kernel
theorem d_KS_setField_93 : decode b_KS_setField 93 = .ok (.iaload, 1) := by decide +kernel
theorem d_KS_setField_94 : decode b_KS_setField 94 = .ok (.iconst 1, 1) := by decide +kernel
theorem d_KS_setField_95 : decode b_KS_setField 95 = .ok (.isub, 1) := by decide +kernel
theorem d_KS_setField_96 : decode b_KS_setField 96 = .ok (.iastore, 1) := by decide +kernel
theorem d_KS_setField_97 : decode b_KS_setField 97 = .ok (.iload 5, 2) := by decide +kernel
theorem d_KS_setField_99 : decode b_KS_setField 99 = .ok (.istore 7, 2) := by decide +kernel
theorem d_KS_setField_101 : decode b_KS_setField 101 = .ok (.iload 7, 2) := by decide +kernel
theorem d_KS_setField_103 : decode b_KS_setField 103 = .ok (.iload 6, 2) := by decide +kernel
theorem d_KS_setField_105 : decode b_KS_setField 105 = .ok (.iconst 1, 1) := by decide +kernel
theorem d_KS_setField_106 : decode b_KS_setField 106 = .ok (.isub, 1) := by decide +kernel
theorem d_KS_setField_107 : decode b_KS_setField 107 = .ok (.if_icmp .ge 42, 3) := by decide +kernel
theorem d_KS_setField_110 : decode b_KS_setField 110 = .ok (.aload_n 0, 1) := by decide +kernel
theorem d_KS_setField_111 : decode b_KS_setField 111 = .ok (.iload 7, 2) := by decide +kernel
theorem d_KS_setField_113 : decode b_KS_setField 113 = .ok (.aload_n 0, 1) := by decide +kernel
theorem d_KS_setField_114 : decode b_KS_setField 114 = .ok (.getfield 18, 3) := by decide +kernel
theorem d_KS_setField_117 : decode b_KS_setField 117 = .ok (.iload 7, 2) := by decide +kernel
theorem d_KS_setField_119 : decode b_KS_setField 119 = .ok (.iconst 1, 1) := by decide +kernel
theorem d_KS_setField_120 : decode b_KS_setField 120 = .ok (.iadd, 1) := by decide +kernel
theorem d_KS_setField_121 : decode b_KS_setField 121 = .ok (.iaload, 1) := by decide +kernel
theorem d_KS_setField_122 : decode b_KS_setField 122 = .ok (.aload_n 0, 1) := by decide +kernel
theorem d_KS_setField_123 : decode b_KS_setField 123 = .ok (.getfield 21, 3) := by decide +kernel
theorem d_KS_setField_126 : decode b_KS_setField 126 = .ok (.iload 7, 2) := by decide +kernel
theorem d_KS_setField_128 : decode b_KS_setField 128 = .ok (.iconst 1, 1) := by decide +kernel
theorem d_KS_setField_129 : decode b_KS_setField 129 = .ok (.iadd, 1) := by decide +kernel
theorem d_KS_setField_130 : decode b_KS_setField 130 = .ok (.iaload, 1) := by decide +kernel
theorem d_KS_setField_131 : decode b_KS_setField 131 = .ok (.aload_n 0, 1) := by decide +kernel
theorem d_KS_setField_132 : decode b_KS_setField 132 = .ok (.getfield 24, 3) := by decide +kernel
theorem d_KS_setField_135 : decode b_KS_setField 135 = .ok (.iload 7, 2) := by decide +kernel
theorem d_KS_setField_137 : decode b_KS_setField 137 = .ok (.iconst 1, 1) := by decide +kernel
theorem d_KS_setField_138 : decode b_KS_setField 138 = .ok (.iadd, 1) := by decide +kernel
theorem d_KS_setField_139 : decode b_KS_setField 139 = .ok (.iaload, 1) := by decide +kernel
theorem d_KS_setField_140 : decode b_KS_setField 140 = .ok (.invokevirtual 63, 3) := by decide +kernel
theorem d_KS_setField_143 : decode b_KS_setField 143 = .ok (.iinc 7 1, 3) := by decide +kernel
theorem d_KS_setField_146 : decode b_KS_setField 146 = .ok (.goto (-45), 3) := by decide +kernel
theorem d_KS_setField_149 : decode b_KS_setField 149 = .ok (.iconst 1, 1) := by decide +kernel
theorem d_KS_setField_150 : decode b_KS_setField 150 = .ok (.ireturn, 1) := by decide +kernel
theorem d_KS_findField_0 : decode b_KS_findField 0 = .ok (.iload_n 1, 1) := by decide +kernel
theorem d_KS_findField_1 : decode b_KS_findField 1 = .ok (.bipush 20, 2) := by decide +kernel
theorem d_KS_findField_3 : decode b_KS_findField 3 = .ok (.imul, 1) := by decide +kernel
theorem d_KS_findField_4 : decode b_KS_findField 4 = .ok (.istore_n 3, 1) := by decide +kernel
theorem d_KS_findField_5 : decode b_KS_findField 5 = .ok (.iload_n 3, 1) := by decide +kernel
theorem d_KS_findField_6 : decode b_KS_findField 6 = .ok (.iload_n 1, 1) := by decide +kernel
theorem d_KS_findField_7 : decode b_KS_findField 7 = .ok (.bipush 20, 2) := by decide +kernel
theorem d_KS_findField_9 : decode b_KS_findField 9 = .ok (.imul, 1) := by decide +kernel
theorem d_KS_findField_10 : decode b_KS_findField 10 = .ok (.aload_n 0, 1) := by decide +kernel
theorem d_KS_findField_11 : decode b_KS_findField 11 = .ok (.getfield 15, 3) := by decide +kernel
theorem d_KS_findField_14 : decode b_KS_findField 14 = .ok (.iload_n 1, 1) := by decide +kernel
theorem d_KS_findField_15 : decode b_KS_findField 15 = .ok (.iaload, 1) := by decide +kernel
theorem d_KS_findField_16 : decode b_KS_findField 16 = .ok (.iadd, 1) := by decide +kernel
theorem d_KS_findField_17 : decode b_KS_findField 17 = .ok (.if_icmp .ge 21, 3) := by decide +kernel
theorem d_KS_findField_20 : decode b_KS_findField 20 = .ok (.aload_n 0, 1) := by decide +kernel
theorem d_KS_findField_21 : decode b_KS_findField 21 = .ok (.getfield 18, 3) := by decide +kernel
theorem d_KS_findField_24 : decode b_KS_findField 24 = .ok (.iload_n 3, 1) := by decide +kernel
theorem d_KS_findField_25 : decode b_KS_findField 25 = .ok (.iaload, 1) := by decide +kernel
theorem d_KS_findField_26 : decode b_KS_findField 26 = .ok (.iload_n 2, 1) := by decide +kernel
theorem d_KS_findField_27 : decode b_KS_findField 27 = .ok (.if_icmp .ne 5, 3) := by decide +kernel
theorem d_KS_findField_30 : decode b_KS_findField 30 = .ok (.iload_n 3, 1) := by decide +kernel
theorem d_KS_findField_31 : decode b_KS_findField 31 = .ok (.ireturn, 1) := by decide +kernel
theorem d_KS_findField_32 : decode b_KS_findField 32 = .ok (.iinc 3 1, 3) := by decide +kernel
theorem d_KS_findField_35 : decode b_KS_findField 35 = .ok (.goto (-30), 3) := by decide +kernel
theorem d_KS_findField_38 : decode b_KS_findField 38 = .ok (.iconst (-1), 1) := by decide +kernel
theorem d_KS_findField_39 : decode b_KS_findField 39 = .ok (.ireturn, 1) := by decide +kernel
theorem d_KS_store_0 : decode b_KS_store 0 = .ok (.aload_n 0, 1) := by decide +kernel
theorem d_KS_store_1 : decode b_KS_store 1 = .ok (.getfield 18, 3) := by decide +kernel
theorem d_KS_store_4 : decode b_KS_store 4 = .ok (.iload_n 1, 1) := by decide +kernel
theorem d_KS_store_5 : decode b_KS_store 5 = .ok (.iload_n 2, 1) := by decide +kernel
theorem d_KS_store_6 : decode b_KS_store 6 = .ok (.iastore, 1) := by decide +kernel
theorem d_KS_store_7 : decode b_KS_store 7 = .ok (.aload_n 0, 1) := by decide +kernel
theorem d_KS_store_8 : decode b_KS_store 8 = .ok (.getfield 21, 3) := by decide +kernel
theorem d_KS_store_11 : decode b_KS_store 11 = .ok (.iload_n 1, 1) := by decide +kernel
theorem d_KS_store_12 : decode b_KS_store 12 = .ok (.iload_n 3, 1) := by decide +kernel
theorem d_KS_store_13 : decode b_KS_store 13 = .ok (.iastore, 1) := by decide +kernel
theorem d_KS_store_14 : decode b_KS_store 14 = .ok (.aload_n 0, 1) := by decide +kernel
theorem d_KS_store_15 : decode b_KS_store 15 = .ok (.getfield 24, 3) := by decide +kernel
theorem d_KS_store_18 : decode b_KS_store 18 = .ok (.iload_n 1, 1) := by decide +kernel
theorem d_KS_store_19 : decode b_KS_store 19 = .ok (.iload 4, 2) := by decide +kernel
theorem d_KS_store_21 : decode b_KS_store 21 = .ok (.iastore, 1) := by decide +kernel
theorem d_KS_store_22 : decode b_KS_store 22 = .ok (.return_, 1) := by decide +kernel
theorem d_KS_setRoot_0 : decode b_KS_setRoot 0 = .ok (.aload_n 0, 1) := by decide +kernel
theorem d_KS_setRoot_1 : decode b_KS_setRoot 1 = .ok (.iload_n 1, 1) := by decide +kernel
theorem d_KS_setRoot_2 : decode b_KS_setRoot 2 = .ok (.invokevirtual 47, 3) := by decide +kernel
theorem d_KS_setRoot_5 : decode b_KS_setRoot 5 = .ok (.istore 4, 2) := by decide +kernel
theorem d_KS_setRoot_7 : decode b_KS_setRoot 7 = .ok (.iload_n 2, 1) := by decide +kernel
theorem d_KS_setRoot_8 : decode b_KS_setRoot 8 = .ok (.ifCond .ne 70, 3) := by decide +kernel
theorem d_KS_setRoot_11 : decode b_KS_setRoot 11 = .ok (.iload 4, 2) := by decide +kernel
theorem d_KS_setRoot_13 : decode b_KS_setRoot 13 = .ok (.ifCond .ge 5, 3) := by decide +kernel
theorem d_KS_setRoot_16 : decode b_KS_setRoot 16 = .ok (.iconst 1, 1) := by decide +kernel
theorem d_KS_setRoot_17 : decode b_KS_setRoot 17 = .ok (.ireturn, 1) := by decide +kernel
theorem d_KS_setRoot_18 : decode b_KS_setRoot 18 = .ok (.aload_n 0, 1) := by decide +kernel
theorem d_KS_setRoot_19 : decode b_KS_setRoot 19 = .ok (.dup, 1) := by decide +kernel
theorem d_KS_setRoot_20 : decode b_KS_setRoot 20 = .ok (.getfield 43, 3) := by decide +kernel
theorem d_KS_setRoot_23 : decode b_KS_setRoot 23 = .ok (.iconst 1, 1) := by decide +kernel
theorem d_KS_setRoot_24 : decode b_KS_setRoot 24 = .ok (.isub, 1) := by decide +kernel
theorem d_KS_setRoot_25 : decode b_KS_setRoot 25 = .ok (.putfield 43, 3) := by decide +kernel
theorem d_KS_setRoot_28 : decode b_KS_setRoot 28 = .ok (.aload_n 0, 1) := by decide +kernel
theorem d_KS_setRoot_29 : decode b_KS_setRoot 29 = .ok (.getfield 27, 3) := by decide +kernel
theorem d_KS_setRoot_32 : decode b_KS_setRoot 32 = .ok (.iload 4, 2) := by decide +kernel
theorem d_KS_setRoot_34 : decode b_KS_setRoot 34 = .ok (.aload_n 0, 1) := by decide +kernel
theorem d_KS_setRoot_35 : decode b_KS_setRoot 35 = .ok (.getfield 27, 3) := by decide +kernel
theorem d_KS_setRoot_38 : decode b_KS_setRoot 38 = .ok (.aload_n 0, 1) := by decide +kernel
theorem d_KS_setRoot_39 : decode b_KS_setRoot 39 = .ok (.getfield 43, 3) := by decide +kernel
theorem d_KS_setRoot_42 : decode b_KS_setRoot 42 = .ok (.iaload, 1) := by decide +kernel
theorem d_KS_setRoot_43 : decode b_KS_setRoot 43 = .ok (.iastore, 1) := by decide +kernel
theorem d_KS_setRoot_44 : decode b_KS_setRoot 44 = .ok (.aload_n 0, 1) := by decide +kernel
theorem d_KS_setRoot_45 : decode b_KS_setRoot 45 = .ok (.getfield 30, 3) := by decide +kernel
theorem d_KS_setRoot_48 : decode b_KS_setRoot 48 = .ok (.iload 4, 2) := by decide +kernel
theorem d_KS_setRoot_50 : decode b_KS_setRoot 50 = .ok (.aload_n 0, 1) := by decide +kernel
theorem d_KS_setRoot_51 : decode b_KS_setRoot 51 = .ok (.getfield 30, 3) := by decide +kernel
theorem d_KS_setRoot_54 : decode b_KS_setRoot 54 = .ok (.aload_n 0, 1) := by decide +kernel
theorem d_KS_setRoot_55 : decode b_KS_setRoot 55 = .ok (.getfield 43, 3) := by decide +kernel
theorem d_KS_setRoot_58 : decode b_KS_setRoot 58 = .ok (.iaload, 1) := by decide +kernel
theorem d_KS_setRoot_59 : decode b_KS_setRoot 59 = .ok (.iastore, 1) := by decide +kernel
theorem d_KS_setRoot_60 : decode b_KS_setRoot 60 = .ok (.aload_n 0, 1) := by decide +kernel
theorem d_KS_setRoot_61 : decode b_KS_setRoot 61 = .ok (.getfield 33, 3) := by decide +kernel
theorem d_KS_setRoot_64 : decode b_KS_setRoot 64 = .ok (.iload 4, 2) := by decide +kernel
theorem d_KS_setRoot_66 : decode b_KS_setRoot 66 = .ok (.aload_n 0, 1) := by decide +kernel
theorem d_KS_setRoot_67 : decode b_KS_setRoot 67 = .ok (.getfield 33, 3) := by decide +kernel
theorem d_KS_setRoot_70 : decode b_KS_setRoot 70 = .ok (.aload_n 0, 1) := by decide +kernel
theorem d_KS_setRoot_71 : decode b_KS_setRoot 71 = .ok (.getfield 43, 3) := by decide +kernel
theorem d_KS_setRoot_74 : decode b_KS_setRoot 74 = .ok (.iaload, 1) := by decide +kernel
theorem d_KS_setRoot_75 : decode b_KS_setRoot 75 = .ok (.iastore, 1) := by decide +kernel
theorem d_KS_setRoot_76 : decode b_KS_setRoot 76 = .ok (.iconst 1, 1) := by decide +kernel
theorem d_KS_setRoot_77 : decode b_KS_setRoot 77 = .ok (.ireturn, 1) := by decide +kernel
theorem d_KS_setRoot_78 : decode b_KS_setRoot 78 = .ok (.iload 4, 2) := by decide +kernel
theorem d_KS_setRoot_80 : decode b_KS_setRoot 80 = .ok (.ifCond .ge 14, 3) := by decide +kernel
theorem d_KS_setRoot_83 : decode b_KS_setRoot 83 = .ok (.aload_n 0, 1) := by decide +kernel
theorem d_KS_setRoot_84 : decode b_KS_setRoot 84 = .ok (.getfield 43, 3) := by decide +kernel
theorem d_KS_setRoot_87 : decode b_KS_setRoot 87 = .ok (.bipush 12, 2) := by decide +kernel
theorem d_KS_setRoot_89 : decode b_KS_setRoot 89 = .ok (.if_icmp .ne 5, 3) := by decide +kernel
theorem d_KS_setRoot_92 : decode b_KS_setRoot 92 = .ok (.iconst 0, 1) := by decide +kernel
theorem d_KS_setRoot_93 : decode b_KS_setRoot 93 = .ok (.ireturn, 1) := by decide +kernel
theorem d_KS_setRoot_94 : decode b_KS_setRoot 94 = .ok (.iload 4, 2) := by decide +kernel
theorem d_KS_setRoot_96 : decode b_KS_setRoot 96 = .ok (.ifCond .ge 19, 3) := by decide +kernel
theorem d_KS_setRoot_99 : decode b_KS_setRoot 99 = .ok (.aload_n 0, 1) := by decide +kernel
theorem d_KS_setRoot_100 : decode b_KS_setRoot 100 = .ok (.getfield 43, 3) := by decide +kernel
theorem d_KS_setRoot_103 : decode b_KS_setRoot 103 = .ok (.istore 4, 2) := by decide +kernel
theorem d_KS_setRoot_105 : decode b_KS_setRoot 105 = .ok (.aload_n 0, 1) := by decide +kernel
theorem d_KS_setRoot_106 : decode b_KS_setRoot 106 = .ok (.dup, 1) := by decide +kernel
theorem d_KS_setRoot_107 : decode b_KS_setRoot 107 = .ok (.getfield 43, 3) := by decide +kernel
theorem d_KS_setRoot_110 : decode b_KS_setRoot 110 = .ok (.iconst 1, 1) := by decide +kernel
theorem d_KS_setRoot_111 : decode b_KS_setRoot 111 = .ok (.iadd, 1) := by decide +kernel
theorem d_KS_setRoot_112 : decode b_KS_setRoot 112 = .ok (.putfield 43, 3) := by decide +kernel
theorem d_KS_setRoot_115 : decode b_KS_setRoot 115 = .ok (.aload_n 0, 1) := by decide +kernel
theorem d_KS_setRoot_116 : decode b_KS_setRoot 116 = .ok (.getfield 27, 3) := by decide +kernel
theorem d_KS_setRoot_119 : decode b_KS_setRoot 119 = .ok (.iload 4, 2) := by decide +kernel
theorem d_KS_setRoot_121 : decode b_KS_setRoot 121 = .ok (.iload_n 1, 1) := by decide +kernel
theorem d_KS_setRoot_122 : decode b_KS_setRoot 122 = .ok (.iastore, 1) := by decide +kernel
theorem d_KS_setRoot_123 : decode b_KS_setRoot 123 = .ok (.aload_n 0, 1) := by decide +kernel
theorem d_KS_setRoot_124 : decode b_KS_setRoot 124 = .ok (.getfield 30, 3) := by decide +kernel
theorem d_KS_setRoot_127 : decode b_KS_setRoot 127 = .ok (.iload 4, 2) := by decide +kernel
theorem d_KS_setRoot_129 : decode b_KS_setRoot 129 = .ok (.iload_n 2, 1) := by decide +kernel
theorem d_KS_setRoot_130 : decode b_KS_setRoot 130 = .ok (.iastore, 1) := by decide +kernel
theorem d_KS_setRoot_131 : decode b_KS_setRoot 131 = .ok (.aload_n 0, 1) := by decide +kernel
theorem d_KS_setRoot_132 : decode b_KS_setRoot 132 = .ok (.getfield 33, 3) := by decide +kernel
theorem d_KS_setRoot_135 : decode b_KS_setRoot 135 = .ok (.iload 4, 2) := by decide +kernel
theorem d_KS_setRoot_137 : decode b_KS_setRoot 137 = .ok (.iload_n 3, 1) := by decide +kernel
theorem d_KS_setRoot_138 : decode b_KS_setRoot 138 = .ok (.iastore, 1) := by decide +kernel
theorem d_KS_setRoot_139 : decode b_KS_setRoot 139 = .ok (.iconst 1, 1) := by decide +kernel
theorem d_KS_setRoot_140 : decode b_KS_setRoot 140 = .ok (.ireturn, 1) := by decide +kernel
theorem d_KS_findRoot_0 : decode b_KS_findRoot 0 = .ok (.iconst 0, 1) := by decide +kernel
theorem d_KS_findRoot_1 : decode b_KS_findRoot 1 = .ok (.istore_n 2, 1) := by decide +kernel
theorem d_KS_findRoot_2 : decode b_KS_findRoot 2 = .ok (.iload_n 2, 1) := by decide +kernel
theorem d_KS_findRoot_3 : decode b_KS_findRoot 3 = .ok (.aload_n 0, 1) := by decide +kernel
theorem d_KS_findRoot_4 : decode b_KS_findRoot 4 = .ok (.getfield 43, 3) := by decide +kernel
theorem d_KS_findRoot_7 : decode b_KS_findRoot 7 = .ok (.if_icmp .ge 21, 3) := by decide +kernel
theorem d_KS_findRoot_10 : decode b_KS_findRoot 10 = .ok (.aload_n 0, 1) := by decide +kernel
theorem d_KS_findRoot_11 : decode b_KS_findRoot 11 = .ok (.getfield 27, 3) := by decide +kernel
theorem d_KS_findRoot_14 : decode b_KS_findRoot 14 = .ok (.iload_n 2, 1) := by decide +kernel
theorem d_KS_findRoot_15 : decode b_KS_findRoot 15 = .ok (.iaload, 1) := by decide +kernel
theorem d_KS_findRoot_16 : decode b_KS_findRoot 16 = .ok (.iload_n 1, 1) := by decide +kernel
theorem d_KS_findRoot_17 : decode b_KS_findRoot 17 = .ok (.if_icmp .ne 5, 3) := by decide +kernel
theorem d_KS_findRoot_20 : decode b_KS_findRoot 20 = .ok (.iload_n 2, 1) := by decide +kernel
theorem d_KS_findRoot_21 : decode b_KS_findRoot 21 = .ok (.ireturn, 1) := by decide +kernel
theorem d_KS_findRoot_22 : decode b_KS_findRoot 22 = .ok (.iinc 2 1, 3) := by decide +kernel
theorem d_KS_findRoot_25 : decode b_KS_findRoot 25 = .ok (.goto (-23), 3) := by decide +kernel
theorem d_KS_findRoot_28 : decode b_KS_findRoot 28 = .ok (.iconst (-1), 1) := by decide +kernel
theorem d_KS_findRoot_29 : decode b_KS_findRoot 29 = .ok (.ireturn, 1) := by decide +kernel
theorem d_KS_changes_0 : decode b_KS_changes 0 = .ok (.bipush 8, 2) := by decide +kernel
theorem d_KS_changes_2 : decode b_KS_changes 2 = .ok (.bipush 6, 2) := by decide +kernel
theorem d_KS_changes_4 : decode b_KS_changes 4 = .ok (.aload_n 0, 1) := by decide +kernel
theorem d_KS_changes_5 : decode b_KS_changes 5 = .ok (.aload_n 1, 1) := by decide +kernel
theorem d_KS_changes_6 : decode b_KS_changes 6 = .ok (.invokevirtual 51, 3) := by decide +kernel
theorem d_KS_changes_9 : decode b_KS_changes 9 = .ok (.imul, 1) := by decide +kernel
theorem d_KS_changes_10 : decode b_KS_changes 10 = .ok (.iadd, 1) := by decide +kernel
theorem d_KS_changes_11 : decode b_KS_changes 11 = .ok (.istore_n 2, 1) := by decide +kernel
theorem d_KS_changes_12 : decode b_KS_changes 12 = .ok (.iconst 0, 1) := by decide +kernel
theorem d_KS_changes_13 : decode b_KS_changes 13 = .ok (.istore_n 3, 1) := by decide +kernel
theorem d_KS_changes_14 : decode b_KS_changes 14 = .ok (.iload_n 3, 1) := by decide +kernel
theorem d_KS_changes_15 : decode b_KS_changes 15 = .ok (.bipush 100, 2) := by decide +kernel
theorem d_KS_changes_17 : decode b_KS_changes 17 = .ok (.if_icmp .ge 30, 3) := by decide +kernel
theorem d_KS_changes_20 : decode b_KS_changes 20 = .ok (.aload_n 0, 1) := by decide +kernel
theorem d_KS_changes_21 : decode b_KS_changes 21 = .ok (.getfield 11, 3) := by decide +kernel
theorem d_KS_changes_24 : decode b_KS_changes 24 = .ok (.iload_n 3, 1) := by decide +kernel
theorem d_KS_changes_25 : decode b_KS_changes 25 = .ok (.iaload, 1) := by decide +kernel
theorem d_KS_changes_26 : decode b_KS_changes 26 = .ok (.ifCond .eq 15, 3) := by decide +kernel
theorem d_KS_changes_29 : decode b_KS_changes 29 = .ok (.aload_n 0, 1) := by decide +kernel
theorem d_KS_changes_30 : decode b_KS_changes 30 = .ok (.aload_n 1, 1) := by decide +kernel
theorem d_KS_changes_31 : decode b_KS_changes 31 = .ok (.iload_n 3, 1) := by decide +kernel
theorem d_KS_changes_32 : decode b_KS_changes 32 = .ok (.invokevirtual 55, 3) := by decide +kernel
theorem d_KS_changes_35 : decode b_KS_changes 35 = .ok (.ifCond .ne 6, 3) := by decide +kernel
theorem d_KS_changes_38 : decode b_KS_changes 38 = .ok (.iinc 2 16, 3) := by decide +kernel
theorem d_KS_changes_41 : decode b_KS_changes 41 = .ok (.iinc 3 1, 3) := by decide +kernel
theorem d_KS_changes_44 : decode b_KS_changes 44 = .ok (.goto (-30), 3) := by decide +kernel
theorem d_KS_changes_47 : decode b_KS_changes 47 = .ok (.iload_n 2, 1) := by decide +kernel
theorem d_KS_changes_48 : decode b_KS_changes 48 = .ok (.ireturn, 1) := by decide +kernel
theorem d_KS_rootsChanged_0 : decode b_KS_rootsChanged 0 = .ok (.iconst 0, 1) := by decide +kernel
theorem d_KS_rootsChanged_1 : decode b_KS_rootsChanged 1 = .ok (.istore_n 2, 1) := by decide +kernel
theorem d_KS_rootsChanged_2 : decode b_KS_rootsChanged 2 = .ok (.iconst 0, 1) := by decide +kernel
theorem d_KS_rootsChanged_3 : decode b_KS_rootsChanged 3 = .ok (.istore_n 3, 1) := by decide +kernel
theorem d_KS_rootsChanged_4 : decode b_KS_rootsChanged 4 = .ok (.iload_n 3, 1) := by decide +kernel
theorem d_KS_rootsChanged_5 : decode b_KS_rootsChanged 5 = .ok (.aload_n 0, 1) := by decide +kernel
theorem d_KS_rootsChanged_6 : decode b_KS_rootsChanged 6 = .ok (.getfield 43, 3) := by decide +kernel
theorem d_KS_rootsChanged_9 : decode b_KS_rootsChanged 9 = .ok (.if_icmp .ge 61, 3) := by decide +kernel
theorem d_KS_rootsChanged_12 : decode b_KS_rootsChanged 12 = .ok (.aload_n 1, 1) := by decide +kernel
theorem d_KS_rootsChanged_13 : decode b_KS_rootsChanged 13 = .ok (.aload_n 0, 1) := by decide +kernel
theorem d_KS_rootsChanged_14 : decode b_KS_rootsChanged 14 = .ok (.getfield 27, 3) := by decide +kernel
theorem d_KS_rootsChanged_17 : decode b_KS_rootsChanged 17 = .ok (.iload_n 3, 1) := by decide +kernel
theorem d_KS_rootsChanged_18 : decode b_KS_rootsChanged 18 = .ok (.iaload, 1) := by decide +kernel
theorem d_KS_rootsChanged_19 : decode b_KS_rootsChanged 19 = .ok (.invokevirtual 47, 3) := by decide +kernel
theorem d_KS_rootsChanged_22 : decode b_KS_rootsChanged 22 = .ok (.istore 4, 2) := by decide +kernel
theorem d_KS_rootsChanged_24 : decode b_KS_rootsChanged 24 = .ok (.iload 4, 2) := by decide +kernel
theorem d_KS_rootsChanged_26 : decode b_KS_rootsChanged 26 = .ok (.ifCond .lt 35, 3) := by decide +kernel
theorem d_KS_rootsChanged_29 : decode b_KS_rootsChanged 29 = .ok (.aload_n 1, 1) := by decide +kernel
theorem d_KS_rootsChanged_30 : decode b_KS_rootsChanged 30 = .ok (.getfield 30, 3) := by decide +kernel
theorem d_KS_rootsChanged_33 : decode b_KS_rootsChanged 33 = .ok (.iload 4, 2) := by decide +kernel
theorem d_KS_rootsChanged_35 : decode b_KS_rootsChanged 35 = .ok (.iaload, 1) := by decide +kernel
theorem d_KS_rootsChanged_36 : decode b_KS_rootsChanged 36 = .ok (.aload_n 0, 1) := by decide +kernel
theorem d_KS_rootsChanged_37 : decode b_KS_rootsChanged 37 = .ok (.getfield 30, 3) := by decide +kernel
theorem d_KS_rootsChanged_40 : decode b_KS_rootsChanged 40 = .ok (.iload_n 3, 1) := by decide +kernel
theorem d_KS_rootsChanged_41 : decode b_KS_rootsChanged 41 = .ok (.iaload, 1) := by decide +kernel
theorem d_KS_rootsChanged_42 : decode b_KS_rootsChanged 42 = .ok (.if_icmp .ne 19, 3) := by decide +kernel
theorem d_KS_rootsChanged_45 : decode b_KS_rootsChanged 45 = .ok (.aload_n 1, 1) := by decide +kernel
theorem d_KS_rootsChanged_46 : decode b_KS_rootsChanged 46 = .ok (.getfield 33, 3) := by decide +kernel
theorem d_KS_rootsChanged_49 : decode b_KS_rootsChanged 49 = .ok (.iload 4, 2) := by decide +kernel
theorem d_KS_rootsChanged_51 : decode b_KS_rootsChanged 51 = .ok (.iaload, 1) := by decide +kernel
theorem d_KS_rootsChanged_52 : decode b_KS_rootsChanged 52 = .ok (.aload_n 0, 1) := by decide +kernel
theorem d_KS_rootsChanged_53 : decode b_KS_rootsChanged 53 = .ok (.getfield 33, 3) := by decide +kernel
theorem d_KS_rootsChanged_56 : decode b_KS_rootsChanged 56 = .ok (.iload_n 3, 1) := by decide +kernel
theorem d_KS_rootsChanged_57 : decode b_KS_rootsChanged 57 = .ok (.iaload, 1) := by decide +kernel
theorem d_KS_rootsChanged_58 : decode b_KS_rootsChanged 58 = .ok (.if_icmp .eq 6, 3) := by decide +kernel
theorem d_KS_rootsChanged_61 : decode b_KS_rootsChanged 61 = .ok (.iinc 2 1, 3) := by decide +kernel
theorem d_KS_rootsChanged_64 : decode b_KS_rootsChanged 64 = .ok (.iinc 3 1, 3) := by decide +kernel
theorem d_KS_rootsChanged_67 : decode b_KS_rootsChanged 67 = .ok (.goto (-63), 3) := by decide +kernel
theorem d_KS_rootsChanged_70 : decode b_KS_rootsChanged 70 = .ok (.iconst 0, 1) := by decide +kernel
theorem d_KS_rootsChanged_71 : decode b_KS_rootsChanged 71 = .ok (.istore_n 3, 1) := by decide +kernel
theorem d_KS_rootsChanged_72 : decode b_KS_rootsChanged 72 = .ok (.iload_n 3, 1) := by decide +kernel
theorem d_KS_rootsChanged_73 : decode b_KS_rootsChanged 73 = .ok (.aload_n 1, 1) := by decide +kernel
theorem d_KS_rootsChanged_74 : decode b_KS_rootsChanged 74 = .ok (.getfield 43, 3) := by decide +kernel
theorem d_KS_rootsChanged_77 : decode b_KS_rootsChanged 77 = .ok (.if_icmp .ge 25, 3) := by decide +kernel
theorem d_KS_rootsChanged_80 : decode b_KS_rootsChanged 80 = .ok (.aload_n 0, 1) := by decide +kernel
theorem d_KS_rootsChanged_81 : decode b_KS_rootsChanged 81 = .ok (.aload_n 1, 1) := by decide +kernel
theorem d_KS_rootsChanged_82 : decode b_KS_rootsChanged 82 = .ok (.getfield 27, 3) := by decide +kernel
theorem d_KS_rootsChanged_85 : decode b_KS_rootsChanged 85 = .ok (.iload_n 3, 1) := by decide +kernel
theorem d_KS_rootsChanged_86 : decode b_KS_rootsChanged 86 = .ok (.iaload, 1) := by decide +kernel
theorem d_KS_rootsChanged_87 : decode b_KS_rootsChanged 87 = .ok (.invokevirtual 47, 3) := by decide +kernel
theorem d_KS_rootsChanged_90 : decode b_KS_rootsChanged 90 = .ok (.ifCond .ge 6, 3) := by decide +kernel
theorem d_KS_rootsChanged_93 : decode b_KS_rootsChanged 93 = .ok (.iinc 2 1, 3) := by decide +kernel
theorem d_KS_rootsChanged_96 : decode b_KS_rootsChanged 96 = .ok (.iinc 3 1, 3) := by decide +kernel
theorem d_KS_rootsChanged_99 : decode b_KS_rootsChanged 99 = .ok (.goto (-27), 3) := by decide +kernel
theorem d_KS_rootsChanged_102 : decode b_KS_rootsChanged 102 = .ok (.iload_n 2, 1) := by decide +kernel
theorem d_KS_rootsChanged_103 : decode b_KS_rootsChanged 103 = .ok (.ireturn, 1) := by decide +kernel
theorem d_KS_sameObject_0 : decode b_KS_sameObject 0 = .ok (.aload_n 0, 1) := by decide +kernel
theorem d_KS_sameObject_1 : decode b_KS_sameObject 1 = .ok (.getfield 11, 3) := by decide +kernel
theorem d_KS_sameObject_4 : decode b_KS_sameObject 4 = .ok (.iload_n 2, 1) := by decide +kernel
theorem d_KS_sameObject_5 : decode b_KS_sameObject 5 = .ok (.iaload, 1) := by decide +kernel
theorem d_KS_sameObject_6 : decode b_KS_sameObject 6 = .ok (.aload_n 1, 1) := by decide +kernel
theorem d_KS_sameObject_7 : decode b_KS_sameObject 7 = .ok (.getfield 11, 3) := by decide +kernel
theorem d_KS_sameObject_10 : decode b_KS_sameObject 10 = .ok (.iload_n 2, 1) := by decide +kernel
theorem d_KS_sameObject_11 : decode b_KS_sameObject 11 = .ok (.iaload, 1) := by decide +kernel
theorem d_KS_sameObject_12 : decode b_KS_sameObject 12 = .ok (.if_icmp .ne 18, 3) := by decide +kernel
theorem d_KS_sameObject_15 : decode b_KS_sameObject 15 = .ok (.aload_n 0, 1) := by decide +kernel
theorem d_KS_sameObject_16 : decode b_KS_sameObject 16 = .ok (.getfield 15, 3) := by decide +kernel
theorem d_KS_sameObject_19 : decode b_KS_sameObject 19 = .ok (.iload_n 2, 1) := by decide +kernel
theorem d_KS_sameObject_20 : decode b_KS_sameObject 20 = .ok (.iaload, 1) := by decide +kernel
theorem d_KS_sameObject_21 : decode b_KS_sameObject 21 = .ok (.aload_n 1, 1) := by decide +kernel
theorem d_KS_sameObject_22 : decode b_KS_sameObject 22 = .ok (.getfield 15, 3) := by decide +kernel
theorem d_KS_sameObject_25 : decode b_KS_sameObject 25 = .ok (.iload_n 2, 1) := by decide +kernel
theorem d_KS_sameObject_26 : decode b_KS_sameObject 26 = .ok (.iaload, 1) := by decide +kernel
theorem d_KS_sameObject_27 : decode b_KS_sameObject 27 = .ok (.if_icmp .eq 5, 3) := by decide +kernel
theorem d_KS_sameObject_30 : decode b_KS_sameObject 30 = .ok (.iconst 0, 1) := by decide +kernel
theorem d_KS_sameObject_31 : decode b_KS_sameObject 31 = .ok (.ireturn, 1) := by decide +kernel
theorem d_KS_sameObject_32 : decode b_KS_sameObject 32 = .ok (.iload_n 2, 1) := by decide +kernel
theorem d_KS_sameObject_33 : decode b_KS_sameObject 33 = .ok (.bipush 20, 2) := by decide +kernel
theorem d_KS_sameObject_35 : decode b_KS_sameObject 35 = .ok (.imul, 1) := by decide +kernel
theorem d_KS_sameObject_36 : decode b_KS_sameObject 36 = .ok (.istore_n 3, 1) := by decide +kernel
theorem d_KS_sameObject_37 : decode b_KS_sameObject 37 = .ok (.iload_n 3, 1) := by decide +kernel
theorem d_KS_sameObject_38 : decode b_KS_sameObject 38 = .ok (.iload_n 2, 1) := by decide +kernel
theorem d_KS_sameObject_39 : decode b_KS_sameObject 39 = .ok (.bipush 20, 2) := by decide +kernel
theorem d_KS_sameObject_41 : decode b_KS_sameObject 41 = .ok (.imul, 1) := by decide +kernel
theorem d_KS_sameObject_42 : decode b_KS_sameObject 42 = .ok (.aload_n 0, 1) := by decide +kernel
theorem d_KS_sameObject_43 : decode b_KS_sameObject 43 = .ok (.getfield 15, 3) := by decide +kernel
theorem d_KS_sameObject_46 : decode b_KS_sameObject 46 = .ok (.iload_n 2, 1) := by decide +kernel
theorem d_KS_sameObject_47 : decode b_KS_sameObject 47 = .ok (.iaload, 1) := by decide +kernel
theorem d_KS_sameObject_48 : decode b_KS_sameObject 48 = .ok (.iadd, 1) := by decide +kernel
theorem d_KS_sameObject_49 : decode b_KS_sameObject 49 = .ok (.if_icmp .ge 56, 3) := by decide +kernel
theorem d_KS_sameObject_52 : decode b_KS_sameObject 52 = .ok (.aload_n 0, 1) := by decide +kernel
theorem d_KS_sameObject_53 : decode b_KS_sameObject 53 = .ok (.getfield 18, 3) := by decide +kernel
theorem d_KS_sameObject_56 : decode b_KS_sameObject 56 = .ok (.iload_n 3, 1) := by decide +kernel
theorem d_KS_sameObject_57 : decode b_KS_sameObject 57 = .ok (.iaload, 1) := by decide +kernel
theorem d_KS_sameObject_58 : decode b_KS_sameObject 58 = .ok (.aload_n 1, 1) := by decide +kernel
theorem d_KS_sameObject_59 : decode b_KS_sameObject 59 = .ok (.getfield 18, 3) := by decide +kernel
theorem d_KS_sameObject_62 : decode b_KS_sameObject 62 = .ok (.iload_n 3, 1) := by decide +kernel
theorem d_KS_sameObject_63 : decode b_KS_sameObject 63 = .ok (.iaload, 1) := by decide +kernel
theorem d_KS_sameObject_64 : decode b_KS_sameObject 64 = .ok (.if_icmp .ne 33, 3) := by decide +kernel
theorem d_KS_sameObject_67 : decode b_KS_sameObject 67 = .ok (.aload_n 0, 1) := by decide +kernel
theorem d_KS_sameObject_68 : decode b_KS_sameObject 68 = .ok (.getfield 21, 3) := by decide +kernel
theorem d_KS_sameObject_71 : decode b_KS_sameObject 71 = .ok (.iload_n 3, 1) := by decide +kernel
theorem d_KS_sameObject_72 : decode b_KS_sameObject 72 = .ok (.iaload, 1) := by decide +kernel
theorem d_KS_sameObject_73 : decode b_KS_sameObject 73 = .ok (.aload_n 1, 1) := by decide +kernel
theorem d_KS_sameObject_74 : decode b_KS_sameObject 74 = .ok (.getfield 21, 3) := by decide +kernel
theorem d_KS_sameObject_77 : decode b_KS_sameObject 77 = .ok (.iload_n 3, 1) := by decide +kernel
theorem d_KS_sameObject_78 : decode b_KS_sameObject 78 = .ok (.iaload, 1) := by decide +kernel
theorem d_KS_sameObject_79 : decode b_KS_sameObject 79 = .ok (.if_icmp .ne 18, 3) := by decide +kernel
theorem d_KS_sameObject_82 : decode b_KS_sameObject 82 = .ok (.aload_n 0, 1) := by decide +kernel
theorem d_KS_sameObject_83 : decode b_KS_sameObject 83 = .ok (.getfield 24, 3) := by decide +kernel
theorem d_KS_sameObject_86 : decode b_KS_sameObject 86 = .ok (.iload_n 3, 1) := by decide +kernel
theorem d_KS_sameObject_87 : decode b_KS_sameObject 87 = .ok (.iaload, 1) := by decide +kernel
theorem d_KS_sameObject_88 : decode b_KS_sameObject 88 = .ok (.aload_n 1, 1) := by decide +kernel
theorem d_KS_sameObject_89 : decode b_KS_sameObject 89 = .ok (.getfield 24, 3) := by decide +kernel
theorem d_KS_sameObject_92 : decode b_KS_sameObject 92 = .ok (.iload_n 3, 1) := by decide +kernel
theorem d_KS_sameObject_93 : decode b_KS_sameObject 93 = .ok (.iaload, 1) := by decide +kernel
theorem d_KS_sameObject_94 : decode b_KS_sameObject 94 = .ok (.if_icmp .eq 5, 3) := by decide +kernel
theorem d_KS_sameObject_97 : decode b_KS_sameObject 97 = .ok (.iconst 0, 1) := by decide +kernel
theorem d_KS_sameObject_98 : decode b_KS_sameObject 98 = .ok (.ireturn, 1) := by decide +kernel
theorem d_KS_sameObject_99 : decode b_KS_sameObject 99 = .ok (.iinc 3 1, 3) := by decide +kernel
theorem d_KS_sameObject_102 : decode b_KS_sameObject 102 = .ok (.goto (-65), 3) := by decide +kernel
theorem d_KS_sameObject_105 : decode b_KS_sameObject 105 = .ok (.iconst 1, 1) := by decide +kernel
theorem d_KS_sameObject_106 : decode b_KS_sameObject 106 = .ok (.ireturn, 1) := by decide +kernel
theorem d_KS_copy_0 : decode b_KS_copy 0 = .ok (.iconst 0, 1) := by decide +kernel
theorem d_KS_copy_1 : decode b_KS_copy 1 = .ok (.istore_n 2, 1) := by decide +kernel
theorem d_KS_copy_2 : decode b_KS_copy 2 = .ok (.iload_n 2, 1) := by decide +kernel
theorem d_KS_copy_3 : decode b_KS_copy 3 = .ok (.bipush 100, 2) := by decide +kernel
theorem d_KS_copy_5 : decode b_KS_copy 5 = .ok (.if_icmp .ge 95, 3) := by decide +kernel
theorem d_KS_copy_8 : decode b_KS_copy 8 = .ok (.aload_n 0, 1) := by decide +kernel
theorem d_KS_copy_9 : decode b_KS_copy 9 = .ok (.getfield 11, 3) := by decide +kernel
theorem d_KS_copy_12 : decode b_KS_copy 12 = .ok (.iload_n 2, 1) := by decide +kernel
theorem d_KS_copy_13 : decode b_KS_copy 13 = .ok (.aload_n 1, 1) := by decide +kernel
theorem d_KS_copy_14 : decode b_KS_copy 14 = .ok (.getfield 11, 3) := by decide +kernel
theorem d_KS_copy_17 : decode b_KS_copy 17 = .ok (.iload_n 2, 1) := by decide +kernel
theorem d_KS_copy_18 : decode b_KS_copy 18 = .ok (.iaload, 1) := by decide +kernel
theorem d_KS_copy_19 : decode b_KS_copy 19 = .ok (.iastore, 1) := by decide +kernel
theorem d_KS_copy_20 : decode b_KS_copy 20 = .ok (.aload_n 0, 1) := by decide +kernel
theorem d_KS_copy_21 : decode b_KS_copy 21 = .ok (.getfield 15, 3) := by decide +kernel
theorem d_KS_copy_24 : decode b_KS_copy 24 = .ok (.iload_n 2, 1) := by decide +kernel
theorem d_KS_copy_25 : decode b_KS_copy 25 = .ok (.aload_n 1, 1) := by decide +kernel
theorem d_KS_copy_26 : decode b_KS_copy 26 = .ok (.getfield 15, 3) := by decide +kernel
theorem d_KS_copy_29 : decode b_KS_copy 29 = .ok (.iload_n 2, 1) := by decide +kernel
theorem d_KS_copy_30 : decode b_KS_copy 30 = .ok (.iaload, 1) := by decide +kernel
theorem d_KS_copy_31 : decode b_KS_copy 31 = .ok (.iastore, 1) := by decide +kernel
theorem d_KS_copy_32 : decode b_KS_copy 32 = .ok (.iload_n 2, 1) := by decide +kernel
theorem d_KS_copy_33 : decode b_KS_copy 33 = .ok (.bipush 20, 2) := by decide +kernel
theorem d_KS_copy_35 : decode b_KS_copy 35 = .ok (.imul, 1) := by decide +kernel
theorem d_KS_copy_36 : decode b_KS_copy 36 = .ok (.istore_n 3, 1) := by decide +kernel
theorem d_KS_copy_37 : decode b_KS_copy 37 = .ok (.iload_n 3, 1) := by decide +kernel
theorem d_KS_copy_38 : decode b_KS_copy 38 = .ok (.iload_n 2, 1) := by decide +kernel
theorem d_KS_copy_39 : decode b_KS_copy 39 = .ok (.bipush 20, 2) := by decide +kernel
theorem d_KS_copy_41 : decode b_KS_copy 41 = .ok (.imul, 1) := by decide +kernel
theorem d_KS_copy_42 : decode b_KS_copy 42 = .ok (.aload_n 0, 1) := by decide +kernel
theorem d_KS_copy_43 : decode b_KS_copy 43 = .ok (.getfield 15, 3) := by decide +kernel
theorem d_KS_copy_46 : decode b_KS_copy 46 = .ok (.iload_n 2, 1) := by decide +kernel
theorem d_KS_copy_47 : decode b_KS_copy 47 = .ok (.iaload, 1) := by decide +kernel
theorem d_KS_copy_48 : decode b_KS_copy 48 = .ok (.iadd, 1) := by decide +kernel
theorem d_KS_copy_49 : decode b_KS_copy 49 = .ok (.if_icmp .ge 45, 3) := by decide +kernel
theorem d_KS_copy_52 : decode b_KS_copy 52 = .ok (.aload_n 0, 1) := by decide +kernel
theorem d_KS_copy_53 : decode b_KS_copy 53 = .ok (.getfield 18, 3) := by decide +kernel
theorem d_KS_copy_56 : decode b_KS_copy 56 = .ok (.iload_n 3, 1) := by decide +kernel
theorem d_KS_copy_57 : decode b_KS_copy 57 = .ok (.aload_n 1, 1) := by decide +kernel
theorem d_KS_copy_58 : decode b_KS_copy 58 = .ok (.getfield 18, 3) := by decide +kernel
theorem d_KS_copy_61 : decode b_KS_copy 61 = .ok (.iload_n 3, 1) := by decide +kernel
theorem d_KS_copy_62 : decode b_KS_copy 62 = .ok (.iaload, 1) := by decide +kernel
theorem d_KS_copy_63 : decode b_KS_copy 63 = .ok (.iastore, 1) := by decide +kernel
theorem d_KS_copy_64 : decode b_KS_copy 64 = .ok (.aload_n 0, 1) := by decide +kernel
theorem d_KS_copy_65 : decode b_KS_copy 65 = .ok (.getfield 21, 3) := by decide +kernel
theorem d_KS_copy_68 : decode b_KS_copy 68 = .ok (.iload_n 3, 1) := by decide +kernel
theorem d_KS_copy_69 : decode b_KS_copy 69 = .ok (.aload_n 1, 1) := by decide +kernel
theorem d_KS_copy_70 : decode b_KS_copy 70 = .ok (.getfield 21, 3) := by decide +kernel
theorem d_KS_copy_73 : decode b_KS_copy 73 = .ok (.iload_n 3, 1) := by decide +kernel
theorem d_KS_copy_74 : decode b_KS_copy 74 = .ok (.iaload, 1) := by decide +kernel
theorem d_KS_copy_75 : decode b_KS_copy 75 = .ok (.iastore, 1) := by decide +kernel
theorem d_KS_copy_76 : decode b_KS_copy 76 = .ok (.aload_n 0, 1) := by decide +kernel
theorem d_KS_copy_77 : decode b_KS_copy 77 = .ok (.getfield 24, 3) := by decide +kernel
theorem d_KS_copy_80 : decode b_KS_copy 80 = .ok (.iload_n 3, 1) := by decide +kernel
theorem d_KS_copy_81 : decode b_KS_copy 81 = .ok (.aload_n 1, 1) := by decide +kernel
theorem d_KS_copy_82 : decode b_KS_copy 82 = .ok (.getfield 24, 3) := by decide +kernel
theorem d_KS_copy_85 : decode b_KS_copy 85 = .ok (.iload_n 3, 1) := by decide +kernel
theorem d_KS_copy_86 : decode b_KS_copy 86 = .ok (.iaload, 1) := by decide +kernel
theorem d_KS_copy_87 : decode b_KS_copy 87 = .ok (.iastore, 1) := by decide +kernel
theorem d_KS_copy_88 : decode b_KS_copy 88 = .ok (.iinc 3 1, 3) := by decide +kernel
theorem d_KS_copy_91 : decode b_KS_copy 91 = .ok (.goto (-54), 3) := by decide +kernel
theorem d_KS_copy_94 : decode b_KS_copy 94 = .ok (.iinc 2 1, 3) := by decide +kernel
theorem d_KS_copy_97 : decode b_KS_copy 97 = .ok (.goto (-95), 3) := by decide +kernel
theorem d_KS_copy_100 : decode b_KS_copy 100 = .ok (.aload_n 0, 1) := by decide +kernel
theorem d_KS_copy_101 : decode b_KS_copy 101 = .ok (.aload_n 1, 1) := by decide +kernel
theorem d_KS_copy_102 : decode b_KS_copy 102 = .ok (.getfield 43, 3) := by decide +kernel
theorem d_KS_copy_105 : decode b_KS_copy 105 = .ok (.putfield 43, 3) := by decide +kernel
theorem d_KS_copy_108 : decode b_KS_copy 108 = .ok (.iconst 0, 1) := by decide +kernel
theorem d_KS_copy_109 : decode b_KS_copy 109 = .ok (.istore_n 2, 1) := by decide +kernel
theorem d_KS_copy_110 : decode b_KS_copy 110 = .ok (.iload_n 2, 1) := by decide +kernel
theorem d_KS_copy_111 : decode b_KS_copy 111 = .ok (.aload_n 0, 1) := by decide +kernel
theorem d_KS_copy_112 : decode b_KS_copy 112 = .ok (.getfield 43, 3) := by decide +kernel
theorem d_KS_copy_115 : decode b_KS_copy 115 = .ok (.if_icmp .ge 45, 3) := by decide +kernel
theorem d_KS_copy_118 : decode b_KS_copy 118 = .ok (.aload_n 0, 1) := by decide +kernel
theorem d_KS_copy_119 : decode b_KS_copy 119 = .ok (.getfield 27, 3) := by decide +kernel
theorem d_KS_copy_122 : decode b_KS_copy 122 = .ok (.iload_n 2, 1) := by decide +kernel
theorem d_KS_copy_123 : decode b_KS_copy 123 = .ok (.aload_n 1, 1) := by decide +kernel
theorem d_KS_copy_124 : decode b_KS_copy 124 = .ok (.getfield 27, 3) := by decide +kernel
theorem d_KS_copy_127 : decode b_KS_copy 127 = .ok (.iload_n 2, 1) := by decide +kernel
theorem d_KS_copy_128 : decode b_KS_copy 128 = .ok (.iaload, 1) := by decide +kernel
theorem d_KS_copy_129 : decode b_KS_copy 129 = .ok (.iastore, 1) := by decide +kernel
theorem d_KS_copy_130 : decode b_KS_copy 130 = .ok (.aload_n 0, 1) := by decide +kernel
theorem d_KS_copy_131 : decode b_KS_copy 131 = .ok (.getfield 30, 3) := by decide +kernel
theorem d_KS_copy_134 : decode b_KS_copy 134 = .ok (.iload_n 2, 1) := by decide +kernel
theorem d_KS_copy_135 : decode b_KS_copy 135 = .ok (.aload_n 1, 1) := by decide +kernel
theorem d_KS_copy_136 : decode b_KS_copy 136 = .ok (.getfield 30, 3) := by decide +kernel
theorem d_KS_copy_139 : decode b_KS_copy 139 = .ok (.iload_n 2, 1) := by decide +kernel
theorem d_KS_copy_140 : decode b_KS_copy 140 = .ok (.iaload, 1) := by decide +kernel
theorem d_KS_copy_141 : decode b_KS_copy 141 = .ok (.iastore, 1) := by decide +kernel
theorem d_KS_copy_142 : decode b_KS_copy 142 = .ok (.aload_n 0, 1) := by decide +kernel
theorem d_KS_copy_143 : decode b_KS_copy 143 = .ok (.getfield 33, 3) := by decide +kernel
theorem d_KS_copy_146 : decode b_KS_copy 146 = .ok (.iload_n 2, 1) := by decide +kernel
theorem d_KS_copy_147 : decode b_KS_copy 147 = .ok (.aload_n 1, 1) := by decide +kernel
theorem d_KS_copy_148 : decode b_KS_copy 148 = .ok (.getfield 33, 3) := by decide +kernel
theorem d_KS_copy_151 : decode b_KS_copy 151 = .ok (.iload_n 2, 1) := by decide +kernel
theorem d_KS_copy_152 : decode b_KS_copy 152 = .ok (.iaload, 1) := by decide +kernel
theorem d_KS_copy_153 : decode b_KS_copy 153 = .ok (.iastore, 1) := by decide +kernel
theorem d_KS_copy_154 : decode b_KS_copy 154 = .ok (.iinc 2 1, 3) := by decide +kernel
theorem d_KS_copy_157 : decode b_KS_copy 157 = .ok (.goto (-47), 3) := by decide +kernel
theorem d_KS_copy_160 : decode b_KS_copy 160 = .ok (.return_, 1) := by decide +kernel
theorem d_KS_sweep_0 : decode b_KS_sweep 0 = .ok (.iconst 0, 1) := by decide +kernel
theorem d_KS_sweep_1 : decode b_KS_sweep 1 = .ok (.istore_n 1, 1) := by decide +kernel
theorem d_KS_sweep_2 : decode b_KS_sweep 2 = .ok (.iload_n 1, 1) := by decide +kernel
theorem d_KS_sweep_3 : decode b_KS_sweep 3 = .ok (.bipush 100, 2) := by decide +kernel
theorem d_KS_sweep_5 : decode b_KS_sweep 5 = .ok (.if_icmp .ge 16, 3) := by decide +kernel
theorem d_KS_sweep_8 : decode b_KS_sweep 8 = .ok (.aload_n 0, 1) := by decide +kernel
theorem d_KS_sweep_9 : decode b_KS_sweep 9 = .ok (.getfield 36, 3) := by decide +kernel
theorem d_KS_sweep_12 : decode b_KS_sweep 12 = .ok (.iload_n 1, 1) := by decide +kernel
theorem d_KS_sweep_13 : decode b_KS_sweep 13 = .ok (.iconst 0, 1) := by decide +kernel
theorem d_KS_sweep_14 : decode b_KS_sweep 14 = .ok (.bastore, 1) := by decide +kernel
theorem d_KS_sweep_15 : decode b_KS_sweep 15 = .ok (.iinc 1 1, 3) := by decide +kernel
theorem d_KS_sweep_18 : decode b_KS_sweep 18 = .ok (.goto (-16), 3) := by decide +kernel
theorem d_KS_sweep_21 : decode b_KS_sweep 21 = .ok (.aload_n 0, 1) := by decide +kernel
theorem d_KS_sweep_22 : decode b_KS_sweep 22 = .ok (.iconst 0, 1) := by decide +kernel
theorem d_KS_sweep_23 : decode b_KS_sweep 23 = .ok (.putfield 67, 3) := by decide +kernel
theorem d_KS_sweep_26 : decode b_KS_sweep 26 = .ok (.iconst 0, 1) := by decide +kernel
theorem d_KS_sweep_27 : decode b_KS_sweep 27 = .ok (.istore_n 1, 1) := by decide +kernel
theorem d_KS_sweep_28 : decode b_KS_sweep 28 = .ok (.iload_n 1, 1) := by decide +kernel
theorem d_KS_sweep_29 : decode b_KS_sweep 29 = .ok (.aload_n 0, 1) := by decide +kernel
theorem d_KS_sweep_30 : decode b_KS_sweep 30 = .ok (.getfield 43, 3) := by decide +kernel
theorem d_KS_sweep_33 : decode b_KS_sweep 33 = .ok (.if_icmp .ge 25, 3) := by decide +kernel
theorem d_KS_sweep_36 : decode b_KS_sweep 36 = .ok (.aload_n 0, 1) := by decide +kernel
theorem d_KS_sweep_37 : decode b_KS_sweep 37 = .ok (.aload_n 0, 1) := by decide +kernel
theorem d_KS_sweep_38 : decode b_KS_sweep 38 = .ok (.getfield 30, 3) := by decide +kernel
theorem d_KS_sweep_41 : decode b_KS_sweep 41 = .ok (.iload_n 1, 1) := by decide +kernel
theorem d_KS_sweep_42 : decode b_KS_sweep 42 = .ok (.iaload, 1) := by decide +kernel
theorem d_KS_sweep_43 : decode b_KS_sweep 43 = .ok (.aload_n 0, 1) := by decide +kernel
theorem d_KS_sweep_44 : decode b_KS_sweep 44 = .ok (.getfield 33, 3) := by decide +kernel
theorem d_KS_sweep_47 : decode b_KS_sweep 47 = .ok (.iload_n 1, 1) := by decide +kernel
theorem d_KS_sweep_48 : decode b_KS_sweep 48 = .ok (.iaload, 1) := by decide +kernel
theorem d_KS_sweep_49 : decode b_KS_sweep 49 = .ok (.invokevirtual 70, 3) := by decide +kernel
theorem d_KS_sweep_52 : decode b_KS_sweep 52 = .ok (.iinc 1 1, 3) := by decide +kernel
theorem d_KS_sweep_55 : decode b_KS_sweep 55 = .ok (.goto (-27), 3) := by decide +kernel
theorem d_KS_sweep_58 : decode b_KS_sweep 58 = .ok (.aload_n 0, 1) := by decide +kernel
theorem d_KS_sweep_59 : decode b_KS_sweep 59 = .ok (.getfield 67, 3) := by decide +kernel
theorem d_KS_sweep_62 : decode b_KS_sweep 62 = .ok (.ifCond .le 68, 3) := by decide +kernel
theorem d_KS_sweep_65 : decode b_KS_sweep 65 = .ok (.aload_n 0, 1) := by decide +kernel
theorem d_KS_sweep_66 : decode b_KS_sweep 66 = .ok (.dup, 1) := by decide +kernel
theorem d_KS_sweep_67 : decode b_KS_sweep 67 = .ok (.getfield 67, 3) := by decide +kernel
theorem d_KS_sweep_70 : decode b_KS_sweep 70 = .ok (.iconst 1, 1) := by decide +kernel
theorem d_KS_sweep_71 : decode b_KS_sweep 71 = .ok (.isub, 1) := by decide +kernel
theorem d_KS_sweep_72 : decode b_KS_sweep 72 = .ok (.putfield 67, 3) := by decide +kernel
theorem d_KS_sweep_75 : decode b_KS_sweep 75 = .ok (.aload_n 0, 1) := by decide +kernel
theorem d_KS_sweep_76 : decode b_KS_sweep 76 = .ok (.getfield 40, 3) := by decide +kernel
theorem d_KS_sweep_79 : decode b_KS_sweep 79 = .ok (.aload_n 0, 1) := by decide +kernel
theorem d_KS_sweep_80 : decode b_KS_sweep 80 = .ok (.getfield 67, 3) := by decide +kernel
theorem d_KS_sweep_83 : decode b_KS_sweep 83 = .ok (.iaload, 1) := by decide +kernel
theorem d_KS_sweep_84 : decode b_KS_sweep 84 = .ok (.istore_n 1, 1) := by decide +kernel
theorem d_KS_sweep_85 : decode b_KS_sweep 85 = .ok (.iload_n 1, 1) := by decide +kernel
theorem d_KS_sweep_86 : decode b_KS_sweep 86 = .ok (.bipush 20, 2) := by decide +kernel
theorem d_KS_sweep_88 : decode b_KS_sweep 88 = .ok (.imul, 1) := by decide +kernel
theorem d_KS_sweep_89 : decode b_KS_sweep 89 = .ok (.istore_n 2, 1) := by decide +kernel
theorem d_KS_sweep_90 : decode b_KS_sweep 90 = .ok (.iload_n 2, 1) := by decide +kernel
theorem d_KS_sweep_91 : decode b_KS_sweep 91 = .ok (.iload_n 1, 1) := by decide +kernel
theorem d_KS_sweep_92 : decode b_KS_sweep 92 = .ok (.bipush 20, 2) := by decide +kernel
theorem d_KS_sweep_94 : decode b_KS_sweep 94 = .ok (.imul, 1) := by decide +kernel
theorem d_KS_sweep_95 : decode b_KS_sweep 95 = .ok (.aload_n 0, 1) := by decide +kernel
theorem d_KS_sweep_96 : decode b_KS_sweep 96 = .ok (.getfield 15, 3) := by decide +kernel
theorem d_KS_sweep_99 : decode b_KS_sweep 99 = .ok (.iload_n 1, 1) := by decide +kernel
theorem d_KS_sweep_100 : decode b_KS_sweep 100 = .ok (.iaload, 1) := by decide +kernel
theorem d_KS_sweep_101 : decode b_KS_sweep 101 = .ok (.iadd, 1) := by decide +kernel
theorem d_KS_sweep_102 : decode b_KS_sweep 102 = .ok (.if_icmp .ge 25, 3) := by decide +kernel
theorem d_KS_sweep_105 : decode b_KS_sweep 105 = .ok (.aload_n 0, 1) := by decide +kernel
theorem d_KS_sweep_106 : decode b_KS_sweep 106 = .ok (.aload_n 0, 1) := by decide +kernel
theorem d_KS_sweep_107 : decode b_KS_sweep 107 = .ok (.getfield 21, 3) := by decide +kernel
theorem d_KS_sweep_110 : decode b_KS_sweep 110 = .ok (.iload_n 2, 1) := by decide +kernel
theorem d_KS_sweep_111 : decode b_KS_sweep 111 = .ok (.iaload, 1) := by decide +kernel
theorem d_KS_sweep_112 : decode b_KS_sweep 112 = .ok (.aload_n 0, 1) := by decide +kernel
theorem d_KS_sweep_113 : decode b_KS_sweep 113 = .ok (.getfield 24, 3) := by decide +kernel
theorem d_KS_sweep_116 : decode b_KS_sweep 116 = .ok (.iload_n 2, 1) := by decide +kernel
theorem d_KS_sweep_117 : decode b_KS_sweep 117 = .ok (.iaload, 1) := by decide +kernel
theorem d_KS_sweep_118 : decode b_KS_sweep 118 = .ok (.invokevirtual 70, 3) := by decide +kernel
theorem d_KS_sweep_121 : decode b_KS_sweep 121 = .ok (.iinc 2 1, 3) := by decide +kernel
theorem d_KS_sweep_124 : decode b_KS_sweep 124 = .ok (.goto (-34), 3) := by decide +kernel
theorem d_KS_sweep_127 : decode b_KS_sweep 127 = .ok (.goto (-69), 3) := by decide +kernel
theorem d_KS_sweep_130 : decode b_KS_sweep 130 = .ok (.iconst 0, 1) := by decide +kernel
theorem d_KS_sweep_131 : decode b_KS_sweep 131 = .ok (.istore_n 1, 1) := by decide +kernel
theorem d_KS_sweep_132 : decode b_KS_sweep 132 = .ok (.iconst 0, 1) := by decide +kernel
theorem d_KS_sweep_133 : decode b_KS_sweep 133 = .ok (.istore_n 2, 1) := by decide +kernel
theorem d_KS_sweep_134 : decode b_KS_sweep 134 = .ok (.iload_n 2, 1) := by decide +kernel
theorem d_KS_sweep_135 : decode b_KS_sweep 135 = .ok (.bipush 100, 2) := by decide +kernel
theorem d_KS_sweep_137 : decode b_KS_sweep 137 = .ok (.if_icmp .ge 47, 3) := by decide +kernel
theorem d_KS_sweep_140 : decode b_KS_sweep 140 = .ok (.aload_n 0, 1) := by decide +kernel
theorem d_KS_sweep_141 : decode b_KS_sweep 141 = .ok (.getfield 11, 3) := by decide +kernel
theorem d_KS_sweep_144 : decode b_KS_sweep 144 = .ok (.iload_n 2, 1) := by decide +kernel
theorem d_KS_sweep_145 : decode b_KS_sweep 145 = .ok (.iaload, 1) := by decide +kernel
theorem d_KS_sweep_146 : decode b_KS_sweep 146 = .ok (.ifCond .eq 32, 3) := by decide +kernel
theorem d_KS_sweep_149 : decode b_KS_sweep 149 = .ok (.aload_n 0, 1) := by decide +kernel
theorem d_KS_sweep_150 : decode b_KS_sweep 150 = .ok (.getfield 36, 3) := by decide +kernel
theorem d_KS_sweep_153 : decode b_KS_sweep 153 = .ok (.iload_n 2, 1) := by decide +kernel
theorem d_KS_sweep_154 : decode b_KS_sweep 154 = .ok (.baload, 1) := by decide +kernel
theorem d_KS_sweep_155 : decode b_KS_sweep 155 = .ok (.ifCond .eq 6, 3) := by decide +kernel
theorem d_KS_sweep_158 : decode b_KS_sweep 158 = .ok (.goto 20, 3) := by decide +kernel
theorem d_KS_sweep_161 : decode b_KS_sweep 161 = .ok (.aload_n 0, 1) := by decide +kernel
theorem d_KS_sweep_162 : decode b_KS_sweep 162 = .ok (.getfield 11, 3) := by decide +kernel
theorem d_KS_sweep_165 : decode b_KS_sweep 165 = .ok (.iload_n 2, 1) := by decide +kernel
theorem d_KS_sweep_166 : decode b_KS_sweep 166 = .ok (.iconst 0, 1) := by decide +kernel
theorem d_KS_sweep_167 : decode b_KS_sweep 167 = .ok (.iastore, 1) := by decide +kernel
theorem d_KS_sweep_168 : decode b_KS_sweep 168 = .ok (.aload_n 0, 1) := by decide +kernel
theorem d_KS_sweep_169 : decode b_KS_sweep 169 = .ok (.getfield 15, 3) := by decide +kernel
theorem d_KS_sweep_172 : decode b_KS_sweep 172 = .ok (.iload_n 2, 1) := by decide +kernel
theorem d_KS_sweep_173 : decode b_KS_sweep 173 = .ok (.iconst 0, 1) := by decide +kernel
theorem d_KS_sweep_174 : decode b_KS_sweep 174 = .ok (.iastore, 1) := by decide +kernel
theorem d_KS_sweep_175 : decode b_KS_sweep 175 = .ok (.iinc 1 1, 3) := by decide +kernel
theorem d_KS_sweep_178 : decode b_KS_sweep 178 = .ok (.iinc 2 1, 3) := by decide +kernel
theorem d_KS_sweep_181 : decode b_KS_sweep 181 = .ok (.goto (-47), 3) := by decide +kernel
theorem d_KS_sweep_184 : decode b_KS_sweep 184 = .ok (.iload_n 1, 1) := by decide +kernel
theorem d_KS_sweep_185 : decode b_KS_sweep 185 = .ok (.ireturn, 1) := by decide +kernel
theorem d_KS_reach_0 : decode b_KS_reach 0 = .ok (.iload_n 1, 1) := by decide +kernel
theorem d_KS_reach_1 : decode b_KS_reach 1 = .ok (.iconst 2, 1) := by decide +kernel
theorem d_KS_reach_2 : decode b_KS_reach 2 = .ok (.if_icmp .ne 12, 3) := by decide +kernel
theorem d_KS_reach_5 : decode b_KS_reach 5 = .ok (.aload_n 0, 1) := by decide +kernel
theorem d_KS_reach_6 : decode b_KS_reach 6 = .ok (.getfield 36, 3) := by decide +kernel
theorem d_KS_reach_9 : decode b_KS_reach 9 = .ok (.iload_n 2, 1) := by decide +kernel
theorem d_KS_reach_10 : decode b_KS_reach 10 = .ok (.baload, 1) := by decide +kernel
theorem d_KS_reach_11 : decode b_KS_reach 11 = .ok (.ifCond .eq 4, 3) := by decide +kernel
theorem d_KS_reach_14 : decode b_KS_reach 14 = .ok (.return_, 1) := by decide +kernel
theorem d_KS_reach_15 : decode b_KS_reach 15 = .ok (.aload_n 0, 1) := by decide +kernel
theorem d_KS_reach_16 : decode b_KS_reach 16 = .ok (.getfield 36, 3) := by decide +kernel
theorem d_KS_reach_19 : decode b_KS_reach 19 = .ok (.iload_n 2, 1) := by decide +kernel
theorem d_KS_reach_20 : decode b_KS_reach 20 = .ok (.iconst 1, 1) := by decide +kernel
theorem d_KS_reach_21 : decode b_KS_reach 21 = .ok (.bastore, 1) := by decide +kernel
theorem d_KS_reach_22 : decode b_KS_reach 22 = .ok (.aload_n 0, 1) := by decide +kernel
theorem d_KS_reach_23 : decode b_KS_reach 23 = .ok (.getfield 40, 3) := by decide +kernel
theorem d_KS_reach_26 : decode b_KS_reach 26 = .ok (.aload_n 0, 1) := by decide +kernel
theorem d_KS_reach_27 : decode b_KS_reach 27 = .ok (.getfield 67, 3) := by decide +kernel
theorem d_KS_reach_30 : decode b_KS_reach 30 = .ok (.iload_n 2, 1) := by decide +kernel
theorem d_KS_reach_31 : decode b_KS_reach 31 = .ok (.iastore, 1) := by decide +kernel
theorem d_KS_reach_32 : decode b_KS_reach 32 = .ok (.aload_n 0, 1) := by decide +kernel
theorem d_KS_reach_33 : decode b_KS_reach 33 = .ok (.dup, 1) := by decide +kernel
theorem d_KS_reach_34 : decode b_KS_reach 34 = .ok (.getfield 67, 3) := by decide +kernel
theorem d_KS_reach_37 : decode b_KS_reach 37 = .ok (.iconst 1, 1) := by decide +kernel
theorem d_KS_reach_38 : decode b_KS_reach 38 = .ok (.iadd, 1) := by decide +kernel
theorem d_KS_reach_39 : decode b_KS_reach 39 = .ok (.putfield 67, 3) := by decide +kernel
theorem d_KS_reach_42 : decode b_KS_reach 42 = .ok (.return_, 1) := by decide +kernel
theorem d_KS_objects_0 : decode b_KS_objects 0 = .ok (.iconst 0, 1) := by decide +kernel
theorem d_KS_objects_1 : decode b_KS_objects 1 = .ok (.istore_n 1, 1) := by decide +kernel
theorem d_KS_objects_2 : decode b_KS_objects 2 = .ok (.iconst 0, 1) := by decide +kernel
theorem d_KS_objects_3 : decode b_KS_objects 3 = .ok (.istore_n 2, 1) := by decide +kernel
theorem d_KS_objects_4 : decode b_KS_objects 4 = .ok (.iload_n 2, 1) := by decide +kernel
theorem d_KS_objects_5 : decode b_KS_objects 5 = .ok (.bipush 100, 2) := by decide +kernel
theorem d_KS_objects_7 : decode b_KS_objects 7 = .ok (.if_icmp .ge 26, 3) := by decide +kernel
theorem d_KS_objects_10 : decode b_KS_objects 10 = .ok (.iload_n 1, 1) := by decide +kernel
theorem d_KS_objects_11 : decode b_KS_objects 11 = .ok (.aload_n 0, 1) := by decide +kernel
theorem d_KS_objects_12 : decode b_KS_objects 12 = .ok (.getfield 11, 3) := by decide +kernel
theorem d_KS_objects_15 : decode b_KS_objects 15 = .ok (.iload_n 2, 1) := by decide +kernel
theorem d_KS_objects_16 : decode b_KS_objects 16 = .ok (.iaload, 1) := by decide +kernel
theorem d_KS_objects_17 : decode b_KS_objects 17 = .ok (.ifCond .eq 7, 3) := by decide +kernel
theorem d_KS_objects_20 : decode b_KS_objects 20 = .ok (.iconst 1, 1) := by decide +kernel
theorem d_KS_objects_21 : decode b_KS_objects 21 = .ok (.goto 4, 3) := by decide +kernel
theorem d_KS_objects_24 : decode b_KS_objects 24 = .ok (.iconst 0, 1) := by decide +kernel
theorem d_KS_objects_25 : decode b_KS_objects 25 = .ok (.iadd, 1) := by decide +kernel
theorem d_KS_objects_26 : decode b_KS_objects 26 = .ok (.istore_n 1, 1) := by decide +kernel
theorem d_KS_objects_27 : decode b_KS_objects 27 = .ok (.iinc 2 1, 3) := by decide +kernel
theorem d_KS_objects_30 : decode b_KS_objects 30 = .ok (.goto (-26), 3) := by decide +kernel
theorem d_KS_objects_33 : decode b_KS_objects 33 = .ok (.iload_n 1, 1) := by decide +kernel
theorem d_KS_objects_34 : decode b_KS_objects 34 = .ok (.ireturn, 1) := by decide +kernel
end
section
theorem d_K_init_0 : decode b_K_init 0 = .ok (.aload_n 0, 1) := by decide +kernel
theorem d_K_init_1 : decode b_K_init 1 = .ok (.invokespecial 1, 3) := by decide +kernel
theorem d_K_init_4 : decode b_K_init 4 = .ok (.aload_n 0, 1) := by decide +kernel
theorem d_K_init_5 : decode b_K_init 5 = .ok (.new 7, 3) := by decide +kernel
theorem d_K_init_8 : decode b_K_init 8 = .ok (.dup, 1) := by decide +kernel
theorem d_K_init_9 : decode b_K_init 9 = .ok (.invokespecial 9, 3) := by decide +kernel
theorem d_K_init_12 : decode b_K_init 12 = .ok (.putfield 10, 3) := by decide +kernel
theorem d_K_init_15 : decode b_K_init 15 = .ok (.aload_n 0, 1) := by decide +kernel
theorem d_K_init_16 : decode b_K_init 16 = .ok (.new 7, 3) := by decide +kernel
theorem d_K_init_19 : decode b_K_init 19 = .ok (.dup, 1) := by decide +kernel
theorem d_K_init_20 : decode b_K_init 20 = .ok (.invokespecial 9, 3) := by decide +kernel
theorem d_K_init_23 : decode b_K_init 23 = .ok (.putfield 16, 3) := by decide +kernel
theorem d_K_init_26 : decode b_K_init 26 = .ok (.aload_n 0, 1) := by decide +kernel
theorem d_K_init_27 : decode b_K_init 27 = .ok (.new 7, 3) := by decide +kernel
theorem d_K_init_30 : decode b_K_init 30 = .ok (.dup, 1) := by decide +kernel
theorem d_K_init_31 : decode b_K_init 31 = .ok (.invokespecial 9, 3) := by decide +kernel
theorem d_K_init_34 : decode b_K_init 34 = .ok (.putfield 19, 3) := by decide +kernel
theorem d_K_init_37 : decode b_K_init 37 = .ok (.aload_n 0, 1) := by decide +kernel
theorem d_K_init_38 : decode b_K_init 38 = .ok (.bipush 8, 2) := by decide +kernel
theorem d_K_init_40 : decode b_K_init 40 = .ok (.anewarray 7, 3) := by decide +kernel
theorem d_K_init_43 : decode b_K_init 43 = .ok (.putfield 22, 3) := by decide +kernel
theorem d_K_init_46 : decode b_K_init 46 = .ok (.aload_n 0, 1) := by decide +kernel
theorem d_K_init_47 : decode b_K_init 47 = .ok (.bipush 8, 2) := by decide +kernel
theorem d_K_init_49 : decode b_K_init 49 = .ok (.newarray .int, 2) := by decide +kernel
theorem d_K_init_51 : decode b_K_init 51 = .ok (.putfield 26, 3) := by decide +kernel
theorem d_K_init_54 : decode b_K_init 54 = .ok (.iconst 0, 1) := by decide +kernel
theorem d_K_init_55 : decode b_K_init 55 = .ok (.istore_n 1, 1) := by decide +kernel
theorem d_K_init_56 : decode b_K_init 56 = .ok (.iload_n 1, 1) := by decide +kernel
theorem d_K_init_57 : decode b_K_init 57 = .ok (.bipush 8, 2) := by decide +kernel
theorem d_K_init_59 : decode b_K_init 59 = .ok (.if_icmp .ge 22, 3) := by decide +kernel
theorem d_K_init_62 : decode b_K_init 62 = .ok (.aload_n 0, 1) := by decide +kernel
theorem d_K_init_63 : decode b_K_init 63 = .ok (.getfield 22, 3) := by decide +kernel
theorem d_K_init_66 : decode b_K_init 66 = .ok (.iload_n 1, 1) := by decide +kernel
theorem d_K_init_67 : decode b_K_init 67 = .ok (.new 7, 3) := by decide +kernel
theorem d_K_init_70 : decode b_K_init 70 = .ok (.dup, 1) := by decide +kernel
theorem d_K_init_71 : decode b_K_init 71 = .ok (.invokespecial 9, 3) := by decide +kernel
theorem d_K_init_74 : decode b_K_init 74 = .ok (.aastore, 1) := by decide +kernel
theorem d_K_init_75 : decode b_K_init 75 = .ok (.iinc 1 1, 3) := by decide +kernel
theorem d_K_init_78 : decode b_K_init 78 = .ok (.goto (-22), 3) := by decide +kernel
theorem d_K_init_81 : decode b_K_init 81 = .ok (.return_, 1) := by decide +kernel
theorem d_K_make_0 : decode b_K_make 0 = .ok (.aload_n 0, 1) := by decide +kernel
theorem d_K_make_1 : decode b_K_make 1 = .ok (.getfield 10, 3) := by decide +kernel
theorem d_K_make_4 : decode b_K_make 4 = .ok (.iload_n 1, 1) := by decide +kernel
theorem d_K_make_5 : decode b_K_make 5 = .ok (.ifCond .eq 7, 3) := by decide +kernel
theorem d_K_make_8 : decode b_K_make 8 = .ok (.iconst 2, 1) := by decide +kernel
theorem d_K_make_9 : decode b_K_make 9 = .ok (.goto 4, 3) := by decide +kernel
theorem d_K_make_12 : decode b_K_make 12 = .ok (.iconst 1, 1) := by decide +kernel
theorem d_K_make_13 : decode b_K_make 13 = .ok (.invokevirtual 41, 3) := by decide +kernel
theorem d_K_make_16 : decode b_K_make 16 = .ok (.istore_n 2, 1) := by decide +kernel
theorem d_K_make_17 : decode b_K_make 17 = .ok (.iload_n 2, 1) := by decide +kernel
theorem d_K_make_18 : decode b_K_make 18 = .ok (.ifCond .ge 8, 3) := by decide +kernel
theorem d_K_make_21 : decode b_K_make 21 = .ok (.bipush (-3), 2) := by decide +kernel
theorem d_K_make_23 : decode b_K_make 23 = .ok (.goto 4, 3) := by decide +kernel
theorem d_K_make_26 : decode b_K_make 26 = .ok (.iload_n 2, 1) := by decide +kernel
theorem d_K_make_27 : decode b_K_make 27 = .ok (.ireturn, 1) := by decide +kernel
theorem d_K_set_0 : decode b_K_set 0 = .ok (.aload_n 0, 1) := by decide +kernel
theorem d_K_set_1 : decode b_K_set 1 = .ok (.iload_n 1, 1) := by decide +kernel
theorem d_K_set_2 : decode b_K_set 2 = .ok (.iconst 1, 1) := by decide +kernel
theorem d_K_set_3 : decode b_K_set 3 = .ok (.invokevirtual 33, 3) := by decide +kernel
theorem d_K_set_6 : decode b_K_set 6 = .ok (.ifCond .eq 13, 3) := by decide +kernel
theorem d_K_set_9 : decode b_K_set 9 = .ok (.aload_n 0, 1) := by decide +kernel
theorem d_K_set_10 : decode b_K_set 10 = .ok (.iload_n 3, 1) := by decide +kernel
theorem d_K_set_11 : decode b_K_set 11 = .ok (.iload 4, 2) := by decide +kernel
theorem d_K_set_13 : decode b_K_set 13 = .ok (.invokevirtual 45, 3) := by decide +kernel
theorem d_K_set_16 : decode b_K_set 16 = .ok (.ifCond .ne 5, 3) := by decide +kernel
theorem d_K_set_19 : decode b_K_set 19 = .ok (.iconst (-1), 1) := by decide +kernel
theorem d_K_set_20 : decode b_K_set 20 = .ok (.ireturn, 1) := by decide +kernel
theorem d_K_set_21 : decode b_K_set 21 = .ok (.aload_n 0, 1) := by decide +kernel
theorem d_K_set_22 : decode b_K_set 22 = .ok (.getfield 10, 3) := by decide +kernel
theorem d_K_set_25 : decode b_K_set 25 = .ok (.iload_n 1, 1) := by decide +kernel
theorem d_K_set_26 : decode b_K_set 26 = .ok (.iload_n 2, 1) := by decide +kernel
theorem d_K_set_27 : decode b_K_set 27 = .ok (.iload_n 3, 1) := by decide +kernel
theorem d_K_set_28 : decode b_K_set 28 = .ok (.iload_n 3, 1) := by decide +kernel
theorem d_K_set_29 : decode b_K_set 29 = .ok (.iload 4, 2) := by decide +kernel
theorem d_K_set_31 : decode b_K_set 31 = .ok (.invokestatic 48, 3) := by decide +kernel
theorem d_K_set_34 : decode b_K_set 34 = .ok (.invokevirtual 52, 3) := by decide +kernel
theorem d_K_set_37 : decode b_K_set 37 = .ok (.ifCond .eq 15, 3) := by decide +kernel
theorem d_K_set_40 : decode b_K_set 40 = .ok (.aload_n 0, 1) := by decide +kernel
theorem d_K_set_41 : decode b_K_set 41 = .ok (.getfield 10, 3) := by decide +kernel
theorem d_K_set_44 : decode b_K_set 44 = .ok (.getfield 56, 3) := by decide +kernel
theorem d_K_set_47 : decode b_K_set 47 = .ok (.iload_n 1, 1) := by decide +kernel
theorem d_K_set_48 : decode b_K_set 48 = .ok (.iaload, 1) := by decide +kernel
theorem d_K_set_49 : decode b_K_set 49 = .ok (.goto 5, 3) := by decide +kernel
theorem d_K_set_52 : decode b_K_set 52 = .ok (.bipush (-3), 2) := by decide +kernel
theorem d_K_set_54 : decode b_K_set 54 = .ok (.ireturn, 1) := by decide +kernel
theorem d_K_is_0 : decode b_K_is 0 = .ok (.iload_n 1, 1) := by decide +kernel
theorem d_K_is_1 : decode b_K_is 1 = .ok (.ifCond .lt 26, 3) := by decide +kernel
theorem d_K_is_4 : decode b_K_is 4 = .ok (.iload_n 1, 1) := by decide +kernel
theorem d_K_is_5 : decode b_K_is 5 = .ok (.bipush 100, 2) := by decide +kernel
theorem d_K_is_7 : decode b_K_is 7 = .ok (.if_icmp .ge 20, 3) := by decide +kernel
theorem d_K_is_10 : decode b_K_is 10 = .ok (.aload_n 0, 1) := by decide +kernel
theorem d_K_is_11 : decode b_K_is 11 = .ok (.getfield 10, 3) := by decide +kernel
theorem d_K_is_14 : decode b_K_is 14 = .ok (.getfield 30, 3) := by decide +kernel
theorem d_K_is_17 : decode b_K_is 17 = .ok (.iload_n 1, 1) := by decide +kernel
theorem d_K_is_18 : decode b_K_is 18 = .ok (.iaload, 1) := by decide +kernel
theorem d_K_is_19 : decode b_K_is 19 = .ok (.iload_n 2, 1) := by decide +kernel
theorem d_K_is_20 : decode b_K_is 20 = .ok (.if_icmp .ne 7, 3) := by decide +kernel
theorem d_K_is_23 : decode b_K_is 23 = .ok (.iconst 1, 1) := by decide +kernel
theorem d_K_is_24 : decode b_K_is 24 = .ok (.goto 4, 3) := by decide +kernel
theorem d_K_is_27 : decode b_K_is 27 = .ok (.iconst 0, 1) := by decide +kernel
theorem d_K_is_28 : decode b_K_is 28 = .ok (.ireturn, 1) := by decide +kernel
theorem d_K_isValue_0 : decode b_K_isValue 0 = .ok (.iload_n 1, 1) := by decide +kernel
theorem d_K_isValue_1 : decode b_K_isValue 1 = .ok (.ifCond .eq 31, 3) := by decide +kernel
theorem d_K_isValue_4 : decode b_K_isValue 4 = .ok (.iload_n 1, 1) := by decide +kernel
theorem d_K_isValue_5 : decode b_K_isValue 5 = .ok (.iconst 1, 1) := by decide +kernel
theorem d_K_isValue_6 : decode b_K_isValue 6 = .ok (.if_icmp .eq 26, 3) := by decide +kernel
theorem d_K_isValue_9 : decode b_K_isValue 9 = .ok (.iload_n 1, 1) := by decide +kernel
theorem d_K_isValue_10 : decode b_K_isValue 10 = .ok (.iconst 2, 1) := by decide +kernel
theorem d_K_isValue_11 : decode b_K_isValue 11 = .ok (.if_icmp .ne 25, 3) := by decide +kernel
theorem d_K_isValue_14 : decode b_K_isValue 14 = .ok (.aload_n 0, 1) := by decide +kernel
theorem d_K_isValue_15 : decode b_K_isValue 15 = .ok (.iload_n 2, 1) := by decide +kernel
theorem d_K_isValue_16 : decode b_K_isValue 16 = .ok (.iconst 1, 1) := by decide +kernel
theorem d_K_isValue_17 : decode b_K_isValue 17 = .ok (.invokevirtual 33, 3) := by decide +kernel
theorem d_K_isValue_20 : decode b_K_isValue 20 = .ok (.ifCond .ne 12, 3) := by decide +kernel
theorem d_K_isValue_23 : decode b_K_isValue 23 = .ok (.aload_n 0, 1) := by decide +kernel
theorem d_K_isValue_24 : decode b_K_isValue 24 = .ok (.iload_n 2, 1) := by decide +kernel
theorem d_K_isValue_25 : decode b_K_isValue 25 = .ok (.iconst 2, 1) := by decide +kernel
theorem d_K_isValue_26 : decode b_K_isValue 26 = .ok (.invokevirtual 33, 3) := by decide +kernel
theorem d_K_isValue_29 : decode b_K_isValue 29 = .ok (.ifCond .eq 7, 3) := by decide +kernel
theorem d_K_isValue_32 : decode b_K_isValue 32 = .ok (.iconst 1, 1) := by decide +kernel
theorem d_K_isValue_33 : decode b_K_isValue 33 = .ok (.goto 4, 3) := by decide +kernel
theorem d_K_isValue_36 : decode b_K_isValue 36 = .ok (.iconst 0, 1) := by decide +kernel
theorem d_K_isValue_37 : decode b_K_isValue 37 = .ok (.ireturn, 1) := by decide +kernel
theorem d_K_plain_0 : decode b_K_plain 0 = .ok (.iload_n 0, 1) := by decide +kernel
theorem d_K_plain_1 : decode b_K_plain 1 = .ok (.ifCond .ne 7, 3) := by decide +kernel
theorem d_K_plain_4 : decode b_K_plain 4 = .ok (.iconst 0, 1) := by decide +kernel
theorem d_K_plain_5 : decode b_K_plain 5 = .ok (.goto 4, 3) := by decide +kernel
theorem d_K_plain_8 : decode b_K_plain 8 = .ok (.iload_n 1, 1) := by decide +kernel
theorem d_K_plain_9 : decode b_K_plain 9 = .ok (.ireturn, 1) := by decide +kernel
theorem d_K_get_0 : decode b_K_get 0 = .ok (.aload_n 0, 1) := by decide +kernel
theorem d_K_get_1 : decode b_K_get 1 = .ok (.iload_n 1, 1) := by decide +kernel
theorem d_K_get_2 : decode b_K_get 2 = .ok (.iconst 1, 1) := by decide +kernel
theorem d_K_get_3 : decode b_K_get 3 = .ok (.invokevirtual 33, 3) := by decide +kernel
theorem d_K_get_6 : decode b_K_get 6 = .ok (.ifCond .ne 7, 3) := by decide +kernel
theorem d_K_get_9 : decode b_K_get 9 = .ok (.ldc2_w 59, 3) := by decide +kernel
theorem d_K_get_12 : decode b_K_get 12 = .ok (.lreturn, 1) := by decide +kernel
theorem d_K_get_13 : decode b_K_get 13 = .ok (.aload_n 0, 1) := by decide +kernel
theorem d_K_get_14 : decode b_K_get 14 = .ok (.getfield 10, 3) := by decide +kernel
theorem d_K_get_17 : decode b_K_get 17 = .ok (.iload_n 1, 1) := by decide +kernel
theorem d_K_get_18 : decode b_K_get 18 = .ok (.iload_n 2, 1) := by decide +kernel
theorem d_K_get_19 : decode b_K_get 19 = .ok (.invokevirtual 61, 3) := by decide +kernel
theorem d_K_get_22 : decode b_K_get 22 = .ok (.istore_n 3, 1) := by decide +kernel
theorem d_K_get_23 : decode b_K_get 23 = .ok (.iload_n 3, 1) := by decide +kernel
theorem d_K_get_24 : decode b_K_get 24 = .ok (.ifCond .ge 9, 3) := by decide +kernel
theorem d_K_get_27 : decode b_K_get 27 = .ok (.ldc2_w 37, 3) := by decide +kernel
theorem d_K_get_30 : decode b_K_get 30 = .ok (.goto 24, 3) := by decide +kernel
theorem d_K_get_33 : decode b_K_get 33 = .ok (.aload_n 0, 1) := by decide +kernel
theorem d_K_get_34 : decode b_K_get 34 = .ok (.getfield 10, 3) := by decide +kernel
theorem d_K_get_37 : decode b_K_get 37 = .ok (.getfield 64, 3) := by decide +kernel
theorem d_K_get_40 : decode b_K_get 40 = .ok (.iload_n 3, 1) := by decide +kernel
theorem d_K_get_41 : decode b_K_get 41 = .ok (.iaload, 1) := by decide +kernel
theorem d_K_get_42 : decode b_K_get 42 = .ok (.aload_n 0, 1) := by decide +kernel
theorem d_K_get_43 : decode b_K_get 43 = .ok (.getfield 10, 3) := by decide +kernel
theorem d_K_get_46 : decode b_K_get 46 = .ok (.getfield 67, 3) := by decide +kernel
theorem d_K_get_49 : decode b_K_get 49 = .ok (.iload_n 3, 1) := by decide +kernel
theorem d_K_get_50 : decode b_K_get 50 = .ok (.iaload, 1) := by decide +kernel
theorem d_K_get_51 : decode b_K_get 51 = .ok (.invokestatic 70, 3) := by decide +kernel
theorem d_K_get_54 : decode b_K_get 54 = .ok (.lreturn, 1) := by decide +kernel
theorem d_K_told_0 : decode b_K_told 0 = .ok (.iload_n 0, 1) := by decide +kernel
theorem d_K_told_1 : decode b_K_told 1 = .ok (.ifCond .ne 9, 3) := by decide +kernel
theorem d_K_told_4 : decode b_K_told 4 = .ok (.ldc2_w 37, 3) := by decide +kernel
theorem d_K_told_7 : decode b_K_told 7 = .ok (.goto 19, 3) := by decide +kernel
theorem d_K_told_10 : decode b_K_told 10 = .ok (.iload_n 0, 1) := by decide +kernel
theorem d_K_told_11 : decode b_K_told 11 = .ok (.iconst 1, 1) := by decide +kernel
theorem d_K_told_12 : decode b_K_told 12 = .ok (.if_icmp .ne 8, 3) := by decide +kernel
theorem d_K_told_15 : decode b_K_told 15 = .ok (.iload_n 1, 1) := by decide +kernel
theorem d_K_told_16 : decode b_K_told 16 = .ok (.i2l, 1) := by decide +kernel
theorem d_K_told_17 : decode b_K_told 17 = .ok (.goto 9, 3) := by decide +kernel
theorem d_K_told_20 : decode b_K_told 20 = .ok (.ldc2_w 39, 3) := by decide +kernel
theorem d_K_told_23 : decode b_K_told 23 = .ok (.iload_n 1, 1) := by decide +kernel
theorem d_K_told_24 : decode b_K_told 24 = .ok (.i2l, 1) := by decide +kernel
theorem d_K_told_25 : decode b_K_told 25 = .ok (.ladd, 1) := by decide +kernel
theorem d_K_told_26 : decode b_K_told 26 = .ok (.lreturn, 1) := by decide +kernel
theorem d_K_push_0 : decode b_K_push 0 = .ok (.aload_n 0, 1) := by decide +kernel
theorem d_K_push_1 : decode b_K_push 1 = .ok (.iload_n 1, 1) := by decide +kernel
theorem d_K_push_2 : decode b_K_push 2 = .ok (.iconst 2, 1) := by decide +kernel
theorem d_K_push_3 : decode b_K_push 3 = .ok (.invokevirtual 33, 3) := by decide +kernel
theorem d_K_push_6 : decode b_K_push 6 = .ok (.ifCond .eq 12, 3) := by decide +kernel
theorem d_K_push_9 : decode b_K_push 9 = .ok (.aload_n 0, 1) := by decide +kernel
theorem d_K_push_10 : decode b_K_push 10 = .ok (.iload_n 2, 1) := by decide +kernel
theorem d_K_push_11 : decode b_K_push 11 = .ok (.iload_n 3, 1) := by decide +kernel
theorem d_K_push_12 : decode b_K_push 12 = .ok (.invokevirtual 45, 3) := by decide +kernel
theorem d_K_push_15 : decode b_K_push 15 = .ok (.ifCond .ne 5, 3) := by decide +kernel
theorem d_K_push_18 : decode b_K_push 18 = .ok (.iconst (-1), 1) := by decide +kernel
theorem d_K_push_19 : decode b_K_push 19 = .ok (.ireturn, 1) := by decide +kernel
theorem d_K_push_20 : decode b_K_push 20 = .ok (.aload_n 0, 1) := by decide +kernel
theorem d_K_push_21 : decode b_K_push 21 = .ok (.getfield 10, 3) := by decide +kernel
theorem d_K_push_24 : decode b_K_push 24 = .ok (.getfield 56, 3) := by decide +kernel
theorem d_K_push_27 : decode b_K_push 27 = .ok (.iload_n 1, 1) := by decide +kernel
theorem d_K_push_28 : decode b_K_push 28 = .ok (.iaload, 1) := by decide +kernel
theorem d_K_push_29 : decode b_K_push 29 = .ok (.bipush 20, 2) := by decide +kernel
theorem d_K_push_31 : decode b_K_push 31 = .ok (.if_icmp .ne 6, 3) := by decide +kernel
theorem d_K_push_34 : decode b_K_push 34 = .ok (.bipush (-3), 2) := by decide +kernel
theorem d_K_push_36 : decode b_K_push 36 = .ok (.ireturn, 1) := by decide +kernel
theorem d_K_push_37 : decode b_K_push 37 = .ok (.aload_n 0, 1) := by decide +kernel
theorem d_K_push_38 : decode b_K_push 38 = .ok (.getfield 10, 3) := by decide +kernel
theorem d_K_push_41 : decode b_K_push 41 = .ok (.iload_n 1, 1) := by decide +kernel
theorem d_K_push_42 : decode b_K_push 42 = .ok (.bipush 20, 2) := by decide +kernel
theorem d_K_push_44 : decode b_K_push 44 = .ok (.imul, 1) := by decide +kernel
theorem d_K_push_45 : decode b_K_push 45 = .ok (.aload_n 0, 1) := by decide +kernel
theorem d_K_push_46 : decode b_K_push 46 = .ok (.getfield 10, 3) := by decide +kernel
theorem d_K_push_49 : decode b_K_push 49 = .ok (.getfield 56, 3) := by decide +kernel
theorem d_K_push_52 : decode b_K_push 52 = .ok (.iload_n 1, 1) := by decide +kernel
theorem d_K_push_53 : decode b_K_push 53 = .ok (.iaload, 1) := by decide +kernel
theorem d_K_push_54 : decode b_K_push 54 = .ok (.iadd, 1) := by decide +kernel
theorem d_K_push_55 : decode b_K_push 55 = .ok (.iconst 0, 1) := by decide +kernel
theorem d_K_push_56 : decode b_K_push 56 = .ok (.iload_n 2, 1) := by decide +kernel
theorem d_K_push_57 : decode b_K_push 57 = .ok (.iload_n 2, 1) := by decide +kernel
theorem d_K_push_58 : decode b_K_push 58 = .ok (.iload_n 3, 1) := by decide +kernel
theorem d_K_push_59 : decode b_K_push 59 = .ok (.invokestatic 48, 3) := by decide +kernel
theorem d_K_push_62 : decode b_K_push 62 = .ok (.invokevirtual 74, 3) := by decide +kernel
theorem d_K_push_65 : decode b_K_push 65 = .ok (.aload_n 0, 1) := by decide +kernel
theorem d_K_push_66 : decode b_K_push 66 = .ok (.getfield 10, 3) := by decide +kernel
theorem d_K_push_69 : decode b_K_push 69 = .ok (.getfield 56, 3) := by decide +kernel
theorem d_K_push_72 : decode b_K_push 72 = .ok (.iload_n 1, 1) := by decide +kernel
theorem d_K_push_73 : decode b_K_push 73 = .ok (.dup2, 1) := by decide +kernel
theorem d_K_push_74 : decode b_K_push 74 = .ok (.iaload, 1) := by decide +kernel
theorem d_K_push_75 : decode b_K_push 75 = .ok (.iconst 1, 1) := by decide +kernel
theorem d_K_push_76 : decode b_K_push 76 = .ok (.iadd, 1) := by decide +kernel
theorem d_K_push_77 : decode b_K_push 77 = .ok (.iastore, 1) := by decide +kernel
theorem d_K_push_78 : decode b_K_push 78 = .ok (.aload_n 0, 1) := by decide +kernel
theorem d_K_push_79 : decode b_K_push 79 = .ok (.getfield 10, 3) := by decide +kernel
theorem d_K_push_82 : decode b_K_push 82 = .ok (.getfield 56, 3) := by decide +kernel
theorem d_K_push_85 : decode b_K_push 85 = .ok (.iload_n 1, 1) := by decide +kernel
theorem d_K_push_86 : decode b_K_push 86 = .ok (.iaload, 1) := by decide +kernel
theorem d_K_push_87 : decode b_K_push 87 = .ok (.ireturn, 1) := by decide +kernel
theorem d_K_pop_0 : decode b_K_pop 0 = .ok (.aload_n 0, 1) := by decide +kernel
theorem d_K_pop_1 : decode b_K_pop 1 = .ok (.iload_n 1, 1) := by decide +kernel
theorem d_K_pop_2 : decode b_K_pop 2 = .ok (.iconst 2, 1) := by decide +kernel
theorem d_K_pop_3 : decode b_K_pop 3 = .ok (.invokevirtual 33, 3) := by decide +kernel
theorem d_K_pop_6 : decode b_K_pop 6 = .ok (.ifCond .eq 15, 3) := by decide +kernel
theorem d_K_pop_9 : decode b_K_pop 9 = .ok (.aload_n 0, 1) := by decide +kernel
theorem d_K_pop_10 : decode b_K_pop 10 = .ok (.getfield 10, 3) := by decide +kernel
theorem d_K_pop_13 : decode b_K_pop 13 = .ok (.getfield 56, 3) := by decide +kernel
theorem d_K_pop_16 : decode b_K_pop 16 = .ok (.iload_n 1, 1) := by decide +kernel
theorem d_K_pop_17 : decode b_K_pop 17 = .ok (.iaload, 1) := by decide +kernel
theorem d_K_pop_18 : decode b_K_pop 18 = .ok (.ifCond .ne 7, 3) := by decide +kernel
theorem d_K_pop_21 : decode b_K_pop 21 = .ok (.ldc2_w 59, 3) := by decide +kernel
theorem d_K_pop_24 : decode b_K_pop 24 = .ok (.lreturn, 1) := by decide +kernel
theorem d_K_pop_25 : decode b_K_pop 25 = .ok (.aload_n 0, 1) := by decide +kernel
theorem d_K_pop_26 : decode b_K_pop 26 = .ok (.getfield 10, 3) := by decide +kernel
theorem d_K_pop_29 : decode b_K_pop 29 = .ok (.getfield 56, 3) := by decide +kernel
theorem d_K_pop_32 : decode b_K_pop 32 = .ok (.iload_n 1, 1) := by decide +kernel
theorem d_K_pop_33 : decode b_K_pop 33 = .ok (.dup2, 1) := by decide +kernel
theorem d_K_pop_34 : decode b_K_pop 34 = .ok (.iaload, 1) := by decide +kernel
theorem d_K_pop_35 : decode b_K_pop 35 = .ok (.iconst 1, 1) := by decide +kernel
theorem d_K_pop_36 : decode b_K_pop 36 = .ok (.isub, 1) := by decide +kernel
theorem d_K_pop_37 : decode b_K_pop 37 = .ok (.iastore, 1) := by decide +kernel
theorem d_K_pop_38 : decode b_K_pop 38 = .ok (.iload_n 1, 1) := by decide +kernel
theorem d_K_pop_39 : decode b_K_pop 39 = .ok (.bipush 20, 2) := by decide +kernel
theorem d_K_pop_41 : decode b_K_pop 41 = .ok (.imul, 1) := by decide +kernel
theorem d_K_pop_42 : decode b_K_pop 42 = .ok (.aload_n 0, 1) := by decide +kernel
theorem d_K_pop_43 : decode b_K_pop 43 = .ok (.getfield 10, 3) := by decide +kernel
theorem d_K_pop_46 : decode b_K_pop 46 = .ok (.getfield 56, 3) := by decide +kernel
theorem d_K_pop_49 : decode b_K_pop 49 = .ok (.iload_n 1, 1) := by decide +kernel
theorem d_K_pop_50 : decode b_K_pop 50 = .ok (.iaload, 1) := by decide +kernel
theorem d_K_pop_51 : decode b_K_pop 51 = .ok (.iadd, 1) := by decide +kernel
theorem d_K_pop_52 : decode b_K_pop 52 = .ok (.istore_n 2, 1) := by decide +kernel
theorem d_K_pop_53 : decode b_K_pop 53 = .ok (.aload_n 0, 1) := by decide +kernel
theorem d_K_pop_54 : decode b_K_pop 54 = .ok (.getfield 10, 3) := by decide +kernel
theorem d_K_pop_57 : decode b_K_pop 57 = .ok (.getfield 64, 3) := by decide +kernel
theorem d_K_pop_60 : decode b_K_pop 60 = .ok (.iload_n 2, 1) := by decide +kernel
theorem d_K_pop_61 : decode b_K_pop 61 = .ok (.iaload, 1) := by decide +kernel
theorem d_K_pop_62 : decode b_K_pop 62 = .ok (.aload_n 0, 1) := by decide +kernel
theorem d_K_pop_63 : decode b_K_pop 63 = .ok (.getfield 10, 3) := by decide +kernel
theorem d_K_pop_66 : decode b_K_pop 66 = .ok (.getfield 67, 3) := by decide +kernel
theorem d_K_pop_69 : decode b_K_pop 69 = .ok (.iload_n 2, 1) := by decide +kernel
theorem d_K_pop_70 : decode b_K_pop 70 = .ok (.iaload, 1) := by decide +kernel
theorem d_K_pop_71 : decode b_K_pop 71 = .ok (.invokestatic 70, 3) := by decide +kernel
theorem d_K_pop_74 : decode b_K_pop 74 = .ok (.lreturn, 1) := by decide +kernel
theorem d_K_put_0 : decode b_K_put 0 = .ok (.aload_n 0, 1) := by decide +kernel
theorem d_K_put_1 : decode b_K_put 1 = .ok (.iload_n 1, 1) := by decide +kernel
theorem d_K_put_2 : decode b_K_put 2 = .ok (.iload_n 2, 1) := by decide +kernel
theorem d_K_put_3 : decode b_K_put 3 = .ok (.invokevirtual 78, 3) := by decide +kernel
theorem d_K_put_6 : decode b_K_put 6 = .ok (.ifCond .eq 13, 3) := by decide +kernel
theorem d_K_put_9 : decode b_K_put 9 = .ok (.aload_n 0, 1) := by decide +kernel
theorem d_K_put_10 : decode b_K_put 10 = .ok (.iload_n 3, 1) := by decide +kernel
theorem d_K_put_11 : decode b_K_put 11 = .ok (.iload 4, 2) := by decide +kernel
theorem d_K_put_13 : decode b_K_put 13 = .ok (.invokevirtual 45, 3) := by decide +kernel
theorem d_K_put_16 : decode b_K_put 16 = .ok (.ifCond .ne 5, 3) := by decide +kernel
theorem d_K_put_19 : decode b_K_put 19 = .ok (.iconst (-1), 1) := by decide +kernel
theorem d_K_put_20 : decode b_K_put 20 = .ok (.ireturn, 1) := by decide +kernel
theorem d_K_put_21 : decode b_K_put 21 = .ok (.aload_n 0, 1) := by decide +kernel
theorem d_K_put_22 : decode b_K_put 22 = .ok (.getfield 10, 3) := by decide +kernel
theorem d_K_put_25 : decode b_K_put 25 = .ok (.iload_n 1, 1) := by decide +kernel
theorem d_K_put_26 : decode b_K_put 26 = .ok (.bipush 20, 2) := by decide +kernel
theorem d_K_put_28 : decode b_K_put 28 = .ok (.imul, 1) := by decide +kernel
theorem d_K_put_29 : decode b_K_put 29 = .ok (.iload_n 2, 1) := by decide +kernel
theorem d_K_put_30 : decode b_K_put 30 = .ok (.iadd, 1) := by decide +kernel
theorem d_K_put_31 : decode b_K_put 31 = .ok (.iconst 0, 1) := by decide +kernel
theorem d_K_put_32 : decode b_K_put 32 = .ok (.iload_n 3, 1) := by decide +kernel
theorem d_K_put_33 : decode b_K_put 33 = .ok (.iload_n 3, 1) := by decide +kernel
theorem d_K_put_34 : decode b_K_put 34 = .ok (.iload 4, 2) := by decide +kernel
theorem d_K_put_36 : decode b_K_put 36 = .ok (.invokestatic 48, 3) := by decide +kernel
theorem d_K_put_39 : decode b_K_put 39 = .ok (.invokevirtual 74, 3) := by decide +kernel
theorem d_K_put_42 : decode b_K_put 42 = .ok (.iconst 0, 1) := by decide +kernel
theorem d_K_put_43 : decode b_K_put 43 = .ok (.ireturn, 1) := by decide +kernel
theorem d_K_isItem_0 : decode b_K_isItem 0 = .ok (.aload_n 0, 1) := by decide +kernel
theorem d_K_isItem_1 : decode b_K_isItem 1 = .ok (.iload_n 1, 1) := by decide +kernel
theorem d_K_isItem_2 : decode b_K_isItem 2 = .ok (.iconst 2, 1) := by decide +kernel
theorem d_K_isItem_3 : decode b_K_isItem 3 = .ok (.invokevirtual 33, 3) := by decide +kernel
theorem d_K_isItem_6 : decode b_K_isItem 6 = .ok (.ifCond .eq 24, 3) := by decide +kernel
theorem d_K_isItem_9 : decode b_K_isItem 9 = .ok (.iload_n 2, 1) := by decide +kernel
theorem d_K_isItem_10 : decode b_K_isItem 10 = .ok (.ifCond .lt 20, 3) := by decide +kernel
theorem d_K_isItem_13 : decode b_K_isItem 13 = .ok (.iload_n 2, 1) := by decide +kernel
theorem d_K_isItem_14 : decode b_K_isItem 14 = .ok (.aload_n 0, 1) := by decide +kernel
theorem d_K_isItem_15 : decode b_K_isItem 15 = .ok (.getfield 10, 3) := by decide +kernel
theorem d_K_isItem_18 : decode b_K_isItem 18 = .ok (.getfield 56, 3) := by decide +kernel
theorem d_K_isItem_21 : decode b_K_isItem 21 = .ok (.iload_n 1, 1) := by decide +kernel
theorem d_K_isItem_22 : decode b_K_isItem 22 = .ok (.iaload, 1) := by decide +kernel
theorem d_K_isItem_23 : decode b_K_isItem 23 = .ok (.if_icmp .ge 7, 3) := by decide +kernel
theorem d_K_isItem_26 : decode b_K_isItem 26 = .ok (.iconst 1, 1) := by decide +kernel
theorem d_K_isItem_27 : decode b_K_isItem 27 = .ok (.goto 4, 3) := by decide +kernel
theorem d_K_isItem_30 : decode b_K_isItem 30 = .ok (.iconst 0, 1) := by decide +kernel
theorem d_K_isItem_31 : decode b_K_isItem 31 = .ok (.ireturn, 1) := by decide +kernel
theorem d_K_item_0 : decode b_K_item 0 = .ok (.aload_n 0, 1) := by decide +kernel
theorem d_K_item_1 : decode b_K_item 1 = .ok (.iload_n 1, 1) := by decide +kernel
theorem d_K_item_2 : decode b_K_item 2 = .ok (.iload_n 2, 1) := by decide +kernel
theorem d_K_item_3 : decode b_K_item 3 = .ok (.invokevirtual 78, 3) := by decide +kernel
theorem d_K_item_6 : decode b_K_item 6 = .ok (.ifCond .ne 7, 3) := by decide +kernel
theorem d_K_item_9 : decode b_K_item 9 = .ok (.ldc2_w 59, 3) := by decide +kernel
theorem d_K_item_12 : decode b_K_item 12 = .ok (.lreturn, 1) := by decide +kernel
theorem d_K_item_13 : decode b_K_item 13 = .ok (.iload_n 1, 1) := by decide +kernel
theorem d_K_item_14 : decode b_K_item 14 = .ok (.bipush 20, 2) := by decide +kernel
theorem d_K_item_16 : decode b_K_item 16 = .ok (.imul, 1) := by decide +kernel
theorem d_K_item_17 : decode b_K_item 17 = .ok (.iload_n 2, 1) := by decide +kernel
theorem d_K_item_18 : decode b_K_item 18 = .ok (.iadd, 1) := by decide +kernel
theorem d_K_item_19 : decode b_K_item 19 = .ok (.istore_n 3, 1) := by decide +kernel
theorem d_K_item_20 : decode b_K_item 20 = .ok (.aload_n 0, 1) := by decide +kernel
theorem d_K_item_21 : decode b_K_item 21 = .ok (.getfield 10, 3) := by decide +kernel
theorem d_K_item_24 : decode b_K_item 24 = .ok (.getfield 64, 3) := by decide +kernel
theorem d_K_item_27 : decode b_K_item 27 = .ok (.iload_n 3, 1) := by decide +kernel
theorem d_K_item_28 : decode b_K_item 28 = .ok (.iaload, 1) := by decide +kernel
theorem d_K_item_29 : decode b_K_item 29 = .ok (.aload_n 0, 1) := by decide +kernel
theorem d_K_item_30 : decode b_K_item 30 = .ok (.getfield 10, 3) := by decide +kernel
theorem d_K_item_33 : decode b_K_item 33 = .ok (.getfield 67, 3) := by decide +kernel
theorem d_K_item_36 : decode b_K_item 36 = .ok (.iload_n 3, 1) := by decide +kernel
theorem d_K_item_37 : decode b_K_item 37 = .ok (.iaload, 1) := by decide +kernel
theorem d_K_item_38 : decode b_K_item 38 = .ok (.invokestatic 70, 3) := by decide +kernel
theorem d_K_item_41 : decode b_K_item 41 = .ok (.lreturn, 1) := by decide +kernel
theorem d_K_root_0 : decode b_K_root 0 = .ok (.aload_n 0, 1) := by decide +kernel
theorem d_K_root_1 : decode b_K_root 1 = .ok (.iload_n 2, 1) := by decide +kernel
theorem d_K_root_2 : decode b_K_root 2 = .ok (.iload_n 3, 1) := by decide +kernel
theorem d_K_root_3 : decode b_K_root 3 = .ok (.invokevirtual 45, 3) := by decide +kernel
theorem d_K_root_6 : decode b_K_root 6 = .ok (.ifCond .ne 5, 3) := by decide +kernel
theorem d_K_root_9 : decode b_K_root 9 = .ok (.iconst (-1), 1) := by decide +kernel
theorem d_K_root_10 : decode b_K_root 10 = .ok (.ireturn, 1) := by decide +kernel
theorem d_K_root_11 : decode b_K_root 11 = .ok (.aload_n 0, 1) := by decide +kernel
theorem d_K_root_12 : decode b_K_root 12 = .ok (.getfield 10, 3) := by decide +kernel
theorem d_K_root_15 : decode b_K_root 15 = .ok (.iload_n 1, 1) := by decide +kernel
theorem d_K_root_16 : decode b_K_root 16 = .ok (.iload_n 2, 1) := by decide +kernel
theorem d_K_root_17 : decode b_K_root 17 = .ok (.iload_n 2, 1) := by decide +kernel
theorem d_K_root_18 : decode b_K_root 18 = .ok (.iload_n 3, 1) := by decide +kernel
theorem d_K_root_19 : decode b_K_root 19 = .ok (.invokestatic 48, 3) := by decide +kernel
theorem d_K_root_22 : decode b_K_root 22 = .ok (.invokevirtual 81, 3) := by decide +kernel
theorem d_K_root_25 : decode b_K_root 25 = .ok (.ifCond .eq 13, 3) := by decide +kernel
theorem d_K_root_28 : decode b_K_root 28 = .ok (.aload_n 0, 1) := by decide +kernel
theorem d_K_root_29 : decode b_K_root 29 = .ok (.getfield 10, 3) := by decide +kernel
theorem d_K_root_32 : decode b_K_root 32 = .ok (.getfield 85, 3) := by decide +kernel
theorem d_K_root_35 : decode b_K_root 35 = .ok (.goto 5, 3) := by decide +kernel
theorem d_K_root_38 : decode b_K_root 38 = .ok (.bipush (-3), 2) := by decide +kernel
theorem d_K_root_40 : decode b_K_root 40 = .ok (.ireturn, 1) := by decide +kernel
theorem d_K_rooted_0 : decode b_K_rooted 0 = .ok (.aload_n 0, 1) := by decide +kernel
theorem d_K_rooted_1 : decode b_K_rooted 1 = .ok (.getfield 10, 3) := by decide +kernel
theorem d_K_rooted_4 : decode b_K_rooted 4 = .ok (.iload_n 1, 1) := by decide +kernel
theorem d_K_rooted_5 : decode b_K_rooted 5 = .ok (.invokevirtual 89, 3) := by decide +kernel
theorem d_K_rooted_8 : decode b_K_rooted 8 = .ok (.istore_n 2, 1) := by decide +kernel
theorem d_K_rooted_9 : decode b_K_rooted 9 = .ok (.iload_n 2, 1) := by decide +kernel
theorem d_K_rooted_10 : decode b_K_rooted 10 = .ok (.ifCond .ge 9, 3) := by decide +kernel
theorem d_K_rooted_13 : decode b_K_rooted 13 = .ok (.ldc2_w 37, 3) := by decide +kernel
theorem d_K_rooted_16 : decode b_K_rooted 16 = .ok (.goto 24, 3) := by decide +kernel
theorem d_K_rooted_19 : decode b_K_rooted 19 = .ok (.aload_n 0, 1) := by decide +kernel
theorem d_K_rooted_20 : decode b_K_rooted 20 = .ok (.getfield 10, 3) := by decide +kernel
theorem d_K_rooted_23 : decode b_K_rooted 23 = .ok (.getfield 92, 3) := by decide +kernel
theorem d_K_rooted_26 : decode b_K_rooted 26 = .ok (.iload_n 2, 1) := by decide +kernel
theorem d_K_rooted_27 : decode b_K_rooted 27 = .ok (.iaload, 1) := by decide +kernel
theorem d_K_rooted_28 : decode b_K_rooted 28 = .ok (.aload_n 0, 1) := by decide +kernel
theorem d_K_rooted_29 : decode b_K_rooted 29 = .ok (.getfield 10, 3) := by decide +kernel
theorem d_K_rooted_32 : decode b_K_rooted 32 = .ok (.getfield 95, 3) := by decide +kernel
theorem d_K_rooted_35 : decode b_K_rooted 35 = .ok (.iload_n 2, 1) := by decide +kernel
theorem d_K_rooted_36 : decode b_K_rooted 36 = .ok (.iaload, 1) := by decide +kernel
theorem d_K_rooted_37 : decode b_K_rooted 37 = .ok (.invokestatic 70, 3) := by decide +kernel
theorem d_K_rooted_40 : decode b_K_rooted 40 = .ok (.lreturn, 1) := by decide +kernel
theorem d_K_commit_0 : decode b_K_commit 0 = .ok (.aload_n 0, 1) := by decide +kernel
theorem d_K_commit_1 : decode b_K_commit 1 = .ok (.getfield 10, 3) := by decide +kernel
theorem d_K_commit_4 : decode b_K_commit 4 = .ok (.aload_n 0, 1) := by decide +kernel
theorem d_K_commit_5 : decode b_K_commit 5 = .ok (.getfield 16, 3) := by decide +kernel
theorem d_K_commit_8 : decode b_K_commit 8 = .ok (.invokevirtual 109, 3) := by decide +kernel
theorem d_K_commit_11 : decode b_K_commit 11 = .ok (.istore_n 1, 1) := by decide +kernel
theorem d_K_commit_12 : decode b_K_commit 12 = .ok (.aload_n 0, 1) := by decide +kernel
theorem d_K_commit_13 : decode b_K_commit 13 = .ok (.iload_n 1, 1) := by decide +kernel
theorem d_K_commit_14 : decode b_K_commit 14 = .ok (.invokevirtual 113, 3) := by decide +kernel
theorem d_K_commit_17 : decode b_K_commit 17 = .ok (.iload_n 1, 1) := by decide +kernel
theorem d_K_commit_18 : decode b_K_commit 18 = .ok (.ireturn, 1) := by decide +kernel
theorem d_K_write_0 : decode b_K_write 0 = .ok (.aload_n 0, 1) := by decide +kernel
theorem d_K_write_1 : decode b_K_write 1 = .ok (.getfield 98, 3) := by decide +kernel
theorem d_K_write_4 : decode b_K_write 4 = .ok (.bipush 8, 2) := by decide +kernel
theorem d_K_write_6 : decode b_K_write 6 = .ok (.if_icmp .ne 82, 3) := by decide +kernel
theorem d_K_write_9 : decode b_K_write 9 = .ok (.aload_n 0, 1) := by decide +kernel
theorem d_K_write_10 : decode b_K_write 10 = .ok (.getfield 22, 3) := by decide +kernel
theorem d_K_write_13 : decode b_K_write 13 = .ok (.iconst 0, 1) := by decide +kernel
theorem d_K_write_14 : decode b_K_write 14 = .ok (.aaload, 1) := by decide +kernel
theorem d_K_write_15 : decode b_K_write 15 = .ok (.astore_n 2, 1) := by decide +kernel
theorem d_K_write_16 : decode b_K_write 16 = .ok (.aload_n 0, 1) := by decide +kernel
theorem d_K_write_17 : decode b_K_write 17 = .ok (.getfield 19, 3) := by decide +kernel
theorem d_K_write_20 : decode b_K_write 20 = .ok (.aload_n 2, 1) := by decide +kernel
theorem d_K_write_21 : decode b_K_write 21 = .ok (.invokevirtual 101, 3) := by decide +kernel
theorem d_K_write_24 : decode b_K_write 24 = .ok (.aload_n 0, 1) := by decide +kernel
theorem d_K_write_25 : decode b_K_write 25 = .ok (.dup, 1) := by decide +kernel
theorem d_K_write_26 : decode b_K_write 26 = .ok (.getfield 98, 3) := by decide +kernel
theorem d_K_write_29 : decode b_K_write 29 = .ok (.iconst 1, 1) := by decide +kernel
theorem d_K_write_30 : decode b_K_write 30 = .ok (.isub, 1) := by decide +kernel
theorem d_K_write_31 : decode b_K_write 31 = .ok (.putfield 98, 3) := by decide +kernel
theorem d_K_write_34 : decode b_K_write 34 = .ok (.iconst 0, 1) := by decide +kernel
theorem d_K_write_35 : decode b_K_write 35 = .ok (.istore_n 3, 1) := by decide +kernel
theorem d_K_write_36 : decode b_K_write 36 = .ok (.iload_n 3, 1) := by decide +kernel
theorem d_K_write_37 : decode b_K_write 37 = .ok (.aload_n 0, 1) := by decide +kernel
theorem d_K_write_38 : decode b_K_write 38 = .ok (.getfield 98, 3) := by decide +kernel
theorem d_K_write_41 : decode b_K_write 41 = .ok (.if_icmp .ge 37, 3) := by decide +kernel
theorem d_K_write_44 : decode b_K_write 44 = .ok (.aload_n 0, 1) := by decide +kernel
theorem d_K_write_45 : decode b_K_write 45 = .ok (.getfield 22, 3) := by decide +kernel
theorem d_K_write_48 : decode b_K_write 48 = .ok (.iload_n 3, 1) := by decide +kernel
theorem d_K_write_49 : decode b_K_write 49 = .ok (.aload_n 0, 1) := by decide +kernel
theorem d_K_write_50 : decode b_K_write 50 = .ok (.getfield 22, 3) := by decide +kernel
theorem d_K_write_53 : decode b_K_write 53 = .ok (.iload_n 3, 1) := by decide +kernel
theorem d_K_write_54 : decode b_K_write 54 = .ok (.iconst 1, 1) := by decide +kernel
theorem d_K_write_55 : decode b_K_write 55 = .ok (.iadd, 1) := by decide +kernel
theorem d_K_write_56 : decode b_K_write 56 = .ok (.aaload, 1) := by decide +kernel
theorem d_K_write_57 : decode b_K_write 57 = .ok (.aastore, 1) := by decide +kernel
theorem d_K_write_58 : decode b_K_write 58 = .ok (.aload_n 0, 1) := by decide +kernel
theorem d_K_write_59 : decode b_K_write 59 = .ok (.getfield 26, 3) := by decide +kernel
theorem d_K_write_62 : decode b_K_write 62 = .ok (.iload_n 3, 1) := by decide +kernel
theorem d_K_write_63 : decode b_K_write 63 = .ok (.aload_n 0, 1) := by decide +kernel
theorem d_K_write_64 : decode b_K_write 64 = .ok (.getfield 26, 3) := by decide +kernel
theorem d_K_write_67 : decode b_K_write 67 = .ok (.iload_n 3, 1) := by decide +kernel
theorem d_K_write_68 : decode b_K_write 68 = .ok (.iconst 1, 1) := by decide +kernel
theorem d_K_write_69 : decode b_K_write 69 = .ok (.iadd, 1) := by decide +kernel
theorem d_K_write_70 : decode b_K_write 70 = .ok (.iaload, 1) := by decide +kernel
theorem d_K_write_71 : decode b_K_write 71 = .ok (.iastore, 1) := by decide +kernel
theorem d_K_write_72 : decode b_K_write 72 = .ok (.iinc 3 1, 3) := by decide +kernel
theorem d_K_write_75 : decode b_K_write 75 = .ok (.goto (-39), 3) := by decide +kernel
theorem d_K_write_78 : decode b_K_write 78 = .ok (.aload_n 0, 1) := by decide +kernel
theorem d_K_write_79 : decode b_K_write 79 = .ok (.getfield 22, 3) := by decide +kernel
theorem d_K_write_82 : decode b_K_write 82 = .ok (.aload_n 0, 1) := by decide +kernel
theorem d_K_write_83 : decode b_K_write 83 = .ok (.getfield 98, 3) := by decide +kernel
theorem d_K_write_86 : decode b_K_write 86 = .ok (.aload_n 2, 1) := by decide +kernel
theorem d_K_write_87 : decode b_K_write 87 = .ok (.aastore, 1) := by decide +kernel
theorem d_K_write_88 : decode b_K_write 88 = .ok (.aload_n 0, 1) := by decide +kernel
theorem d_K_write_89 : decode b_K_write 89 = .ok (.getfield 22, 3) := by decide +kernel
theorem d_K_write_92 : decode b_K_write 92 = .ok (.aload_n 0, 1) := by decide +kernel
theorem d_K_write_93 : decode b_K_write 93 = .ok (.getfield 98, 3) := by decide +kernel
theorem d_K_write_96 : decode b_K_write 96 = .ok (.aaload, 1) := by decide +kernel
theorem d_K_write_97 : decode b_K_write 97 = .ok (.aload_n 0, 1) := by decide +kernel
theorem d_K_write_98 : decode b_K_write 98 = .ok (.getfield 10, 3) := by decide +kernel
theorem d_K_write_101 : decode b_K_write 101 = .ok (.invokevirtual 101, 3) := by decide +kernel
theorem d_K_write_104 : decode b_K_write 104 = .ok (.aload_n 0, 1) := by decide +kernel
theorem d_K_write_105 : decode b_K_write 105 = .ok (.getfield 26, 3) := by decide +kernel
theorem d_K_write_108 : decode b_K_write 108 = .ok (.aload_n 0, 1) := by decide +kernel
theorem d_K_write_109 : decode b_K_write 109 = .ok (.getfield 98, 3) := by decide +kernel
theorem d_K_write_112 : decode b_K_write 112 = .ok (.iload_n 1, 1) := by decide +kernel
theorem d_K_write_113 : decode b_K_write 113 = .ok (.iastore, 1) := by decide +kernel
theorem d_K_write_114 : decode b_K_write 114 = .ok (.aload_n 0, 1) := by decide +kernel
theorem d_K_write_115 : decode b_K_write 115 = .ok (.dup, 1) := by decide +kernel
theorem d_K_write_116 : decode b_K_write 116 = .ok (.getfield 98, 3) := by decide +kernel
theorem d_K_write_119 : decode b_K_write 119 = .ok (.iconst 1, 1) := by decide +kernel
theorem d_K_write_120 : decode b_K_write 120 = .ok (.iadd, 1) := by decide +kernel
theorem d_K_write_121 : decode b_K_write 121 = .ok (.putfield 98, 3) := by decide +kernel
theorem d_K_write_124 : decode b_K_write 124 = .ok (.aload_n 0, 1) := by decide +kernel
theorem d_K_write_125 : decode b_K_write 125 = .ok (.dup, 1) := by decide +kernel
theorem d_K_write_126 : decode b_K_write 126 = .ok (.getfield 105, 3) := by decide +kernel
theorem d_K_write_129 : decode b_K_write 129 = .ok (.iload_n 1, 1) := by decide +kernel
theorem d_K_write_130 : decode b_K_write 130 = .ok (.i2l, 1) := by decide +kernel
theorem d_K_write_131 : decode b_K_write 131 = .ok (.ladd, 1) := by decide +kernel
theorem d_K_write_132 : decode b_K_write 132 = .ok (.putfield 105, 3) := by decide +kernel
theorem d_K_write_135 : decode b_K_write 135 = .ok (.aload_n 0, 1) := by decide +kernel
theorem d_K_write_136 : decode b_K_write 136 = .ok (.getfield 16, 3) := by decide +kernel
theorem d_K_write_139 : decode b_K_write 139 = .ok (.aload_n 0, 1) := by decide +kernel
theorem d_K_write_140 : decode b_K_write 140 = .ok (.getfield 10, 3) := by decide +kernel
theorem d_K_write_143 : decode b_K_write 143 = .ok (.invokevirtual 101, 3) := by decide +kernel
theorem d_K_write_146 : decode b_K_write 146 = .ok (.return_, 1) := by decide +kernel
theorem d_K_undo_0 : decode b_K_undo 0 = .ok (.aload_n 0, 1) := by decide +kernel
theorem d_K_undo_1 : decode b_K_undo 1 = .ok (.getfield 10, 3) := by decide +kernel
theorem d_K_undo_4 : decode b_K_undo 4 = .ok (.aload_n 0, 1) := by decide +kernel
theorem d_K_undo_5 : decode b_K_undo 5 = .ok (.getfield 16, 3) := by decide +kernel
theorem d_K_undo_8 : decode b_K_undo 8 = .ok (.invokevirtual 109, 3) := by decide +kernel
theorem d_K_undo_11 : decode b_K_undo 11 = .ok (.bipush 8, 2) := by decide +kernel
theorem d_K_undo_13 : decode b_K_undo 13 = .ok (.isub, 1) := by decide +kernel
theorem d_K_undo_14 : decode b_K_undo 14 = .ok (.istore_n 1, 1) := by decide +kernel
theorem d_K_undo_15 : decode b_K_undo 15 = .ok (.aload_n 0, 1) := by decide +kernel
theorem d_K_undo_16 : decode b_K_undo 16 = .ok (.getfield 10, 3) := by decide +kernel
theorem d_K_undo_19 : decode b_K_undo 19 = .ok (.aload_n 0, 1) := by decide +kernel
theorem d_K_undo_20 : decode b_K_undo 20 = .ok (.getfield 16, 3) := by decide +kernel
theorem d_K_undo_23 : decode b_K_undo 23 = .ok (.invokevirtual 101, 3) := by decide +kernel
theorem d_K_undo_26 : decode b_K_undo 26 = .ok (.iload_n 1, 1) := by decide +kernel
theorem d_K_undo_27 : decode b_K_undo 27 = .ok (.ireturn, 1) := by decide +kernel
theorem d_K_sweep_0 : decode b_K_sweep 0 = .ok (.aload_n 0, 1) := by decide +kernel
theorem d_K_sweep_1 : decode b_K_sweep 1 = .ok (.getfield 10, 3) := by decide +kernel
theorem d_K_sweep_4 : decode b_K_sweep 4 = .ok (.aload_n 0, 1) := by decide +kernel
theorem d_K_sweep_5 : decode b_K_sweep 5 = .ok (.getfield 16, 3) := by decide +kernel
theorem d_K_sweep_8 : decode b_K_sweep 8 = .ok (.invokevirtual 101, 3) := by decide +kernel
theorem d_K_sweep_11 : decode b_K_sweep 11 = .ok (.aload_n 0, 1) := by decide +kernel
theorem d_K_sweep_12 : decode b_K_sweep 12 = .ok (.getfield 10, 3) := by decide +kernel
theorem d_K_sweep_15 : decode b_K_sweep 15 = .ok (.invokevirtual 117, 3) := by decide +kernel
theorem d_K_sweep_18 : decode b_K_sweep 18 = .ok (.istore_n 1, 1) := by decide +kernel
theorem d_K_sweep_19 : decode b_K_sweep 19 = .ok (.iload_n 1, 1) := by decide +kernel
theorem d_K_sweep_20 : decode b_K_sweep 20 = .ok (.ifCond .le 9, 3) := by decide +kernel
theorem d_K_sweep_23 : decode b_K_sweep 23 = .ok (.aload_n 0, 1) := by decide +kernel
theorem d_K_sweep_24 : decode b_K_sweep 24 = .ok (.bipush 8, 2) := by decide +kernel
theorem d_K_sweep_26 : decode b_K_sweep 26 = .ok (.invokevirtual 113, 3) := by decide +kernel
theorem d_K_sweep_29 : decode b_K_sweep 29 = .ok (.iload_n 1, 1) := by decide +kernel
theorem d_K_sweep_30 : decode b_K_sweep 30 = .ok (.ireturn, 1) := by decide +kernel
theorem d_K_sync_0 : decode b_K_sync 0 = .ok (.aload_n 0, 1) := by decide +kernel
theorem d_K_sync_1 : decode b_K_sync 1 = .ok (.getfield 98, 3) := by decide +kernel
theorem d_K_sync_4 : decode b_K_sync 4 = .ok (.istore_n 1, 1) := by decide +kernel
theorem d_K_sync_5 : decode b_K_sync 5 = .ok (.aload_n 0, 1) := by decide +kernel
theorem d_K_sync_6 : decode b_K_sync 6 = .ok (.iconst 0, 1) := by decide +kernel
theorem d_K_sync_7 : decode b_K_sync 7 = .ok (.putfield 98, 3) := by decide +kernel
theorem d_K_sync_10 : decode b_K_sync 10 = .ok (.aload_n 0, 1) := by decide +kernel
theorem d_K_sync_11 : decode b_K_sync 11 = .ok (.getfield 19, 3) := by decide +kernel
theorem d_K_sync_14 : decode b_K_sync 14 = .ok (.aload_n 0, 1) := by decide +kernel
theorem d_K_sync_15 : decode b_K_sync 15 = .ok (.getfield 16, 3) := by decide +kernel
theorem d_K_sync_18 : decode b_K_sync 18 = .ok (.invokevirtual 101, 3) := by decide +kernel
theorem d_K_sync_21 : decode b_K_sync 21 = .ok (.iload_n 1, 1) := by decide +kernel
theorem d_K_sync_22 : decode b_K_sync 22 = .ok (.ireturn, 1) := by decide +kernel
theorem d_K_crash_0 : decode b_K_crash 0 = .ok (.iload_n 1, 1) := by decide +kernel
theorem d_K_crash_1 : decode b_K_crash 1 = .ok (.ifCond .ge 5, 3) := by decide +kernel
theorem d_K_crash_4 : decode b_K_crash 4 = .ok (.iconst (-1), 1) := by decide +kernel
theorem d_K_crash_5 : decode b_K_crash 5 = .ok (.ireturn, 1) := by decide +kernel
theorem d_K_crash_6 : decode b_K_crash 6 = .ok (.iconst 0, 1) := by decide +kernel
theorem d_K_crash_7 : decode b_K_crash 7 = .ok (.istore_n 2, 1) := by decide +kernel
theorem d_K_crash_8 : decode b_K_crash 8 = .ok (.iload_n 1, 1) := by decide +kernel
theorem d_K_crash_9 : decode b_K_crash 9 = .ok (.istore_n 3, 1) := by decide +kernel
theorem d_K_crash_10 : decode b_K_crash 10 = .ok (.iload_n 2, 1) := by decide +kernel
theorem d_K_crash_11 : decode b_K_crash 11 = .ok (.aload_n 0, 1) := by decide +kernel
theorem d_K_crash_12 : decode b_K_crash 12 = .ok (.getfield 98, 3) := by decide +kernel
theorem d_K_crash_15 : decode b_K_crash 15 = .ok (.if_icmp .ge 28, 3) := by decide +kernel
theorem d_K_crash_18 : decode b_K_crash 18 = .ok (.aload_n 0, 1) := by decide +kernel
theorem d_K_crash_19 : decode b_K_crash 19 = .ok (.getfield 26, 3) := by decide +kernel
theorem d_K_crash_22 : decode b_K_crash 22 = .ok (.iload_n 2, 1) := by decide +kernel
theorem d_K_crash_23 : decode b_K_crash 23 = .ok (.iaload, 1) := by decide +kernel
theorem d_K_crash_24 : decode b_K_crash 24 = .ok (.iload_n 3, 1) := by decide +kernel
theorem d_K_crash_25 : decode b_K_crash 25 = .ok (.if_icmp .gt 18, 3) := by decide +kernel
theorem d_K_crash_28 : decode b_K_crash 28 = .ok (.iload_n 3, 1) := by decide +kernel
theorem d_K_crash_29 : decode b_K_crash 29 = .ok (.aload_n 0, 1) := by decide +kernel
theorem d_K_crash_30 : decode b_K_crash 30 = .ok (.getfield 26, 3) := by decide +kernel
theorem d_K_crash_33 : decode b_K_crash 33 = .ok (.iload_n 2, 1) := by decide +kernel
theorem d_K_crash_34 : decode b_K_crash 34 = .ok (.iaload, 1) := by decide +kernel
theorem d_K_crash_35 : decode b_K_crash 35 = .ok (.isub, 1) := by decide +kernel
theorem d_K_crash_36 : decode b_K_crash 36 = .ok (.istore_n 3, 1) := by decide +kernel
theorem d_K_crash_37 : decode b_K_crash 37 = .ok (.iinc 2 1, 3) := by decide +kernel
theorem d_K_crash_40 : decode b_K_crash 40 = .ok (.goto (-30), 3) := by decide +kernel
theorem d_K_crash_43 : decode b_K_crash 43 = .ok (.iload_n 2, 1) := by decide +kernel
theorem d_K_crash_44 : decode b_K_crash 44 = .ok (.ifCond .le 18, 3) := by decide +kernel
theorem d_K_crash_47 : decode b_K_crash 47 = .ok (.aload_n 0, 1) := by decide +kernel
theorem d_K_crash_48 : decode b_K_crash 48 = .ok (.getfield 19, 3) := by decide +kernel
theorem d_K_crash_51 : decode b_K_crash 51 = .ok (.aload_n 0, 1) := by decide +kernel
theorem d_K_crash_52 : decode b_K_crash 52 = .ok (.getfield 22, 3) := by decide +kernel
theorem d_K_crash_55 : decode b_K_crash 55 = .ok (.iload_n 2, 1) := by decide +kernel
theorem d_K_crash_56 : decode b_K_crash 56 = .ok (.iconst 1, 1) := by decide +kernel
theorem d_K_crash_57 : decode b_K_crash 57 = .ok (.isub, 1) := by decide +kernel
theorem d_K_crash_58 : decode b_K_crash 58 = .ok (.aaload, 1) := by decide +kernel
theorem d_K_crash_59 : decode b_K_crash 59 = .ok (.invokevirtual 101, 3) := by decide +kernel
theorem d_K_crash_62 : decode b_K_crash 62 = .ok (.iload_n 2, 1) := by decide +kernel
theorem d_K_crash_63 : decode b_K_crash 63 = .ok (.istore 4, 2) := by decide +kernel
theorem d_K_crash_65 : decode b_K_crash 65 = .ok (.iload 4, 2) := by decide +kernel
theorem d_K_crash_67 : decode b_K_crash 67 = .ok (.aload_n 0, 1) := by decide +kernel
theorem d_K_crash_68 : decode b_K_crash 68 = .ok (.getfield 98, 3) := by decide +kernel
theorem d_K_crash_71 : decode b_K_crash 71 = .ok (.if_icmp .ge 26, 3) := by decide +kernel
theorem d_K_crash_74 : decode b_K_crash 74 = .ok (.aload_n 0, 1) := by decide +kernel
theorem d_K_crash_75 : decode b_K_crash 75 = .ok (.dup, 1) := by decide +kernel
theorem d_K_crash_76 : decode b_K_crash 76 = .ok (.getfield 105, 3) := by decide +kernel
theorem d_K_crash_79 : decode b_K_crash 79 = .ok (.aload_n 0, 1) := by decide +kernel
theorem d_K_crash_80 : decode b_K_crash 80 = .ok (.getfield 26, 3) := by decide +kernel
theorem d_K_crash_83 : decode b_K_crash 83 = .ok (.iload 4, 2) := by decide +kernel
theorem d_K_crash_85 : decode b_K_crash 85 = .ok (.iaload, 1) := by decide +kernel
theorem d_K_crash_86 : decode b_K_crash 86 = .ok (.i2l, 1) := by decide +kernel
theorem d_K_crash_87 : decode b_K_crash 87 = .ok (.lsub, 1) := by decide +kernel
theorem d_K_crash_88 : decode b_K_crash 88 = .ok (.putfield 105, 3) := by decide +kernel
theorem d_K_crash_91 : decode b_K_crash 91 = .ok (.iinc 4 1, 3) := by decide +kernel
theorem d_K_crash_94 : decode b_K_crash 94 = .ok (.goto (-29), 3) := by decide +kernel
theorem d_K_crash_97 : decode b_K_crash 97 = .ok (.aload_n 0, 1) := by decide +kernel
theorem d_K_crash_98 : decode b_K_crash 98 = .ok (.getfield 10, 3) := by decide +kernel
theorem d_K_crash_101 : decode b_K_crash 101 = .ok (.aload_n 0, 1) := by decide +kernel
theorem d_K_crash_102 : decode b_K_crash 102 = .ok (.getfield 19, 3) := by decide +kernel
theorem d_K_crash_105 : decode b_K_crash 105 = .ok (.invokevirtual 101, 3) := by decide +kernel
theorem d_K_crash_108 : decode b_K_crash 108 = .ok (.aload_n 0, 1) := by decide +kernel
theorem d_K_crash_109 : decode b_K_crash 109 = .ok (.getfield 16, 3) := by decide +kernel
theorem d_K_crash_112 : decode b_K_crash 112 = .ok (.aload_n 0, 1) := by decide +kernel
theorem d_K_crash_113 : decode b_K_crash 113 = .ok (.getfield 19, 3) := by decide +kernel
theorem d_K_crash_116 : decode b_K_crash 116 = .ok (.invokevirtual 101, 3) := by decide +kernel
theorem d_K_crash_119 : decode b_K_crash 119 = .ok (.aload_n 0, 1) := by decide +kernel
theorem d_K_crash_120 : decode b_K_crash 120 = .ok (.iconst 0, 1) := by decide +kernel
theorem d_K_crash_121 : decode b_K_crash 121 = .ok (.putfield 98, 3) := by decide +kernel
theorem d_K_crash_124 : decode b_K_crash 124 = .ok (.iload_n 2, 1) := by decide +kernel
theorem d_K_crash_125 : decode b_K_crash 125 = .ok (.ireturn, 1) := by decide +kernel
theorem d_K_kind_0 : decode b_K_kind 0 = .ok (.iload_n 1, 1) := by decide +kernel
theorem d_K_kind_1 : decode b_K_kind 1 = .ok (.ifCond .lt 9, 3) := by decide +kernel
theorem d_K_kind_4 : decode b_K_kind 4 = .ok (.iload_n 1, 1) := by decide +kernel
theorem d_K_kind_5 : decode b_K_kind 5 = .ok (.bipush 100, 2) := by decide +kernel
theorem d_K_kind_7 : decode b_K_kind 7 = .ok (.if_icmp .lt 7, 3) := by decide +kernel
theorem d_K_kind_10 : decode b_K_kind 10 = .ok (.iconst (-1), 1) := by decide +kernel
theorem d_K_kind_11 : decode b_K_kind 11 = .ok (.goto 12, 3) := by decide +kernel
theorem d_K_kind_14 : decode b_K_kind 14 = .ok (.aload_n 0, 1) := by decide +kernel
theorem d_K_kind_15 : decode b_K_kind 15 = .ok (.getfield 10, 3) := by decide +kernel
theorem d_K_kind_18 : decode b_K_kind 18 = .ok (.getfield 30, 3) := by decide +kernel
theorem d_K_kind_21 : decode b_K_kind 21 = .ok (.iload_n 1, 1) := by decide +kernel
theorem d_K_kind_22 : decode b_K_kind 22 = .ok (.iaload, 1) := by decide +kernel
theorem d_K_kind_23 : decode b_K_kind 23 = .ok (.ireturn, 1) := by decide +kernel
theorem d_K_size_0 : decode b_K_size 0 = .ok (.aload_n 0, 1) := by decide +kernel
theorem d_K_size_1 : decode b_K_size 1 = .ok (.iload_n 1, 1) := by decide +kernel
theorem d_K_size_2 : decode b_K_size 2 = .ok (.iconst 1, 1) := by decide +kernel
theorem d_K_size_3 : decode b_K_size 3 = .ok (.invokevirtual 33, 3) := by decide +kernel
theorem d_K_size_6 : decode b_K_size 6 = .ok (.ifCond .ne 12, 3) := by decide +kernel
theorem d_K_size_9 : decode b_K_size 9 = .ok (.aload_n 0, 1) := by decide +kernel
theorem d_K_size_10 : decode b_K_size 10 = .ok (.iload_n 1, 1) := by decide +kernel
theorem d_K_size_11 : decode b_K_size 11 = .ok (.iconst 2, 1) := by decide +kernel
theorem d_K_size_12 : decode b_K_size 12 = .ok (.invokevirtual 33, 3) := by decide +kernel
theorem d_K_size_15 : decode b_K_size 15 = .ok (.ifCond .eq 15, 3) := by decide +kernel
theorem d_K_size_18 : decode b_K_size 18 = .ok (.aload_n 0, 1) := by decide +kernel
theorem d_K_size_19 : decode b_K_size 19 = .ok (.getfield 10, 3) := by decide +kernel
theorem d_K_size_22 : decode b_K_size 22 = .ok (.getfield 56, 3) := by decide +kernel
theorem d_K_size_25 : decode b_K_size 25 = .ok (.iload_n 1, 1) := by decide +kernel
theorem d_K_size_26 : decode b_K_size 26 = .ok (.iaload, 1) := by decide +kernel
theorem d_K_size_27 : decode b_K_size 27 = .ok (.goto 4, 3) := by decide +kernel
theorem d_K_size_30 : decode b_K_size 30 = .ok (.iconst (-1), 1) := by decide +kernel
theorem d_K_size_31 : decode b_K_size 31 = .ok (.ireturn, 1) := by decide +kernel
theorem d_K_count_0 : decode b_K_count 0 = .ok (.iload_n 1, 1) := by decide +kernel
theorem d_K_count_1 : decode b_K_count 1 = .ok (.tableswitch 58 0 3 #[31, 39, 47, 52], 31) := by decide +kernel
theorem d_K_count_32 : decode b_K_count 32 = .ok (.aload_n 0, 1) := by decide +kernel
theorem d_K_count_33 : decode b_K_count 33 = .ok (.getfield 10, 3) := by decide +kernel
theorem d_K_count_36 : decode b_K_count 36 = .ok (.invokevirtual 121, 3) := by decide +kernel
theorem d_K_count_39 : decode b_K_count 39 = .ok (.ireturn, 1) := by decide +kernel
theorem d_K_count_40 : decode b_K_count 40 = .ok (.aload_n 0, 1) := by decide +kernel
theorem d_K_count_41 : decode b_K_count 41 = .ok (.getfield 10, 3) := by decide +kernel
theorem d_K_count_44 : decode b_K_count 44 = .ok (.getfield 85, 3) := by decide +kernel
theorem d_K_count_47 : decode b_K_count 47 = .ok (.ireturn, 1) := by decide +kernel
theorem d_K_count_48 : decode b_K_count 48 = .ok (.aload_n 0, 1) := by decide +kernel
theorem d_K_count_49 : decode b_K_count 49 = .ok (.getfield 98, 3) := by decide +kernel
theorem d_K_count_52 : decode b_K_count 52 = .ok (.ireturn, 1) := by decide +kernel
theorem d_K_count_53 : decode b_K_count 53 = .ok (.aload_n 0, 1) := by decide +kernel
theorem d_K_count_54 : decode b_K_count 54 = .ok (.getfield 105, 3) := by decide +kernel
theorem d_K_count_57 : decode b_K_count 57 = .ok (.l2i, 1) := by decide +kernel
theorem d_K_count_58 : decode b_K_count 58 = .ok (.ireturn, 1) := by decide +kernel
theorem d_K_count_59 : decode b_K_count 59 = .ok (.iconst (-1), 1) := by decide +kernel
theorem d_K_count_60 : decode b_K_count 60 = .ok (.ireturn, 1) := by decide +kernel
end
section
theorem d_MS_init_0 : decode b_MS_init 0 = .ok (.aload_n 0, 1) := by decide +kernel
theorem d_MS_init_1 : decode b_MS_init 1 = .ok (.invokespecial 3, 3) := by decide +kernel
theorem d_MS_init_4 : decode b_MS_init 4 = .ok (.aload_n 0, 1) := by decide +kernel
theorem d_MS_init_5 : decode b_MS_init 5 = .ok (.bipush 100, 2) := by decide +kernel
theorem d_MS_init_7 : decode b_MS_init 7 = .ok (.newarray .int, 2) := by decide +kernel
theorem d_MS_init_9 : decode b_MS_init 9 = .ok (.putfield 9, 3) := by decide +kernel
theorem d_MS_init_12 : decode b_MS_init 12 = .ok (.aload_n 0, 1) := by decide +kernel
theorem d_MS_init_13 : decode b_MS_init 13 = .ok (.bipush 100, 2) := by decide +kernel
theorem d_MS_init_15 : decode b_MS_init 15 = .ok (.newarray .int, 2) := by decide +kernel
theorem d_MS_init_17 : decode b_MS_init 17 = .ok (.putfield 15, 3) := by decide +kernel
theorem d_MS_init_20 : decode b_MS_init 20 = .ok (.aload_n 0, 1) := by decide +kernel
theorem d_MS_init_21 : decode b_MS_init 21 = .ok (.sipush 800, 3) := by decide +kernel
theorem d_MS_init_24 : decode b_MS_init 24 = .ok (.newarray .int, 2) := by decide +kernel
theorem d_MS_init_26 : decode b_MS_init 26 = .ok (.putfield 18, 3) := by decide +kernel
theorem d_MS_init_29 : decode b_MS_init 29 = .ok (.aload_n 0, 1) := by decide +kernel
theorem d_MS_init_30 : decode b_MS_init 30 = .ok (.bipush 12, 2) := by decide +kernel
theorem d_MS_init_32 : decode b_MS_init 32 = .ok (.newarray .int, 2) := by decide +kernel
theorem d_MS_init_34 : decode b_MS_init 34 = .ok (.putfield 21, 3) := by decide +kernel
theorem d_MS_init_37 : decode b_MS_init 37 = .ok (.aload_n 0, 1) := by decide +kernel
theorem d_MS_init_38 : decode b_MS_init 38 = .ok (.sipush 2000, 3) := by decide +kernel
theorem d_MS_init_41 : decode b_MS_init 41 = .ok (.newarray .long, 2) := by decide +kernel
theorem d_MS_init_43 : decode b_MS_init 43 = .ok (.putfield 24, 3) := by decide +kernel
theorem d_MS_init_46 : decode b_MS_init 46 = .ok (.aload_n 0, 1) := by decide +kernel
theorem d_MS_init_47 : decode b_MS_init 47 = .ok (.bipush 12, 2) := by decide +kernel
theorem d_MS_init_49 : decode b_MS_init 49 = .ok (.newarray .long, 2) := by decide +kernel
theorem d_MS_init_51 : decode b_MS_init 51 = .ok (.putfield 28, 3) := by decide +kernel
theorem d_MS_init_54 : decode b_MS_init 54 = .ok (.return_, 1) := by decide +kernel
theorem d_MS_findField_0 : decode b_MS_findField 0 = .ok (.iconst 0, 1) := by decide +kernel
theorem d_MS_findField_1 : decode b_MS_findField 1 = .ok (.istore_n 3, 1) := by decide +kernel
theorem d_MS_findField_2 : decode b_MS_findField 2 = .ok (.iload_n 3, 1) := by decide +kernel
theorem d_MS_findField_3 : decode b_MS_findField 3 = .ok (.aload_n 0, 1) := by decide +kernel
theorem d_MS_findField_4 : decode b_MS_findField 4 = .ok (.getfield 15, 3) := by decide +kernel
theorem d_MS_findField_7 : decode b_MS_findField 7 = .ok (.iload_n 1, 1) := by decide +kernel
theorem d_MS_findField_8 : decode b_MS_findField 8 = .ok (.iaload, 1) := by decide +kernel
theorem d_MS_findField_9 : decode b_MS_findField 9 = .ok (.if_icmp .ge 26, 3) := by decide +kernel
theorem d_MS_findField_12 : decode b_MS_findField 12 = .ok (.aload_n 0, 1) := by decide +kernel
theorem d_MS_findField_13 : decode b_MS_findField 13 = .ok (.getfield 18, 3) := by decide +kernel
theorem d_MS_findField_16 : decode b_MS_findField 16 = .ok (.bipush 8, 2) := by decide +kernel
theorem d_MS_findField_18 : decode b_MS_findField 18 = .ok (.iload_n 1, 1) := by decide +kernel
theorem d_MS_findField_19 : decode b_MS_findField 19 = .ok (.imul, 1) := by decide +kernel
theorem d_MS_findField_20 : decode b_MS_findField 20 = .ok (.iload_n 3, 1) := by decide +kernel
theorem d_MS_findField_21 : decode b_MS_findField 21 = .ok (.iadd, 1) := by decide +kernel
theorem d_MS_findField_22 : decode b_MS_findField 22 = .ok (.iaload, 1) := by decide +kernel
theorem d_MS_findField_23 : decode b_MS_findField 23 = .ok (.iload_n 2, 1) := by decide +kernel
theorem d_MS_findField_24 : decode b_MS_findField 24 = .ok (.if_icmp .ne 5, 3) := by decide +kernel
theorem d_MS_findField_27 : decode b_MS_findField 27 = .ok (.iload_n 3, 1) := by decide +kernel
theorem d_MS_findField_28 : decode b_MS_findField 28 = .ok (.ireturn, 1) := by decide +kernel
theorem d_MS_findField_29 : decode b_MS_findField 29 = .ok (.iinc 3 1, 3) := by decide +kernel
theorem d_MS_findField_32 : decode b_MS_findField 32 = .ok (.goto (-30), 3) := by decide +kernel
theorem d_MS_findField_35 : decode b_MS_findField 35 = .ok (.iconst (-1), 1) := by decide +kernel
theorem d_MS_findField_36 : decode b_MS_findField 36 = .ok (.ireturn, 1) := by decide +kernel
theorem d_MS_findRoot_0 : decode b_MS_findRoot 0 = .ok (.iconst 0, 1) := by decide +kernel
theorem d_MS_findRoot_1 : decode b_MS_findRoot 1 = .ok (.istore_n 2, 1) := by decide +kernel
theorem d_MS_findRoot_2 : decode b_MS_findRoot 2 = .ok (.iload_n 2, 1) := by decide +kernel
theorem d_MS_findRoot_3 : decode b_MS_findRoot 3 = .ok (.aload_n 0, 1) := by decide +kernel
theorem d_MS_findRoot_4 : decode b_MS_findRoot 4 = .ok (.getfield 37, 3) := by decide +kernel
theorem d_MS_findRoot_7 : decode b_MS_findRoot 7 = .ok (.if_icmp .ge 21, 3) := by decide +kernel
theorem d_MS_findRoot_10 : decode b_MS_findRoot 10 = .ok (.aload_n 0, 1) := by decide +kernel
theorem d_MS_findRoot_11 : decode b_MS_findRoot 11 = .ok (.getfield 21, 3) := by decide +kernel
theorem d_MS_findRoot_14 : decode b_MS_findRoot 14 = .ok (.iload_n 2, 1) := by decide +kernel
theorem d_MS_findRoot_15 : decode b_MS_findRoot 15 = .ok (.iaload, 1) := by decide +kernel
theorem d_MS_findRoot_16 : decode b_MS_findRoot 16 = .ok (.iload_n 1, 1) := by decide +kernel
theorem d_MS_findRoot_17 : decode b_MS_findRoot 17 = .ok (.if_icmp .ne 5, 3) := by decide +kernel
theorem d_MS_findRoot_20 : decode b_MS_findRoot 20 = .ok (.iload_n 2, 1) := by decide +kernel
theorem d_MS_findRoot_21 : decode b_MS_findRoot 21 = .ok (.ireturn, 1) := by decide +kernel
theorem d_MS_findRoot_22 : decode b_MS_findRoot 22 = .ok (.iinc 2 1, 3) := by decide +kernel
theorem d_MS_findRoot_25 : decode b_MS_findRoot 25 = .ok (.goto (-23), 3) := by decide +kernel
theorem d_MS_findRoot_28 : decode b_MS_findRoot 28 = .ok (.iconst (-1), 1) := by decide +kernel
theorem d_MS_findRoot_29 : decode b_MS_findRoot 29 = .ok (.ireturn, 1) := by decide +kernel
theorem d_MS_bytesBehind_0 : decode b_MS_bytesBehind 0 = .ok (.iconst 0, 1) := by decide +kernel
theorem d_MS_bytesBehind_1 : decode b_MS_bytesBehind 1 = .ok (.istore_n 2, 1) := by decide +kernel
theorem d_MS_bytesBehind_2 : decode b_MS_bytesBehind 2 = .ok (.iconst 0, 1) := by decide +kernel
theorem d_MS_bytesBehind_3 : decode b_MS_bytesBehind 3 = .ok (.istore_n 3, 1) := by decide +kernel
theorem d_MS_bytesBehind_4 : decode b_MS_bytesBehind 4 = .ok (.iload_n 3, 1) := by decide +kernel
theorem d_MS_bytesBehind_5 : decode b_MS_bytesBehind 5 = .ok (.bipush 100, 2) := by decide +kernel
theorem d_MS_bytesBehind_7 : decode b_MS_bytesBehind 7 = .ok (.if_icmp .ge 30, 3) := by decide +kernel
theorem d_MS_bytesBehind_10 : decode b_MS_bytesBehind 10 = .ok (.aload_n 0, 1) := by decide +kernel
theorem d_MS_bytesBehind_11 : decode b_MS_bytesBehind 11 = .ok (.getfield 9, 3) := by decide +kernel
theorem d_MS_bytesBehind_14 : decode b_MS_bytesBehind 14 = .ok (.iload_n 3, 1) := by decide +kernel
theorem d_MS_bytesBehind_15 : decode b_MS_bytesBehind 15 = .ok (.iaload, 1) := by decide +kernel
theorem d_MS_bytesBehind_16 : decode b_MS_bytesBehind 16 = .ok (.ifCond .eq 15, 3) := by decide +kernel
theorem d_MS_bytesBehind_19 : decode b_MS_bytesBehind 19 = .ok (.aload_n 0, 1) := by decide +kernel
theorem d_MS_bytesBehind_20 : decode b_MS_bytesBehind 20 = .ok (.iload_n 3, 1) := by decide +kernel
theorem d_MS_bytesBehind_21 : decode b_MS_bytesBehind 21 = .ok (.aload_n 1, 1) := by decide +kernel
theorem d_MS_bytesBehind_22 : decode b_MS_bytesBehind 22 = .ok (.invokevirtual 41, 3) := by decide +kernel
theorem d_MS_bytesBehind_25 : decode b_MS_bytesBehind 25 = .ok (.ifCond .ne 6, 3) := by decide +kernel
theorem d_MS_bytesBehind_28 : decode b_MS_bytesBehind 28 = .ok (.iinc 2 16, 3) := by decide +kernel
theorem d_MS_bytesBehind_31 : decode b_MS_bytesBehind 31 = .ok (.iinc 3 1, 3) := by decide +kernel
theorem d_MS_bytesBehind_34 : decode b_MS_bytesBehind 34 = .ok (.goto (-30), 3) := by decide +kernel
theorem d_MS_bytesBehind_37 : decode b_MS_bytesBehind 37 = .ok (.iconst 0, 1) := by decide +kernel
theorem d_MS_bytesBehind_38 : decode b_MS_bytesBehind 38 = .ok (.istore_n 3, 1) := by decide +kernel
theorem d_MS_bytesBehind_39 : decode b_MS_bytesBehind 39 = .ok (.iload_n 3, 1) := by decide +kernel
theorem d_MS_bytesBehind_40 : decode b_MS_bytesBehind 40 = .ok (.aload_n 0, 1) := by decide +kernel
theorem d_MS_bytesBehind_41 : decode b_MS_bytesBehind 41 = .ok (.getfield 37, 3) := by decide +kernel
theorem d_MS_bytesBehind_44 : decode b_MS_bytesBehind 44 = .ok (.if_icmp .ge 46, 3) := by decide +kernel
theorem d_MS_bytesBehind_47 : decode b_MS_bytesBehind 47 = .ok (.aload_n 1, 1) := by decide +kernel
theorem d_MS_bytesBehind_48 : decode b_MS_bytesBehind 48 = .ok (.aload_n 0, 1) := by decide +kernel
theorem d_MS_bytesBehind_49 : decode b_MS_bytesBehind 49 = .ok (.getfield 21, 3) := by decide +kernel
theorem d_MS_bytesBehind_52 : decode b_MS_bytesBehind 52 = .ok (.iload_n 3, 1) := by decide +kernel
theorem d_MS_bytesBehind_53 : decode b_MS_bytesBehind 53 = .ok (.iaload, 1) := by decide +kernel
theorem d_MS_bytesBehind_54 : decode b_MS_bytesBehind 54 = .ok (.invokevirtual 45, 3) := by decide +kernel
theorem d_MS_bytesBehind_57 : decode b_MS_bytesBehind 57 = .ok (.istore 4, 2) := by decide +kernel
theorem d_MS_bytesBehind_59 : decode b_MS_bytesBehind 59 = .ok (.iload 4, 2) := by decide +kernel
theorem d_MS_bytesBehind_61 : decode b_MS_bytesBehind 61 = .ok (.ifCond .lt 20, 3) := by decide +kernel
theorem d_MS_bytesBehind_64 : decode b_MS_bytesBehind 64 = .ok (.aload_n 1, 1) := by decide +kernel
theorem d_MS_bytesBehind_65 : decode b_MS_bytesBehind 65 = .ok (.getfield 28, 3) := by decide +kernel
theorem d_MS_bytesBehind_68 : decode b_MS_bytesBehind 68 = .ok (.iload 4, 2) := by decide +kernel
theorem d_MS_bytesBehind_70 : decode b_MS_bytesBehind 70 = .ok (.laload, 1) := by decide +kernel
theorem d_MS_bytesBehind_71 : decode b_MS_bytesBehind 71 = .ok (.aload_n 0, 1) := by decide +kernel
theorem d_MS_bytesBehind_72 : decode b_MS_bytesBehind 72 = .ok (.getfield 28, 3) := by decide +kernel
theorem d_MS_bytesBehind_75 : decode b_MS_bytesBehind 75 = .ok (.iload_n 3, 1) := by decide +kernel
theorem d_MS_bytesBehind_76 : decode b_MS_bytesBehind 76 = .ok (.laload, 1) := by decide +kernel
theorem d_MS_bytesBehind_77 : decode b_MS_bytesBehind 77 = .ok (.lcmp, 1) := by decide +kernel
theorem d_MS_bytesBehind_78 : decode b_MS_bytesBehind 78 = .ok (.ifCond .eq 6, 3) := by decide +kernel
theorem d_MS_bytesBehind_81 : decode b_MS_bytesBehind 81 = .ok (.iinc 2 6, 3) := by decide +kernel
theorem d_MS_bytesBehind_84 : decode b_MS_bytesBehind 84 = .ok (.iinc 3 1, 3) := by decide +kernel
theorem d_MS_bytesBehind_87 : decode b_MS_bytesBehind 87 = .ok (.goto (-48), 3) := by decide +kernel
theorem d_MS_bytesBehind_90 : decode b_MS_bytesBehind 90 = .ok (.iconst 0, 1) := by decide +kernel
theorem d_MS_bytesBehind_91 : decode b_MS_bytesBehind 91 = .ok (.istore_n 3, 1) := by decide +kernel
theorem d_MS_bytesBehind_92 : decode b_MS_bytesBehind 92 = .ok (.iload_n 3, 1) := by decide +kernel
theorem d_MS_bytesBehind_93 : decode b_MS_bytesBehind 93 = .ok (.aload_n 1, 1) := by decide +kernel
theorem d_MS_bytesBehind_94 : decode b_MS_bytesBehind 94 = .ok (.getfield 37, 3) := by decide +kernel
theorem d_MS_bytesBehind_97 : decode b_MS_bytesBehind 97 = .ok (.if_icmp .ge 25, 3) := by decide +kernel
theorem d_MS_bytesBehind_100 : decode b_MS_bytesBehind 100 = .ok (.aload_n 0, 1) := by decide +kernel
theorem d_MS_bytesBehind_101 : decode b_MS_bytesBehind 101 = .ok (.aload_n 1, 1) := by decide +kernel
theorem d_MS_bytesBehind_102 : decode b_MS_bytesBehind 102 = .ok (.getfield 21, 3) := by decide +kernel
theorem d_MS_bytesBehind_105 : decode b_MS_bytesBehind 105 = .ok (.iload_n 3, 1) := by decide +kernel
theorem d_MS_bytesBehind_106 : decode b_MS_bytesBehind 106 = .ok (.iaload, 1) := by decide +kernel
theorem d_MS_bytesBehind_107 : decode b_MS_bytesBehind 107 = .ok (.invokevirtual 45, 3) := by decide +kernel
theorem d_MS_bytesBehind_110 : decode b_MS_bytesBehind 110 = .ok (.ifCond .ge 6, 3) := by decide +kernel
theorem d_MS_bytesBehind_113 : decode b_MS_bytesBehind 113 = .ok (.iinc 2 6, 3) := by decide +kernel
theorem d_MS_bytesBehind_116 : decode b_MS_bytesBehind 116 = .ok (.iinc 3 1, 3) := by decide +kernel
theorem d_MS_bytesBehind_119 : decode b_MS_bytesBehind 119 = .ok (.goto (-27), 3) := by decide +kernel
theorem d_MS_bytesBehind_122 : decode b_MS_bytesBehind 122 = .ok (.iload_n 2, 1) := by decide +kernel
theorem d_MS_bytesBehind_123 : decode b_MS_bytesBehind 123 = .ok (.ireturn, 1) := by decide +kernel
theorem d_MS_isSame_0 : decode b_MS_isSame 0 = .ok (.aload_n 0, 1) := by decide +kernel
theorem d_MS_isSame_1 : decode b_MS_isSame 1 = .ok (.getfield 9, 3) := by decide +kernel
theorem d_MS_isSame_4 : decode b_MS_isSame 4 = .ok (.iload_n 1, 1) := by decide +kernel
theorem d_MS_isSame_5 : decode b_MS_isSame 5 = .ok (.iaload, 1) := by decide +kernel
theorem d_MS_isSame_6 : decode b_MS_isSame 6 = .ok (.aload_n 2, 1) := by decide +kernel
theorem d_MS_isSame_7 : decode b_MS_isSame 7 = .ok (.getfield 9, 3) := by decide +kernel
theorem d_MS_isSame_10 : decode b_MS_isSame 10 = .ok (.iload_n 1, 1) := by decide +kernel
theorem d_MS_isSame_11 : decode b_MS_isSame 11 = .ok (.iaload, 1) := by decide +kernel
theorem d_MS_isSame_12 : decode b_MS_isSame 12 = .ok (.if_icmp .ne 18, 3) := by decide +kernel
theorem d_MS_isSame_15 : decode b_MS_isSame 15 = .ok (.aload_n 0, 1) := by decide +kernel
theorem d_MS_isSame_16 : decode b_MS_isSame 16 = .ok (.getfield 15, 3) := by decide +kernel
theorem d_MS_isSame_19 : decode b_MS_isSame 19 = .ok (.iload_n 1, 1) := by decide +kernel
theorem d_MS_isSame_20 : decode b_MS_isSame 20 = .ok (.iaload, 1) := by decide +kernel
theorem d_MS_isSame_21 : decode b_MS_isSame 21 = .ok (.aload_n 2, 1) := by decide +kernel
theorem d_MS_isSame_22 : decode b_MS_isSame 22 = .ok (.getfield 15, 3) := by decide +kernel
theorem d_MS_isSame_25 : decode b_MS_isSame 25 = .ok (.iload_n 1, 1) := by decide +kernel
theorem d_MS_isSame_26 : decode b_MS_isSame 26 = .ok (.iaload, 1) := by decide +kernel
theorem d_MS_isSame_27 : decode b_MS_isSame 27 = .ok (.if_icmp .eq 5, 3) := by decide +kernel
theorem d_MS_isSame_30 : decode b_MS_isSame 30 = .ok (.iconst 0, 1) := by decide +kernel
theorem d_MS_isSame_31 : decode b_MS_isSame 31 = .ok (.ireturn, 1) := by decide +kernel
theorem d_MS_isSame_32 : decode b_MS_isSame 32 = .ok (.iconst 0, 1) := by decide +kernel
theorem d_MS_isSame_33 : decode b_MS_isSame 33 = .ok (.istore_n 3, 1) := by decide +kernel
theorem d_MS_isSame_34 : decode b_MS_isSame 34 = .ok (.iload_n 3, 1) := by decide +kernel
theorem d_MS_isSame_35 : decode b_MS_isSame 35 = .ok (.aload_n 0, 1) := by decide +kernel
theorem d_MS_isSame_36 : decode b_MS_isSame 36 = .ok (.getfield 15, 3) := by decide +kernel
theorem d_MS_isSame_39 : decode b_MS_isSame 39 = .ok (.iload_n 1, 1) := by decide +kernel
theorem d_MS_isSame_40 : decode b_MS_isSame 40 = .ok (.iaload, 1) := by decide +kernel
theorem d_MS_isSame_41 : decode b_MS_isSame 41 = .ok (.if_icmp .ge 72, 3) := by decide +kernel
theorem d_MS_isSame_44 : decode b_MS_isSame 44 = .ok (.aload_n 0, 1) := by decide +kernel
theorem d_MS_isSame_45 : decode b_MS_isSame 45 = .ok (.getfield 24, 3) := by decide +kernel
theorem d_MS_isSame_48 : decode b_MS_isSame 48 = .ok (.bipush 20, 2) := by decide +kernel
theorem d_MS_isSame_50 : decode b_MS_isSame 50 = .ok (.iload_n 1, 1) := by decide +kernel
theorem d_MS_isSame_51 : decode b_MS_isSame 51 = .ok (.imul, 1) := by decide +kernel
theorem d_MS_isSame_52 : decode b_MS_isSame 52 = .ok (.iload_n 3, 1) := by decide +kernel
theorem d_MS_isSame_53 : decode b_MS_isSame 53 = .ok (.iadd, 1) := by decide +kernel
theorem d_MS_isSame_54 : decode b_MS_isSame 54 = .ok (.laload, 1) := by decide +kernel
theorem d_MS_isSame_55 : decode b_MS_isSame 55 = .ok (.aload_n 2, 1) := by decide +kernel
theorem d_MS_isSame_56 : decode b_MS_isSame 56 = .ok (.getfield 24, 3) := by decide +kernel
theorem d_MS_isSame_59 : decode b_MS_isSame 59 = .ok (.bipush 20, 2) := by decide +kernel
theorem d_MS_isSame_61 : decode b_MS_isSame 61 = .ok (.iload_n 1, 1) := by decide +kernel
theorem d_MS_isSame_62 : decode b_MS_isSame 62 = .ok (.imul, 1) := by decide +kernel
theorem d_MS_isSame_63 : decode b_MS_isSame 63 = .ok (.iload_n 3, 1) := by decide +kernel
theorem d_MS_isSame_64 : decode b_MS_isSame 64 = .ok (.iadd, 1) := by decide +kernel
theorem d_MS_isSame_65 : decode b_MS_isSame 65 = .ok (.laload, 1) := by decide +kernel
theorem d_MS_isSame_66 : decode b_MS_isSame 66 = .ok (.lcmp, 1) := by decide +kernel
theorem d_MS_isSame_67 : decode b_MS_isSame 67 = .ok (.ifCond .ne 38, 3) := by decide +kernel
theorem d_MS_isSame_70 : decode b_MS_isSame 70 = .ok (.aload_n 0, 1) := by decide +kernel
theorem d_MS_isSame_71 : decode b_MS_isSame 71 = .ok (.getfield 9, 3) := by decide +kernel
theorem d_MS_isSame_74 : decode b_MS_isSame 74 = .ok (.iload_n 1, 1) := by decide +kernel
theorem d_MS_isSame_75 : decode b_MS_isSame 75 = .ok (.iaload, 1) := by decide +kernel
theorem d_MS_isSame_76 : decode b_MS_isSame 76 = .ok (.iconst 1, 1) := by decide +kernel
theorem d_MS_isSame_77 : decode b_MS_isSame 77 = .ok (.if_icmp .ne 30, 3) := by decide +kernel
theorem d_MS_isSame_80 : decode b_MS_isSame 80 = .ok (.aload_n 0, 1) := by decide +kernel
theorem d_MS_isSame_81 : decode b_MS_isSame 81 = .ok (.getfield 18, 3) := by decide +kernel
theorem d_MS_isSame_84 : decode b_MS_isSame 84 = .ok (.bipush 8, 2) := by decide +kernel
theorem d_MS_isSame_86 : decode b_MS_isSame 86 = .ok (.iload_n 1, 1) := by decide +kernel
theorem d_MS_isSame_87 : decode b_MS_isSame 87 = .ok (.imul, 1) := by decide +kernel
theorem d_MS_isSame_88 : decode b_MS_isSame 88 = .ok (.iload_n 3, 1) := by decide +kernel
theorem d_MS_isSame_89 : decode b_MS_isSame 89 = .ok (.iadd, 1) := by decide +kernel
theorem d_MS_isSame_90 : decode b_MS_isSame 90 = .ok (.iaload, 1) := by decide +kernel
theorem d_MS_isSame_91 : decode b_MS_isSame 91 = .ok (.aload_n 2, 1) := by decide +kernel
theorem d_MS_isSame_92 : decode b_MS_isSame 92 = .ok (.getfield 18, 3) := by decide +kernel
theorem d_MS_isSame_95 : decode b_MS_isSame 95 = .ok (.bipush 8, 2) := by decide +kernel
theorem d_MS_isSame_97 : decode b_MS_isSame 97 = .ok (.iload_n 1, 1) := by decide +kernel
theorem d_MS_isSame_98 : decode b_MS_isSame 98 = .ok (.imul, 1) := by decide +kernel
theorem d_MS_isSame_99 : decode b_MS_isSame 99 = .ok (.iload_n 3, 1) := by decide +kernel
theorem d_MS_isSame_100 : decode b_MS_isSame 100 = .ok (.iadd, 1) := by decide +kernel
theorem d_MS_isSame_101 : decode b_MS_isSame 101 = .ok (.iaload, 1) := by decide +kernel
theorem d_MS_isSame_102 : decode b_MS_isSame 102 = .ok (.if_icmp .eq 5, 3) := by decide +kernel
theorem d_MS_isSame_105 : decode b_MS_isSame 105 = .ok (.iconst 0, 1) := by decide +kernel
theorem d_MS_isSame_106 : decode b_MS_isSame 106 = .ok (.ireturn, 1) := by decide +kernel
theorem d_MS_isSame_107 : decode b_MS_isSame 107 = .ok (.iinc 3 1, 3) := by decide +kernel
theorem d_MS_isSame_110 : decode b_MS_isSame 110 = .ok (.goto (-76), 3) := by decide +kernel
theorem d_MS_isSame_113 : decode b_MS_isSame 113 = .ok (.iconst 1, 1) := by decide +kernel
theorem d_MS_isSame_114 : decode b_MS_isSame 114 = .ok (.ireturn, 1) := by decide +kernel
theorem d_MS_copy_0 : decode b_MS_copy 0 = .ok (.aload_n 1, 1) := by decide +kernel
theorem d_MS_copy_1 : decode b_MS_copy 1 = .ok (.getfield 9, 3) := by decide +kernel
theorem d_MS_copy_4 : decode b_MS_copy 4 = .ok (.iconst 0, 1) := by decide +kernel
theorem d_MS_copy_5 : decode b_MS_copy 5 = .ok (.aload_n 0, 1) := by decide +kernel
theorem d_MS_copy_6 : decode b_MS_copy 6 = .ok (.getfield 9, 3) := by decide +kernel
theorem d_MS_copy_9 : decode b_MS_copy 9 = .ok (.iconst 0, 1) := by decide +kernel
theorem d_MS_copy_10 : decode b_MS_copy 10 = .ok (.bipush 100, 2) := by decide +kernel
theorem d_MS_copy_12 : decode b_MS_copy 12 = .ok (.invokestatic 31, 3) := by decide +kernel
theorem d_MS_copy_15 : decode b_MS_copy 15 = .ok (.aload_n 1, 1) := by decide +kernel
theorem d_MS_copy_16 : decode b_MS_copy 16 = .ok (.getfield 15, 3) := by decide +kernel
theorem d_MS_copy_19 : decode b_MS_copy 19 = .ok (.iconst 0, 1) := by decide +kernel
theorem d_MS_copy_20 : decode b_MS_copy 20 = .ok (.aload_n 0, 1) := by decide +kernel
theorem d_MS_copy_21 : decode b_MS_copy 21 = .ok (.getfield 15, 3) := by decide +kernel
theorem d_MS_copy_24 : decode b_MS_copy 24 = .ok (.iconst 0, 1) := by decide +kernel
theorem d_MS_copy_25 : decode b_MS_copy 25 = .ok (.bipush 100, 2) := by decide +kernel
theorem d_MS_copy_27 : decode b_MS_copy 27 = .ok (.invokestatic 31, 3) := by decide +kernel
theorem d_MS_copy_30 : decode b_MS_copy 30 = .ok (.aload_n 1, 1) := by decide +kernel
theorem d_MS_copy_31 : decode b_MS_copy 31 = .ok (.getfield 18, 3) := by decide +kernel
theorem d_MS_copy_34 : decode b_MS_copy 34 = .ok (.iconst 0, 1) := by decide +kernel
theorem d_MS_copy_35 : decode b_MS_copy 35 = .ok (.aload_n 0, 1) := by decide +kernel
theorem d_MS_copy_36 : decode b_MS_copy 36 = .ok (.getfield 18, 3) := by decide +kernel
theorem d_MS_copy_39 : decode b_MS_copy 39 = .ok (.iconst 0, 1) := by decide +kernel
theorem d_MS_copy_40 : decode b_MS_copy 40 = .ok (.sipush 800, 3) := by decide +kernel
theorem d_MS_copy_43 : decode b_MS_copy 43 = .ok (.invokestatic 31, 3) := by decide +kernel
theorem d_MS_copy_46 : decode b_MS_copy 46 = .ok (.aload_n 1, 1) := by decide +kernel
theorem d_MS_copy_47 : decode b_MS_copy 47 = .ok (.getfield 24, 3) := by decide +kernel
theorem d_MS_copy_50 : decode b_MS_copy 50 = .ok (.iconst 0, 1) := by decide +kernel
theorem d_MS_copy_51 : decode b_MS_copy 51 = .ok (.aload_n 0, 1) := by decide +kernel
theorem d_MS_copy_52 : decode b_MS_copy 52 = .ok (.getfield 24, 3) := by decide +kernel
theorem d_MS_copy_55 : decode b_MS_copy 55 = .ok (.iconst 0, 1) := by decide +kernel
theorem d_MS_copy_56 : decode b_MS_copy 56 = .ok (.sipush 2000, 3) := by decide +kernel
theorem d_MS_copy_59 : decode b_MS_copy 59 = .ok (.invokestatic 31, 3) := by decide +kernel
theorem d_MS_copy_62 : decode b_MS_copy 62 = .ok (.aload_n 1, 1) := by decide +kernel
theorem d_MS_copy_63 : decode b_MS_copy 63 = .ok (.getfield 21, 3) := by decide +kernel
theorem d_MS_copy_66 : decode b_MS_copy 66 = .ok (.iconst 0, 1) := by decide +kernel
theorem d_MS_copy_67 : decode b_MS_copy 67 = .ok (.aload_n 0, 1) := by decide +kernel
theorem d_MS_copy_68 : decode b_MS_copy 68 = .ok (.getfield 21, 3) := by decide +kernel
theorem d_MS_copy_71 : decode b_MS_copy 71 = .ok (.iconst 0, 1) := by decide +kernel
theorem d_MS_copy_72 : decode b_MS_copy 72 = .ok (.bipush 12, 2) := by decide +kernel
theorem d_MS_copy_74 : decode b_MS_copy 74 = .ok (.invokestatic 31, 3) := by decide +kernel
theorem d_MS_copy_77 : decode b_MS_copy 77 = .ok (.aload_n 1, 1) := by decide +kernel
theorem d_MS_copy_78 : decode b_MS_copy 78 = .ok (.getfield 28, 3) := by decide +kernel
theorem d_MS_copy_81 : decode b_MS_copy 81 = .ok (.iconst 0, 1) := by decide +kernel
theorem d_MS_copy_82 : decode b_MS_copy 82 = .ok (.aload_n 0, 1) := by decide +kernel
theorem d_MS_copy_83 : decode b_MS_copy 83 = .ok (.getfield 28, 3) := by decide +kernel
theorem d_MS_copy_86 : decode b_MS_copy 86 = .ok (.iconst 0, 1) := by decide +kernel
theorem d_MS_copy_87 : decode b_MS_copy 87 = .ok (.bipush 12, 2) := by decide +kernel
theorem d_MS_copy_89 : decode b_MS_copy 89 = .ok (.invokestatic 31, 3) := by decide +kernel
theorem d_MS_copy_92 : decode b_MS_copy 92 = .ok (.aload_n 0, 1) := by decide +kernel
theorem d_MS_copy_93 : decode b_MS_copy 93 = .ok (.aload_n 1, 1) := by decide +kernel
theorem d_MS_copy_94 : decode b_MS_copy 94 = .ok (.getfield 37, 3) := by decide +kernel
theorem d_MS_copy_97 : decode b_MS_copy 97 = .ok (.putfield 37, 3) := by decide +kernel
theorem d_MS_copy_100 : decode b_MS_copy 100 = .ok (.return_, 1) := by decide +kernel
end
section
theorem d_M_init_0 : decode b_M_init 0 = .ok (.aload_n 0, 1) := by decide +kernel
theorem d_M_init_1 : decode b_M_init 1 = .ok (.invokespecial 1, 3) := by decide +kernel
theorem d_M_init_4 : decode b_M_init 4 = .ok (.aload_n 0, 1) := by decide +kernel
theorem d_M_init_5 : decode b_M_init 5 = .ok (.new 7, 3) := by decide +kernel
theorem d_M_init_8 : decode b_M_init 8 = .ok (.dup, 1) := by decide +kernel
theorem d_M_init_9 : decode b_M_init 9 = .ok (.invokespecial 9, 3) := by decide +kernel
theorem d_M_init_12 : decode b_M_init 12 = .ok (.putfield 10, 3) := by decide +kernel
theorem d_M_init_15 : decode b_M_init 15 = .ok (.aload_n 0, 1) := by decide +kernel
theorem d_M_init_16 : decode b_M_init 16 = .ok (.new 7, 3) := by decide +kernel
theorem d_M_init_19 : decode b_M_init 19 = .ok (.dup, 1) := by decide +kernel
theorem d_M_init_20 : decode b_M_init 20 = .ok (.invokespecial 9, 3) := by decide +kernel
theorem d_M_init_23 : decode b_M_init 23 = .ok (.putfield 16, 3) := by decide +kernel
theorem d_M_init_26 : decode b_M_init 26 = .ok (.aload_n 0, 1) := by decide +kernel
theorem d_M_init_27 : decode b_M_init 27 = .ok (.new 7, 3) := by decide +kernel
theorem d_M_init_30 : decode b_M_init 30 = .ok (.dup, 1) := by decide +kernel
theorem d_M_init_31 : decode b_M_init 31 = .ok (.invokespecial 9, 3) := by decide +kernel
theorem d_M_init_34 : decode b_M_init 34 = .ok (.putfield 19, 3) := by decide +kernel
theorem d_M_init_37 : decode b_M_init 37 = .ok (.aload_n 0, 1) := by decide +kernel
theorem d_M_init_38 : decode b_M_init 38 = .ok (.bipush 8, 2) := by decide +kernel
theorem d_M_init_40 : decode b_M_init 40 = .ok (.anewarray 7, 3) := by decide +kernel
theorem d_M_init_43 : decode b_M_init 43 = .ok (.putfield 22, 3) := by decide +kernel
theorem d_M_init_46 : decode b_M_init 46 = .ok (.aload_n 0, 1) := by decide +kernel
theorem d_M_init_47 : decode b_M_init 47 = .ok (.bipush 100, 2) := by decide +kernel
theorem d_M_init_49 : decode b_M_init 49 = .ok (.newarray .boolean, 2) := by decide +kernel
theorem d_M_init_51 : decode b_M_init 51 = .ok (.putfield 26, 3) := by decide +kernel
theorem d_M_init_54 : decode b_M_init 54 = .ok (.aload_n 0, 1) := by decide +kernel
theorem d_M_init_55 : decode b_M_init 55 = .ok (.bipush 100, 2) := by decide +kernel
theorem d_M_init_57 : decode b_M_init 57 = .ok (.newarray .int, 2) := by decide +kernel
theorem d_M_init_59 : decode b_M_init 59 = .ok (.putfield 30, 3) := by decide +kernel
theorem d_M_init_62 : decode b_M_init 62 = .ok (.iconst 0, 1) := by decide +kernel
theorem d_M_init_63 : decode b_M_init 63 = .ok (.istore_n 1, 1) := by decide +kernel
theorem d_M_init_64 : decode b_M_init 64 = .ok (.iload_n 1, 1) := by decide +kernel
theorem d_M_init_65 : decode b_M_init 65 = .ok (.bipush 8, 2) := by decide +kernel
theorem d_M_init_67 : decode b_M_init 67 = .ok (.if_icmp .ge 22, 3) := by decide +kernel
theorem d_M_init_70 : decode b_M_init 70 = .ok (.aload_n 0, 1) := by decide +kernel
theorem d_M_init_71 : decode b_M_init 71 = .ok (.getfield 22, 3) := by decide +kernel
theorem d_M_init_74 : decode b_M_init 74 = .ok (.iload_n 1, 1) := by decide +kernel
theorem d_M_init_75 : decode b_M_init 75 = .ok (.new 7, 3) := by decide +kernel
theorem d_M_init_78 : decode b_M_init 78 = .ok (.dup, 1) := by decide +kernel
theorem d_M_init_79 : decode b_M_init 79 = .ok (.invokespecial 9, 3) := by decide +kernel
theorem d_M_init_82 : decode b_M_init 82 = .ok (.aastore, 1) := by decide +kernel
theorem d_M_init_83 : decode b_M_init 83 = .ok (.iinc 1 1, 3) := by decide +kernel
theorem d_M_init_86 : decode b_M_init 86 = .ok (.goto (-22), 3) := by decide +kernel
theorem d_M_init_89 : decode b_M_init 89 = .ok (.return_, 1) := by decide +kernel
theorem d_M_make_0 : decode b_M_make 0 = .ok (.iconst 0, 1) := by decide +kernel
theorem d_M_make_1 : decode b_M_make 1 = .ok (.istore_n 2, 1) := by decide +kernel
theorem d_M_make_2 : decode b_M_make 2 = .ok (.iload_n 2, 1) := by decide +kernel
theorem d_M_make_3 : decode b_M_make 3 = .ok (.bipush 100, 2) := by decide +kernel
theorem d_M_make_5 : decode b_M_make 5 = .ok (.if_icmp .ge 54, 3) := by decide +kernel
theorem d_M_make_8 : decode b_M_make 8 = .ok (.aload_n 0, 1) := by decide +kernel
theorem d_M_make_9 : decode b_M_make 9 = .ok (.getfield 10, 3) := by decide +kernel
theorem d_M_make_12 : decode b_M_make 12 = .ok (.getfield 40, 3) := by decide +kernel
theorem d_M_make_15 : decode b_M_make 15 = .ok (.iload_n 2, 1) := by decide +kernel
theorem d_M_make_16 : decode b_M_make 16 = .ok (.iaload, 1) := by decide +kernel
theorem d_M_make_17 : decode b_M_make 17 = .ok (.ifCond .eq 6, 3) := by decide +kernel
theorem d_M_make_20 : decode b_M_make 20 = .ok (.goto 33, 3) := by decide +kernel
theorem d_M_make_23 : decode b_M_make 23 = .ok (.aload_n 0, 1) := by decide +kernel
theorem d_M_make_24 : decode b_M_make 24 = .ok (.getfield 10, 3) := by decide +kernel
theorem d_M_make_27 : decode b_M_make 27 = .ok (.getfield 40, 3) := by decide +kernel
theorem d_M_make_30 : decode b_M_make 30 = .ok (.iload_n 2, 1) := by decide +kernel
theorem d_M_make_31 : decode b_M_make 31 = .ok (.iload_n 1, 1) := by decide +kernel
theorem d_M_make_32 : decode b_M_make 32 = .ok (.ifCond .eq 7, 3) := by decide +kernel
theorem d_M_make_35 : decode b_M_make 35 = .ok (.iconst 2, 1) := by decide +kernel
theorem d_M_make_36 : decode b_M_make 36 = .ok (.goto 4, 3) := by decide +kernel
theorem d_M_make_39 : decode b_M_make 39 = .ok (.iconst 1, 1) := by decide +kernel
theorem d_M_make_40 : decode b_M_make 40 = .ok (.iastore, 1) := by decide +kernel
theorem d_M_make_41 : decode b_M_make 41 = .ok (.aload_n 0, 1) := by decide +kernel
theorem d_M_make_42 : decode b_M_make 42 = .ok (.getfield 10, 3) := by decide +kernel
theorem d_M_make_45 : decode b_M_make 45 = .ok (.getfield 51, 3) := by decide +kernel
theorem d_M_make_48 : decode b_M_make 48 = .ok (.iload_n 2, 1) := by decide +kernel
theorem d_M_make_49 : decode b_M_make 49 = .ok (.iconst 0, 1) := by decide +kernel
theorem d_M_make_50 : decode b_M_make 50 = .ok (.iastore, 1) := by decide +kernel
theorem d_M_make_51 : decode b_M_make 51 = .ok (.iload_n 2, 1) := by decide +kernel
theorem d_M_make_52 : decode b_M_make 52 = .ok (.ireturn, 1) := by decide +kernel
theorem d_M_make_53 : decode b_M_make 53 = .ok (.iinc 2 1, 3) := by decide +kernel
theorem d_M_make_56 : decode b_M_make 56 = .ok (.goto (-54), 3) := by decide +kernel
theorem d_M_make_59 : decode b_M_make 59 = .ok (.bipush (-3), 2) := by decide +kernel
theorem d_M_make_61 : decode b_M_make 61 = .ok (.ireturn, 1) := by decide +kernel
theorem d_M_set_0 : decode b_M_set 0 = .ok (.aload_n 0, 1) := by decide +kernel
theorem d_M_set_1 : decode b_M_set 1 = .ok (.iload_n 1, 1) := by decide +kernel
theorem d_M_set_2 : decode b_M_set 2 = .ok (.iconst 1, 1) := by decide +kernel
theorem d_M_set_3 : decode b_M_set 3 = .ok (.invokevirtual 54, 3) := by decide +kernel
theorem d_M_set_6 : decode b_M_set 6 = .ok (.ifCond .eq 13, 3) := by decide +kernel
theorem d_M_set_9 : decode b_M_set 9 = .ok (.aload_n 0, 1) := by decide +kernel
theorem d_M_set_10 : decode b_M_set 10 = .ok (.iload_n 3, 1) := by decide +kernel
theorem d_M_set_11 : decode b_M_set 11 = .ok (.iload 4, 2) := by decide +kernel
theorem d_M_set_13 : decode b_M_set 13 = .ok (.invokevirtual 58, 3) := by decide +kernel
theorem d_M_set_16 : decode b_M_set 16 = .ok (.ifCond .ne 5, 3) := by decide +kernel
theorem d_M_set_19 : decode b_M_set 19 = .ok (.iconst (-1), 1) := by decide +kernel
theorem d_M_set_20 : decode b_M_set 20 = .ok (.ireturn, 1) := by decide +kernel
theorem d_M_set_21 : decode b_M_set 21 = .ok (.aload_n 0, 1) := by decide +kernel
theorem d_M_set_22 : decode b_M_set 22 = .ok (.getfield 10, 3) := by decide +kernel
theorem d_M_set_25 : decode b_M_set 25 = .ok (.iload_n 1, 1) := by decide +kernel
theorem d_M_set_26 : decode b_M_set 26 = .ok (.iload_n 2, 1) := by decide +kernel
theorem d_M_set_27 : decode b_M_set 27 = .ok (.invokevirtual 61, 3) := by decide +kernel
theorem d_M_set_30 : decode b_M_set 30 = .ok (.istore 5, 2) := by decide +kernel
theorem d_M_set_32 : decode b_M_set 32 = .ok (.bipush 8, 2) := by decide +kernel
theorem d_M_set_34 : decode b_M_set 34 = .ok (.iload_n 1, 1) := by decide +kernel
theorem d_M_set_35 : decode b_M_set 35 = .ok (.imul, 1) := by decide +kernel
theorem d_M_set_36 : decode b_M_set 36 = .ok (.istore 6, 2) := by decide +kernel
theorem d_M_set_38 : decode b_M_set 38 = .ok (.bipush 20, 2) := by decide +kernel
theorem d_M_set_40 : decode b_M_set 40 = .ok (.iload_n 1, 1) := by decide +kernel
theorem d_M_set_41 : decode b_M_set 41 = .ok (.imul, 1) := by decide +kernel
theorem d_M_set_42 : decode b_M_set 42 = .ok (.istore 7, 2) := by decide +kernel
theorem d_M_set_44 : decode b_M_set 44 = .ok (.iload_n 3, 1) := by decide +kernel
theorem d_M_set_45 : decode b_M_set 45 = .ok (.ifCond .ne 121, 3) := by decide +kernel
theorem d_M_set_48 : decode b_M_set 48 = .ok (.iload 5, 2) := by decide +kernel
theorem d_M_set_50 : decode b_M_set 50 = .ok (.ifCond .ge 13, 3) := by decide +kernel
theorem d_M_set_53 : decode b_M_set 53 = .ok (.aload_n 0, 1) := by decide +kernel
theorem d_M_set_54 : decode b_M_set 54 = .ok (.getfield 10, 3) := by decide +kernel
theorem d_M_set_57 : decode b_M_set 57 = .ok (.getfield 51, 3) := by decide +kernel
theorem d_M_set_60 : decode b_M_set 60 = .ok (.iload_n 1, 1) := by decide +kernel
theorem d_M_set_61 : decode b_M_set 61 = .ok (.iaload, 1) := by decide +kernel
theorem d_M_set_62 : decode b_M_set 62 = .ok (.ireturn, 1) := by decide +kernel
theorem d_M_set_63 : decode b_M_set 63 = .ok (.aload_n 0, 1) := by decide +kernel
theorem d_M_set_64 : decode b_M_set 64 = .ok (.getfield 10, 3) := by decide +kernel
theorem d_M_set_67 : decode b_M_set 67 = .ok (.getfield 51, 3) := by decide +kernel
theorem d_M_set_70 : decode b_M_set 70 = .ok (.iload_n 1, 1) := by decide +kernel
theorem d_M_set_71 : decode b_M_set 71 = .ok (.dup2, 1) := by decide +kernel
theorem d_M_set_72 : decode b_M_set 72 = .ok (.iaload, 1) := by decide +kernel
theorem d_M_set_73 : decode b_M_set 73 = .ok (.iconst 1, 1) := by decide +kernel
theorem d_M_set_74 : decode b_M_set 74 = .ok (.isub, 1) := by decide +kernel
theorem d_M_set_75 : decode b_M_set 75 = .ok (.iastore, 1) := by decide +kernel
theorem d_M_set_76 : decode b_M_set 76 = .ok (.iload 5, 2) := by decide +kernel
theorem d_M_set_78 : decode b_M_set 78 = .ok (.istore 8, 2) := by decide +kernel
theorem d_M_set_80 : decode b_M_set 80 = .ok (.iload 8, 2) := by decide +kernel
theorem d_M_set_82 : decode b_M_set 82 = .ok (.aload_n 0, 1) := by decide +kernel
theorem d_M_set_83 : decode b_M_set 83 = .ok (.getfield 10, 3) := by decide +kernel
theorem d_M_set_86 : decode b_M_set 86 = .ok (.getfield 51, 3) := by decide +kernel
theorem d_M_set_89 : decode b_M_set 89 = .ok (.iload_n 1, 1) := by decide +kernel
theorem d_M_set_90 : decode b_M_set 90 = .ok (.iaload, 1) := by decide +kernel
theorem d_M_set_91 : decode b_M_set 91 = .ok (.if_icmp .ge 65, 3) := by decide +kernel
theorem d_M_set_94 : decode b_M_set 94 = .ok (.aload_n 0, 1) := by decide +kernel
theorem d_M_set_95 : decode b_M_set 95 = .ok (.getfield 10, 3) := by decide +kernel
theorem d_M_set_98 : decode b_M_set 98 = .ok (.getfield 65, 3) := by decide +kernel
theorem d_M_set_101 : decode b_M_set 101 = .ok (.iload 6, 2) := by decide +kernel
theorem d_M_set_103 : decode b_M_set 103 = .ok (.iload 8, 2) := by decide +kernel
theorem d_M_set_105 : decode b_M_set 105 = .ok (.iadd, 1) := by decide +kernel
theorem d_M_set_106 : decode b_M_set 106 = .ok (.aload_n 0, 1) := by decide +kernel
theorem d_M_set_107 : decode b_M_set 107 = .ok (.getfield 10, 3) := by decide +kernel
theorem d_M_set_110 : decode b_M_set 110 = .ok (.getfield 65, 3) := by decide +kernel
theorem d_M_set_113 : decode b_M_set 113 = .ok (.iload 6, 2) := by decide +kernel
theorem d_M_set_115 : decode b_M_set 115 = .ok (.iload 8, 2) := by decide +kernel
theorem d_M_set_117 : decode b_M_set 117 = .ok (.iadd, 1) := by decide +kernel
theorem d_M_set_118 : decode b_M_set 118 = .ok (.iconst 1, 1) := by decide +kernel
theorem d_M_set_119 : decode b_M_set 119 = .ok (.iadd, 1) := by decide +kernel
theorem d_M_set_120 : decode b_M_set 120 = .ok (.iaload, 1) := by decide +kernel
theorem d_M_set_121 : decode b_M_set 121 = .ok (.iastore, 1) := by decide +kernel
theorem d_M_set_122 : decode b_M_set 122 = .ok (.aload_n 0, 1) := by decide +kernel
theorem d_M_set_123 : decode b_M_set 123 = .ok (.getfield 10, 3) := by decide +kernel
theorem d_M_set_126 : decode b_M_set 126 = .ok (.getfield 68, 3) := by decide +kernel
theorem d_M_set_129 : decode b_M_set 129 = .ok (.iload 7, 2) := by decide +kernel
theorem d_M_set_131 : decode b_M_set 131 = .ok (.iload 8, 2) := by decide +kernel
theorem d_M_set_133 : decode b_M_set 133 = .ok (.iadd, 1) := by decide +kernel
theorem d_M_set_134 : decode b_M_set 134 = .ok (.aload_n 0, 1) := by decide +kernel
theorem d_M_set_135 : decode b_M_set 135 = .ok (.getfield 10, 3) := by decide +kernel
theorem d_M_set_138 : decode b_M_set 138 = .ok (.getfield 68, 3) := by decide +kernel
theorem d_M_set_141 : decode b_M_set 141 = .ok (.iload 7, 2) := by decide +kernel
theorem d_M_set_143 : decode b_M_set 143 = .ok (.iload 8, 2) := by decide +kernel
theorem d_M_set_145 : decode b_M_set 145 = .ok (.iadd, 1) := by decide +kernel
theorem d_M_set_146 : decode b_M_set 146 = .ok (.iconst 1, 1) := by decide +kernel
theorem d_M_set_147 : decode b_M_set 147 = .ok (.iadd, 1) := by decide +kernel
theorem d_M_set_148 : decode b_M_set 148 = .ok (.laload, 1) := by decide +kernel
theorem d_M_set_149 : decode b_M_set 149 = .ok (.lastore, 1) := by decide +kernel
theorem d_M_set_150 : decode b_M_set 150 = .ok (.iinc 8 1, 3) := by decide +kernel
theorem d_M_set_153 : decode b_M_set 153 = .ok (.goto (-73), 3) := by decide +kernel
theorem d_M_set_156 : decode b_M_set 156 = .ok (.aload_n 0, 1) := by decide +kernel
theorem d_M_set_157 : decode b_M_set 157 = .ok (.getfield 10, 3) := by decide +kernel
theorem d_M_set_160 : decode b_M_set 160 = .ok (.getfield 51, 3) := by decide +kernel
theorem d_M_set_163 : decode b_M_set 163 = .ok (.iload_n 1, 1) := by decide +kernel
theorem d_M_set_164 : decode b_M_set 164 = .ok (.iaload, 1) := by decide +kernel
theorem d_M_set_165 : decode b_M_set 165 = .ok (.ireturn, 1) := by decide +kernel
theorem d_M_set_166 : decode b_M_set 166 = .ok (.iload 5, 2) := by decide +kernel
theorem d_M_set_168 : decode b_M_set 168 = .ok (.ifCond .ge 58, 3) := by decide +kernel
theorem d_M_set_171 : decode b_M_set 171 = .ok (.aload_n 0, 1) := by decide +kernel
theorem d_M_set_172 : decode b_M_set 172 = .ok (.getfield 10, 3) := by decide +kernel
theorem d_M_set_175 : decode b_M_set 175 = .ok (.getfield 51, 3) := by decide +kernel
theorem d_M_set_178 : decode b_M_set 178 = .ok (.iload_n 1, 1) := by decide +kernel
theorem d_M_set_179 : decode b_M_set 179 = .ok (.iaload, 1) := by decide +kernel
theorem d_M_set_180 : decode b_M_set 180 = .ok (.bipush 8, 2) := by decide +kernel
theorem d_M_set_182 : decode b_M_set 182 = .ok (.if_icmp .ne 6, 3) := by decide +kernel
theorem d_M_set_185 : decode b_M_set 185 = .ok (.bipush (-3), 2) := by decide +kernel
theorem d_M_set_187 : decode b_M_set 187 = .ok (.ireturn, 1) := by decide +kernel
theorem d_M_set_188 : decode b_M_set 188 = .ok (.aload_n 0, 1) := by decide +kernel
theorem d_M_set_189 : decode b_M_set 189 = .ok (.getfield 10, 3) := by decide +kernel
theorem d_M_set_192 : decode b_M_set 192 = .ok (.getfield 51, 3) := by decide +kernel
theorem d_M_set_195 : decode b_M_set 195 = .ok (.iload_n 1, 1) := by decide +kernel
theorem d_M_set_196 : decode b_M_set 196 = .ok (.iaload, 1) := by decide +kernel
theorem d_M_set_197 : decode b_M_set 197 = .ok (.istore 5, 2) := by decide +kernel
theorem d_M_set_199 : decode b_M_set 199 = .ok (.aload_n 0, 1) := by decide +kernel
theorem d_M_set_200 : decode b_M_set 200 = .ok (.getfield 10, 3) := by decide +kernel
theorem d_M_set_203 : decode b_M_set 203 = .ok (.getfield 51, 3) := by decide +kernel
theorem d_M_set_206 : decode b_M_set 206 = .ok (.iload_n 1, 1) := by decide +kernel
theorem d_M_set_207 : decode b_M_set 207 = .ok (.dup2, 1) := by decide +kernel
theorem d_M_set_208 : decode b_M_set 208 = .ok (.iaload, 1) := by decide +kernel
theorem d_M_set_209 : decode b_M_set 209 = .ok (.iconst 1, 1) := by decide +kernel
theorem d_M_set_210 : decode b_M_set 210 = .ok (.iadd, 1) := by decide +kernel
theorem d_M_set_211 : decode b_M_set 211 = .ok (.iastore, 1) := by decide +kernel
theorem d_M_set_212 : decode b_M_set 212 = .ok (.aload_n 0, 1) := by decide +kernel
theorem d_M_set_213 : decode b_M_set 213 = .ok (.getfield 10, 3) := by decide +kernel
theorem d_M_set_216 : decode b_M_set 216 = .ok (.getfield 65, 3) := by decide +kernel
theorem d_M_set_219 : decode b_M_set 219 = .ok (.iload 6, 2) := by decide +kernel
theorem d_M_set_221 : decode b_M_set 221 = .ok (.iload 5, 2) := by decide +kernel
theorem d_M_set_223 : decode b_M_set 223 = .ok (.iadd, 1) := by decide +kernel
theorem d_M_set_224 : decode b_M_set 224 = .ok (.iload_n 2, 1) := by decide +kernel
theorem d_M_set_225 : decode b_M_set 225 = .ok (.iastore, 1) := by decide +kernel
theorem d_M_set_226 : decode b_M_set 226 = .ok (.aload_n 0, 1) := by decide +kernel
theorem d_M_set_227 : decode b_M_set 227 = .ok (.getfield 10, 3) := by decide +kernel
theorem d_M_set_230 : decode b_M_set 230 = .ok (.getfield 68, 3) := by decide +kernel
theorem d_M_set_233 : decode b_M_set 233 = .ok (.iload 7, 2) := by decide +kernel
theorem d_M_set_235 : decode b_M_set 235 = .ok (.iload 5, 2) := by decide +kernel
theorem d_M_set_237 : decode b_M_set 237 = .ok (.iadd, 1) := by decide +kernel
theorem d_M_set_238 : decode b_M_set 238 = .ok (.iload_n 3, 1) := by decide +kernel
theorem d_M_set_239 : decode b_M_set 239 = .ok (.iload 4, 2) := by decide +kernel
theorem d_M_set_241 : decode b_M_set 241 = .ok (.invokestatic 72, 3) := by decide +kernel
theorem d_M_set_244 : decode b_M_set 244 = .ok (.lastore, 1) := by decide +kernel
theorem d_M_set_245 : decode b_M_set 245 = .ok (.aload_n 0, 1) := by decide +kernel
theorem d_M_set_246 : decode b_M_set 246 = .ok (.getfield 10, 3) := by decide +kernel
theorem d_M_set_249 : decode b_M_set 249 = .ok (.getfield 51, 3) := by decide +kernel
theorem d_M_set_252 : decode b_M_set 252 = .ok (.iload_n 1, 1) := by decide +kernel
theorem d_M_set_253 : decode b_M_set 253 = .ok (.iaload, 1) := by decide +kernel
theorem d_M_set_254 : decode b_M_set 254 = .ok (.ireturn, 1) := by decide +kernel
theorem d_M_is_0 : decode b_M_is 0 = .ok (.iload_n 1, 1) := by decide +kernel
theorem d_M_is_1 : decode b_M_is 1 = .ok (.i2l, 1) := by decide +kernel
theorem d_M_is_2 : decode b_M_is 2 = .ok (.lconst 0, 1) := by decide +kernel
theorem d_M_is_3 : decode b_M_is 3 = .ok (.ldc2_w 34, 3) := by decide +kernel
theorem d_M_is_6 : decode b_M_is 6 = .ok (.invokestatic 36, 3) := by decide +kernel
theorem d_M_is_9 : decode b_M_is 9 = .ok (.ifCond .eq 20, 3) := by decide +kernel
theorem d_M_is_12 : decode b_M_is 12 = .ok (.aload_n 0, 1) := by decide +kernel
theorem d_M_is_13 : decode b_M_is 13 = .ok (.getfield 10, 3) := by decide +kernel
theorem d_M_is_16 : decode b_M_is 16 = .ok (.getfield 40, 3) := by decide +kernel
theorem d_M_is_19 : decode b_M_is 19 = .ok (.iload_n 1, 1) := by decide +kernel
theorem d_M_is_20 : decode b_M_is 20 = .ok (.iaload, 1) := by decide +kernel
theorem d_M_is_21 : decode b_M_is 21 = .ok (.iload_n 2, 1) := by decide +kernel
theorem d_M_is_22 : decode b_M_is 22 = .ok (.if_icmp .ne 7, 3) := by decide +kernel
theorem d_M_is_25 : decode b_M_is 25 = .ok (.iconst 1, 1) := by decide +kernel
theorem d_M_is_26 : decode b_M_is 26 = .ok (.goto 4, 3) := by decide +kernel
theorem d_M_is_29 : decode b_M_is 29 = .ok (.iconst 0, 1) := by decide +kernel
theorem d_M_is_30 : decode b_M_is 30 = .ok (.ireturn, 1) := by decide +kernel
theorem d_M_in_0 : decode b_M_in 0 = .ok (.lload_n 0, 1) := by decide +kernel
theorem d_M_in_1 : decode b_M_in 1 = .ok (.lload_n 2, 1) := by decide +kernel
theorem d_M_in_2 : decode b_M_in 2 = .ok (.lcmp, 1) := by decide +kernel
theorem d_M_in_3 : decode b_M_in 3 = .ok (.ifCond .lt 14, 3) := by decide +kernel
theorem d_M_in_6 : decode b_M_in 6 = .ok (.lload_n 0, 1) := by decide +kernel
theorem d_M_in_7 : decode b_M_in 7 = .ok (.lload 4, 2) := by decide +kernel
theorem d_M_in_9 : decode b_M_in 9 = .ok (.lcmp, 1) := by decide +kernel
theorem d_M_in_10 : decode b_M_in 10 = .ok (.ifCond .gt 7, 3) := by decide +kernel
theorem d_M_in_13 : decode b_M_in 13 = .ok (.iconst 1, 1) := by decide +kernel
theorem d_M_in_14 : decode b_M_in 14 = .ok (.goto 4, 3) := by decide +kernel
theorem d_M_in_17 : decode b_M_in 17 = .ok (.iconst 0, 1) := by decide +kernel
theorem d_M_in_18 : decode b_M_in 18 = .ok (.ireturn, 1) := by decide +kernel
theorem d_M_isValue_0 : decode b_M_isValue 0 = .ok (.iload_n 1, 1) := by decide +kernel
theorem d_M_isValue_1 : decode b_M_isValue 1 = .ok (.ifCond .eq 21, 3) := by decide +kernel
theorem d_M_isValue_4 : decode b_M_isValue 4 = .ok (.iload_n 1, 1) := by decide +kernel
theorem d_M_isValue_5 : decode b_M_isValue 5 = .ok (.iconst 1, 1) := by decide +kernel
theorem d_M_isValue_6 : decode b_M_isValue 6 = .ok (.if_icmp .eq 16, 3) := by decide +kernel
theorem d_M_isValue_9 : decode b_M_isValue 9 = .ok (.iload_n 1, 1) := by decide +kernel
theorem d_M_isValue_10 : decode b_M_isValue 10 = .ok (.iconst 2, 1) := by decide +kernel
theorem d_M_isValue_11 : decode b_M_isValue 11 = .ok (.if_icmp .ne 15, 3) := by decide +kernel
theorem d_M_isValue_14 : decode b_M_isValue 14 = .ok (.aload_n 0, 1) := by decide +kernel
theorem d_M_isValue_15 : decode b_M_isValue 15 = .ok (.iload_n 2, 1) := by decide +kernel
theorem d_M_isValue_16 : decode b_M_isValue 16 = .ok (.invokevirtual 43, 3) := by decide +kernel
theorem d_M_isValue_19 : decode b_M_isValue 19 = .ok (.ifCond .eq 7, 3) := by decide +kernel
theorem d_M_isValue_22 : decode b_M_isValue 22 = .ok (.iconst 1, 1) := by decide +kernel
theorem d_M_isValue_23 : decode b_M_isValue 23 = .ok (.goto 4, 3) := by decide +kernel
theorem d_M_isValue_26 : decode b_M_isValue 26 = .ok (.iconst 0, 1) := by decide +kernel
theorem d_M_isValue_27 : decode b_M_isValue 27 = .ok (.ireturn, 1) := by decide +kernel
theorem d_M_isThere_0 : decode b_M_isThere 0 = .ok (.iload_n 1, 1) := by decide +kernel
theorem d_M_isThere_1 : decode b_M_isThere 1 = .ok (.i2l, 1) := by decide +kernel
theorem d_M_isThere_2 : decode b_M_isThere 2 = .ok (.lconst 0, 1) := by decide +kernel
theorem d_M_isThere_3 : decode b_M_isThere 3 = .ok (.ldc2_w 34, 3) := by decide +kernel
theorem d_M_isThere_6 : decode b_M_isThere 6 = .ok (.invokestatic 36, 3) := by decide +kernel
theorem d_M_isThere_9 : decode b_M_isThere 9 = .ok (.ifCond .eq 19, 3) := by decide +kernel
theorem d_M_isThere_12 : decode b_M_isThere 12 = .ok (.aload_n 0, 1) := by decide +kernel
theorem d_M_isThere_13 : decode b_M_isThere 13 = .ok (.getfield 10, 3) := by decide +kernel
theorem d_M_isThere_16 : decode b_M_isThere 16 = .ok (.getfield 40, 3) := by decide +kernel
theorem d_M_isThere_19 : decode b_M_isThere 19 = .ok (.iload_n 1, 1) := by decide +kernel
theorem d_M_isThere_20 : decode b_M_isThere 20 = .ok (.iaload, 1) := by decide +kernel
theorem d_M_isThere_21 : decode b_M_isThere 21 = .ok (.ifCond .eq 7, 3) := by decide +kernel
theorem d_M_isThere_24 : decode b_M_isThere 24 = .ok (.iconst 1, 1) := by decide +kernel
theorem d_M_isThere_25 : decode b_M_isThere 25 = .ok (.goto 4, 3) := by decide +kernel
theorem d_M_isThere_28 : decode b_M_isThere 28 = .ok (.iconst 0, 1) := by decide +kernel
theorem d_M_isThere_29 : decode b_M_isThere 29 = .ok (.ireturn, 1) := by decide +kernel
theorem d_M_value_0 : decode b_M_value 0 = .ok (.iload_n 0, 1) := by decide +kernel
theorem d_M_value_1 : decode b_M_value 1 = .ok (.ifCond .ne 9, 3) := by decide +kernel
theorem d_M_value_4 : decode b_M_value 4 = .ok (.ldc2_w 47, 3) := by decide +kernel
theorem d_M_value_7 : decode b_M_value 7 = .ok (.goto 19, 3) := by decide +kernel
theorem d_M_value_10 : decode b_M_value 10 = .ok (.iload_n 0, 1) := by decide +kernel
theorem d_M_value_11 : decode b_M_value 11 = .ok (.iconst 1, 1) := by decide +kernel
theorem d_M_value_12 : decode b_M_value 12 = .ok (.if_icmp .ne 8, 3) := by decide +kernel
theorem d_M_value_15 : decode b_M_value 15 = .ok (.iload_n 1, 1) := by decide +kernel
theorem d_M_value_16 : decode b_M_value 16 = .ok (.i2l, 1) := by decide +kernel
theorem d_M_value_17 : decode b_M_value 17 = .ok (.goto 9, 3) := by decide +kernel
theorem d_M_value_20 : decode b_M_value 20 = .ok (.ldc2_w 49, 3) := by decide +kernel
theorem d_M_value_23 : decode b_M_value 23 = .ok (.iload_n 1, 1) := by decide +kernel
theorem d_M_value_24 : decode b_M_value 24 = .ok (.i2l, 1) := by decide +kernel
theorem d_M_value_25 : decode b_M_value 25 = .ok (.ladd, 1) := by decide +kernel
theorem d_M_value_26 : decode b_M_value 26 = .ok (.lreturn, 1) := by decide +kernel
theorem d_M_get_0 : decode b_M_get 0 = .ok (.aload_n 0, 1) := by decide +kernel
theorem d_M_get_1 : decode b_M_get 1 = .ok (.iload_n 1, 1) := by decide +kernel
theorem d_M_get_2 : decode b_M_get 2 = .ok (.iconst 1, 1) := by decide +kernel
theorem d_M_get_3 : decode b_M_get 3 = .ok (.invokevirtual 54, 3) := by decide +kernel
theorem d_M_get_6 : decode b_M_get 6 = .ok (.ifCond .ne 7, 3) := by decide +kernel
theorem d_M_get_9 : decode b_M_get 9 = .ok (.ldc2_w 76, 3) := by decide +kernel
theorem d_M_get_12 : decode b_M_get 12 = .ok (.lreturn, 1) := by decide +kernel
theorem d_M_get_13 : decode b_M_get 13 = .ok (.aload_n 0, 1) := by decide +kernel
theorem d_M_get_14 : decode b_M_get 14 = .ok (.getfield 10, 3) := by decide +kernel
theorem d_M_get_17 : decode b_M_get 17 = .ok (.iload_n 1, 1) := by decide +kernel
theorem d_M_get_18 : decode b_M_get 18 = .ok (.iload_n 2, 1) := by decide +kernel
theorem d_M_get_19 : decode b_M_get 19 = .ok (.invokevirtual 61, 3) := by decide +kernel
theorem d_M_get_22 : decode b_M_get 22 = .ok (.istore_n 3, 1) := by decide +kernel
theorem d_M_get_23 : decode b_M_get 23 = .ok (.iload_n 3, 1) := by decide +kernel
theorem d_M_get_24 : decode b_M_get 24 = .ok (.ifCond .ge 9, 3) := by decide +kernel
theorem d_M_get_27 : decode b_M_get 27 = .ok (.ldc2_w 47, 3) := by decide +kernel
theorem d_M_get_30 : decode b_M_get 30 = .ok (.goto 17, 3) := by decide +kernel
theorem d_M_get_33 : decode b_M_get 33 = .ok (.aload_n 0, 1) := by decide +kernel
theorem d_M_get_34 : decode b_M_get 34 = .ok (.getfield 10, 3) := by decide +kernel
theorem d_M_get_37 : decode b_M_get 37 = .ok (.getfield 68, 3) := by decide +kernel
theorem d_M_get_40 : decode b_M_get 40 = .ok (.bipush 20, 2) := by decide +kernel
theorem d_M_get_42 : decode b_M_get 42 = .ok (.iload_n 1, 1) := by decide +kernel
theorem d_M_get_43 : decode b_M_get 43 = .ok (.imul, 1) := by decide +kernel
theorem d_M_get_44 : decode b_M_get 44 = .ok (.iload_n 3, 1) := by decide +kernel
theorem d_M_get_45 : decode b_M_get 45 = .ok (.iadd, 1) := by decide +kernel
theorem d_M_get_46 : decode b_M_get 46 = .ok (.laload, 1) := by decide +kernel
theorem d_M_get_47 : decode b_M_get 47 = .ok (.lreturn, 1) := by decide +kernel
theorem d_M_push_0 : decode b_M_push 0 = .ok (.aload_n 0, 1) := by decide +kernel
theorem d_M_push_1 : decode b_M_push 1 = .ok (.iload_n 1, 1) := by decide +kernel
theorem d_M_push_2 : decode b_M_push 2 = .ok (.iconst 2, 1) := by decide +kernel
theorem d_M_push_3 : decode b_M_push 3 = .ok (.invokevirtual 54, 3) := by decide +kernel
theorem d_M_push_6 : decode b_M_push 6 = .ok (.ifCond .eq 12, 3) := by decide +kernel
theorem d_M_push_9 : decode b_M_push 9 = .ok (.aload_n 0, 1) := by decide +kernel
theorem d_M_push_10 : decode b_M_push 10 = .ok (.iload_n 2, 1) := by decide +kernel
theorem d_M_push_11 : decode b_M_push 11 = .ok (.iload_n 3, 1) := by decide +kernel
theorem d_M_push_12 : decode b_M_push 12 = .ok (.invokevirtual 58, 3) := by decide +kernel
theorem d_M_push_15 : decode b_M_push 15 = .ok (.ifCond .ne 5, 3) := by decide +kernel
theorem d_M_push_18 : decode b_M_push 18 = .ok (.iconst (-1), 1) := by decide +kernel
theorem d_M_push_19 : decode b_M_push 19 = .ok (.ireturn, 1) := by decide +kernel
theorem d_M_push_20 : decode b_M_push 20 = .ok (.aload_n 0, 1) := by decide +kernel
theorem d_M_push_21 : decode b_M_push 21 = .ok (.getfield 10, 3) := by decide +kernel
theorem d_M_push_24 : decode b_M_push 24 = .ok (.getfield 51, 3) := by decide +kernel
theorem d_M_push_27 : decode b_M_push 27 = .ok (.iload_n 1, 1) := by decide +kernel
theorem d_M_push_28 : decode b_M_push 28 = .ok (.iaload, 1) := by decide +kernel
theorem d_M_push_29 : decode b_M_push 29 = .ok (.bipush 20, 2) := by decide +kernel
theorem d_M_push_31 : decode b_M_push 31 = .ok (.if_icmp .ne 6, 3) := by decide +kernel
theorem d_M_push_34 : decode b_M_push 34 = .ok (.bipush (-3), 2) := by decide +kernel
theorem d_M_push_36 : decode b_M_push 36 = .ok (.ireturn, 1) := by decide +kernel
theorem d_M_push_37 : decode b_M_push 37 = .ok (.aload_n 0, 1) := by decide +kernel
theorem d_M_push_38 : decode b_M_push 38 = .ok (.getfield 10, 3) := by decide +kernel
theorem d_M_push_41 : decode b_M_push 41 = .ok (.getfield 68, 3) := by decide +kernel
theorem d_M_push_44 : decode b_M_push 44 = .ok (.bipush 20, 2) := by decide +kernel
theorem d_M_push_46 : decode b_M_push 46 = .ok (.iload_n 1, 1) := by decide +kernel
theorem d_M_push_47 : decode b_M_push 47 = .ok (.imul, 1) := by decide +kernel
theorem d_M_push_48 : decode b_M_push 48 = .ok (.aload_n 0, 1) := by decide +kernel
theorem d_M_push_49 : decode b_M_push 49 = .ok (.getfield 10, 3) := by decide +kernel
theorem d_M_push_52 : decode b_M_push 52 = .ok (.getfield 51, 3) := by decide +kernel
theorem d_M_push_55 : decode b_M_push 55 = .ok (.iload_n 1, 1) := by decide +kernel
theorem d_M_push_56 : decode b_M_push 56 = .ok (.iaload, 1) := by decide +kernel
theorem d_M_push_57 : decode b_M_push 57 = .ok (.iadd, 1) := by decide +kernel
theorem d_M_push_58 : decode b_M_push 58 = .ok (.iload_n 2, 1) := by decide +kernel
theorem d_M_push_59 : decode b_M_push 59 = .ok (.iload_n 3, 1) := by decide +kernel
theorem d_M_push_60 : decode b_M_push 60 = .ok (.invokestatic 72, 3) := by decide +kernel
theorem d_M_push_63 : decode b_M_push 63 = .ok (.lastore, 1) := by decide +kernel
theorem d_M_push_64 : decode b_M_push 64 = .ok (.aload_n 0, 1) := by decide +kernel
theorem d_M_push_65 : decode b_M_push 65 = .ok (.getfield 10, 3) := by decide +kernel
theorem d_M_push_68 : decode b_M_push 68 = .ok (.getfield 51, 3) := by decide +kernel
theorem d_M_push_71 : decode b_M_push 71 = .ok (.iload_n 1, 1) := by decide +kernel
theorem d_M_push_72 : decode b_M_push 72 = .ok (.dup2, 1) := by decide +kernel
theorem d_M_push_73 : decode b_M_push 73 = .ok (.iaload, 1) := by decide +kernel
theorem d_M_push_74 : decode b_M_push 74 = .ok (.iconst 1, 1) := by decide +kernel
theorem d_M_push_75 : decode b_M_push 75 = .ok (.iadd, 1) := by decide +kernel
theorem d_M_push_76 : decode b_M_push 76 = .ok (.iastore, 1) := by decide +kernel
theorem d_M_push_77 : decode b_M_push 77 = .ok (.aload_n 0, 1) := by decide +kernel
theorem d_M_push_78 : decode b_M_push 78 = .ok (.getfield 10, 3) := by decide +kernel
theorem d_M_push_81 : decode b_M_push 81 = .ok (.getfield 51, 3) := by decide +kernel
theorem d_M_push_84 : decode b_M_push 84 = .ok (.iload_n 1, 1) := by decide +kernel
theorem d_M_push_85 : decode b_M_push 85 = .ok (.iaload, 1) := by decide +kernel
theorem d_M_push_86 : decode b_M_push 86 = .ok (.ireturn, 1) := by decide +kernel
theorem d_M_pop_0 : decode b_M_pop 0 = .ok (.aload_n 0, 1) := by decide +kernel
theorem d_M_pop_1 : decode b_M_pop 1 = .ok (.iload_n 1, 1) := by decide +kernel
theorem d_M_pop_2 : decode b_M_pop 2 = .ok (.iconst 2, 1) := by decide +kernel
theorem d_M_pop_3 : decode b_M_pop 3 = .ok (.invokevirtual 54, 3) := by decide +kernel
theorem d_M_pop_6 : decode b_M_pop 6 = .ok (.ifCond .eq 15, 3) := by decide +kernel
theorem d_M_pop_9 : decode b_M_pop 9 = .ok (.aload_n 0, 1) := by decide +kernel
theorem d_M_pop_10 : decode b_M_pop 10 = .ok (.getfield 10, 3) := by decide +kernel
theorem d_M_pop_13 : decode b_M_pop 13 = .ok (.getfield 51, 3) := by decide +kernel
theorem d_M_pop_16 : decode b_M_pop 16 = .ok (.iload_n 1, 1) := by decide +kernel
theorem d_M_pop_17 : decode b_M_pop 17 = .ok (.iaload, 1) := by decide +kernel
theorem d_M_pop_18 : decode b_M_pop 18 = .ok (.ifCond .ne 7, 3) := by decide +kernel
theorem d_M_pop_21 : decode b_M_pop 21 = .ok (.ldc2_w 76, 3) := by decide +kernel
theorem d_M_pop_24 : decode b_M_pop 24 = .ok (.lreturn, 1) := by decide +kernel
theorem d_M_pop_25 : decode b_M_pop 25 = .ok (.aload_n 0, 1) := by decide +kernel
theorem d_M_pop_26 : decode b_M_pop 26 = .ok (.getfield 10, 3) := by decide +kernel
theorem d_M_pop_29 : decode b_M_pop 29 = .ok (.getfield 51, 3) := by decide +kernel
theorem d_M_pop_32 : decode b_M_pop 32 = .ok (.iload_n 1, 1) := by decide +kernel
theorem d_M_pop_33 : decode b_M_pop 33 = .ok (.dup2, 1) := by decide +kernel
theorem d_M_pop_34 : decode b_M_pop 34 = .ok (.iaload, 1) := by decide +kernel
theorem d_M_pop_35 : decode b_M_pop 35 = .ok (.iconst 1, 1) := by decide +kernel
theorem d_M_pop_36 : decode b_M_pop 36 = .ok (.isub, 1) := by decide +kernel
theorem d_M_pop_37 : decode b_M_pop 37 = .ok (.iastore, 1) := by decide +kernel
theorem d_M_pop_38 : decode b_M_pop 38 = .ok (.aload_n 0, 1) := by decide +kernel
theorem d_M_pop_39 : decode b_M_pop 39 = .ok (.getfield 10, 3) := by decide +kernel
theorem d_M_pop_42 : decode b_M_pop 42 = .ok (.getfield 68, 3) := by decide +kernel
theorem d_M_pop_45 : decode b_M_pop 45 = .ok (.bipush 20, 2) := by decide +kernel
theorem d_M_pop_47 : decode b_M_pop 47 = .ok (.iload_n 1, 1) := by decide +kernel
theorem d_M_pop_48 : decode b_M_pop 48 = .ok (.imul, 1) := by decide +kernel
theorem d_M_pop_49 : decode b_M_pop 49 = .ok (.aload_n 0, 1) := by decide +kernel
theorem d_M_pop_50 : decode b_M_pop 50 = .ok (.getfield 10, 3) := by decide +kernel
theorem d_M_pop_53 : decode b_M_pop 53 = .ok (.getfield 51, 3) := by decide +kernel
theorem d_M_pop_56 : decode b_M_pop 56 = .ok (.iload_n 1, 1) := by decide +kernel
theorem d_M_pop_57 : decode b_M_pop 57 = .ok (.iaload, 1) := by decide +kernel
theorem d_M_pop_58 : decode b_M_pop 58 = .ok (.iadd, 1) := by decide +kernel
theorem d_M_pop_59 : decode b_M_pop 59 = .ok (.laload, 1) := by decide +kernel
theorem d_M_pop_60 : decode b_M_pop 60 = .ok (.lreturn, 1) := by decide +kernel
theorem d_M_put_0 : decode b_M_put 0 = .ok (.aload_n 0, 1) := by decide +kernel
theorem d_M_put_1 : decode b_M_put 1 = .ok (.iload_n 1, 1) := by decide +kernel
theorem d_M_put_2 : decode b_M_put 2 = .ok (.iconst 2, 1) := by decide +kernel
theorem d_M_put_3 : decode b_M_put 3 = .ok (.invokevirtual 54, 3) := by decide +kernel
theorem d_M_put_6 : decode b_M_put 6 = .ok (.ifCond .eq 34, 3) := by decide +kernel
theorem d_M_put_9 : decode b_M_put 9 = .ok (.iload_n 2, 1) := by decide +kernel
theorem d_M_put_10 : decode b_M_put 10 = .ok (.i2l, 1) := by decide +kernel
theorem d_M_put_11 : decode b_M_put 11 = .ok (.lconst 0, 1) := by decide +kernel
theorem d_M_put_12 : decode b_M_put 12 = .ok (.aload_n 0, 1) := by decide +kernel
theorem d_M_put_13 : decode b_M_put 13 = .ok (.getfield 10, 3) := by decide +kernel
theorem d_M_put_16 : decode b_M_put 16 = .ok (.getfield 51, 3) := by decide +kernel
theorem d_M_put_19 : decode b_M_put 19 = .ok (.iload_n 1, 1) := by decide +kernel
theorem d_M_put_20 : decode b_M_put 20 = .ok (.iaload, 1) := by decide +kernel
theorem d_M_put_21 : decode b_M_put 21 = .ok (.iconst 1, 1) := by decide +kernel
theorem d_M_put_22 : decode b_M_put 22 = .ok (.isub, 1) := by decide +kernel
theorem d_M_put_23 : decode b_M_put 23 = .ok (.i2l, 1) := by decide +kernel
theorem d_M_put_24 : decode b_M_put 24 = .ok (.invokestatic 36, 3) := by decide +kernel
theorem d_M_put_27 : decode b_M_put 27 = .ok (.ifCond .eq 13, 3) := by decide +kernel
theorem d_M_put_30 : decode b_M_put 30 = .ok (.aload_n 0, 1) := by decide +kernel
theorem d_M_put_31 : decode b_M_put 31 = .ok (.iload_n 3, 1) := by decide +kernel
theorem d_M_put_32 : decode b_M_put 32 = .ok (.iload 4, 2) := by decide +kernel
theorem d_M_put_34 : decode b_M_put 34 = .ok (.invokevirtual 58, 3) := by decide +kernel
theorem d_M_put_37 : decode b_M_put 37 = .ok (.ifCond .ne 5, 3) := by decide +kernel
theorem d_M_put_40 : decode b_M_put 40 = .ok (.iconst (-1), 1) := by decide +kernel
theorem d_M_put_41 : decode b_M_put 41 = .ok (.ireturn, 1) := by decide +kernel
theorem d_M_put_42 : decode b_M_put 42 = .ok (.aload_n 0, 1) := by decide +kernel
theorem d_M_put_43 : decode b_M_put 43 = .ok (.getfield 10, 3) := by decide +kernel
theorem d_M_put_46 : decode b_M_put 46 = .ok (.getfield 68, 3) := by decide +kernel
theorem d_M_put_49 : decode b_M_put 49 = .ok (.bipush 20, 2) := by decide +kernel
theorem d_M_put_51 : decode b_M_put 51 = .ok (.iload_n 1, 1) := by decide +kernel
theorem d_M_put_52 : decode b_M_put 52 = .ok (.imul, 1) := by decide +kernel
theorem d_M_put_53 : decode b_M_put 53 = .ok (.iload_n 2, 1) := by decide +kernel
theorem d_M_put_54 : decode b_M_put 54 = .ok (.iadd, 1) := by decide +kernel
theorem d_M_put_55 : decode b_M_put 55 = .ok (.iload_n 3, 1) := by decide +kernel
theorem d_M_put_56 : decode b_M_put 56 = .ok (.iload 4, 2) := by decide +kernel
theorem d_M_put_58 : decode b_M_put 58 = .ok (.invokestatic 72, 3) := by decide +kernel
theorem d_M_put_61 : decode b_M_put 61 = .ok (.lastore, 1) := by decide +kernel
theorem d_M_put_62 : decode b_M_put 62 = .ok (.iconst 0, 1) := by decide +kernel
theorem d_M_put_63 : decode b_M_put 63 = .ok (.ireturn, 1) := by decide +kernel
theorem d_M_item_0 : decode b_M_item 0 = .ok (.aload_n 0, 1) := by decide +kernel
theorem d_M_item_1 : decode b_M_item 1 = .ok (.iload_n 1, 1) := by decide +kernel
theorem d_M_item_2 : decode b_M_item 2 = .ok (.iconst 2, 1) := by decide +kernel
theorem d_M_item_3 : decode b_M_item 3 = .ok (.invokevirtual 54, 3) := by decide +kernel
theorem d_M_item_6 : decode b_M_item 6 = .ok (.ifCond .eq 41, 3) := by decide +kernel
theorem d_M_item_9 : decode b_M_item 9 = .ok (.iload_n 2, 1) := by decide +kernel
theorem d_M_item_10 : decode b_M_item 10 = .ok (.i2l, 1) := by decide +kernel
theorem d_M_item_11 : decode b_M_item 11 = .ok (.lconst 0, 1) := by decide +kernel
theorem d_M_item_12 : decode b_M_item 12 = .ok (.aload_n 0, 1) := by decide +kernel
theorem d_M_item_13 : decode b_M_item 13 = .ok (.getfield 10, 3) := by decide +kernel
theorem d_M_item_16 : decode b_M_item 16 = .ok (.getfield 51, 3) := by decide +kernel
theorem d_M_item_19 : decode b_M_item 19 = .ok (.iload_n 1, 1) := by decide +kernel
theorem d_M_item_20 : decode b_M_item 20 = .ok (.iaload, 1) := by decide +kernel
theorem d_M_item_21 : decode b_M_item 21 = .ok (.iconst 1, 1) := by decide +kernel
theorem d_M_item_22 : decode b_M_item 22 = .ok (.isub, 1) := by decide +kernel
theorem d_M_item_23 : decode b_M_item 23 = .ok (.i2l, 1) := by decide +kernel
theorem d_M_item_24 : decode b_M_item 24 = .ok (.invokestatic 36, 3) := by decide +kernel
theorem d_M_item_27 : decode b_M_item 27 = .ok (.ifCond .eq 20, 3) := by decide +kernel
theorem d_M_item_30 : decode b_M_item 30 = .ok (.aload_n 0, 1) := by decide +kernel
theorem d_M_item_31 : decode b_M_item 31 = .ok (.getfield 10, 3) := by decide +kernel
theorem d_M_item_34 : decode b_M_item 34 = .ok (.getfield 68, 3) := by decide +kernel
theorem d_M_item_37 : decode b_M_item 37 = .ok (.bipush 20, 2) := by decide +kernel
theorem d_M_item_39 : decode b_M_item 39 = .ok (.iload_n 1, 1) := by decide +kernel
theorem d_M_item_40 : decode b_M_item 40 = .ok (.imul, 1) := by decide +kernel
theorem d_M_item_41 : decode b_M_item 41 = .ok (.iload_n 2, 1) := by decide +kernel
theorem d_M_item_42 : decode b_M_item 42 = .ok (.iadd, 1) := by decide +kernel
theorem d_M_item_43 : decode b_M_item 43 = .ok (.laload, 1) := by decide +kernel
theorem d_M_item_44 : decode b_M_item 44 = .ok (.goto 6, 3) := by decide +kernel
theorem d_M_item_47 : decode b_M_item 47 = .ok (.ldc2_w 76, 3) := by decide +kernel
theorem d_M_item_50 : decode b_M_item 50 = .ok (.lreturn, 1) := by decide +kernel
theorem d_M_root_0 : decode b_M_root 0 = .ok (.aload_n 0, 1) := by decide +kernel
theorem d_M_root_1 : decode b_M_root 1 = .ok (.iload_n 2, 1) := by decide +kernel
theorem d_M_root_2 : decode b_M_root 2 = .ok (.iload_n 3, 1) := by decide +kernel
theorem d_M_root_3 : decode b_M_root 3 = .ok (.invokevirtual 58, 3) := by decide +kernel
theorem d_M_root_6 : decode b_M_root 6 = .ok (.ifCond .ne 5, 3) := by decide +kernel
theorem d_M_root_9 : decode b_M_root 9 = .ok (.iconst (-1), 1) := by decide +kernel
theorem d_M_root_10 : decode b_M_root 10 = .ok (.ireturn, 1) := by decide +kernel
theorem d_M_root_11 : decode b_M_root 11 = .ok (.aload_n 0, 1) := by decide +kernel
theorem d_M_root_12 : decode b_M_root 12 = .ok (.getfield 10, 3) := by decide +kernel
theorem d_M_root_15 : decode b_M_root 15 = .ok (.iload_n 1, 1) := by decide +kernel
theorem d_M_root_16 : decode b_M_root 16 = .ok (.invokevirtual 78, 3) := by decide +kernel
theorem d_M_root_19 : decode b_M_root 19 = .ok (.istore 4, 2) := by decide +kernel
theorem d_M_root_21 : decode b_M_root 21 = .ok (.iload_n 2, 1) := by decide +kernel
theorem d_M_root_22 : decode b_M_root 22 = .ok (.ifCond .ne 87, 3) := by decide +kernel
theorem d_M_root_25 : decode b_M_root 25 = .ok (.iload 4, 2) := by decide +kernel
theorem d_M_root_27 : decode b_M_root 27 = .ok (.ifCond .ge 11, 3) := by decide +kernel
theorem d_M_root_30 : decode b_M_root 30 = .ok (.aload_n 0, 1) := by decide +kernel
end
section
theorem d_M_root_31 : decode b_M_root 31 = .ok (.getfield 10, 3) := by decide +kernel
theorem d_M_root_34 : decode b_M_root 34 = .ok (.getfield 82, 3) := by decide +kernel
theorem d_M_root_37 : decode b_M_root 37 = .ok (.ireturn, 1) := by decide +kernel
theorem d_M_root_38 : decode b_M_root 38 = .ok (.aload_n 0, 1) := by decide +kernel
theorem d_M_root_39 : decode b_M_root 39 = .ok (.getfield 10, 3) := by decide +kernel
theorem d_M_root_42 : decode b_M_root 42 = .ok (.dup, 1) := by decide +kernel
theorem d_M_root_43 : decode b_M_root 43 = .ok (.getfield 82, 3) := by decide +kernel
theorem d_M_root_46 : decode b_M_root 46 = .ok (.iconst 1, 1) := by decide +kernel
theorem d_M_root_47 : decode b_M_root 47 = .ok (.isub, 1) := by decide +kernel
theorem d_M_root_48 : decode b_M_root 48 = .ok (.putfield 82, 3) := by decide +kernel
theorem d_M_root_51 : decode b_M_root 51 = .ok (.aload_n 0, 1) := by decide +kernel
theorem d_M_root_52 : decode b_M_root 52 = .ok (.getfield 10, 3) := by decide +kernel
theorem d_M_root_55 : decode b_M_root 55 = .ok (.getfield 86, 3) := by decide +kernel
theorem d_M_root_58 : decode b_M_root 58 = .ok (.iload 4, 2) := by decide +kernel
theorem d_M_root_60 : decode b_M_root 60 = .ok (.aload_n 0, 1) := by decide +kernel
theorem d_M_root_61 : decode b_M_root 61 = .ok (.getfield 10, 3) := by decide +kernel
theorem d_M_root_64 : decode b_M_root 64 = .ok (.getfield 86, 3) := by decide +kernel
theorem d_M_root_67 : decode b_M_root 67 = .ok (.aload_n 0, 1) := by decide +kernel
theorem d_M_root_68 : decode b_M_root 68 = .ok (.getfield 10, 3) := by decide +kernel
theorem d_M_root_71 : decode b_M_root 71 = .ok (.getfield 82, 3) := by decide +kernel
theorem d_M_root_74 : decode b_M_root 74 = .ok (.iaload, 1) := by decide +kernel
theorem d_M_root_75 : decode b_M_root 75 = .ok (.iastore, 1) := by decide +kernel
theorem d_M_root_76 : decode b_M_root 76 = .ok (.aload_n 0, 1) := by decide +kernel
theorem d_M_root_77 : decode b_M_root 77 = .ok (.getfield 10, 3) := by decide +kernel
theorem d_M_root_80 : decode b_M_root 80 = .ok (.getfield 89, 3) := by decide +kernel
theorem d_M_root_83 : decode b_M_root 83 = .ok (.iload 4, 2) := by decide +kernel
theorem d_M_root_85 : decode b_M_root 85 = .ok (.aload_n 0, 1) := by decide +kernel
theorem d_M_root_86 : decode b_M_root 86 = .ok (.getfield 10, 3) := by decide +kernel
theorem d_M_root_89 : decode b_M_root 89 = .ok (.getfield 89, 3) := by decide +kernel
theorem d_M_root_92 : decode b_M_root 92 = .ok (.aload_n 0, 1) := by decide +kernel
theorem d_M_root_93 : decode b_M_root 93 = .ok (.getfield 10, 3) := by decide +kernel
theorem d_M_root_96 : decode b_M_root 96 = .ok (.getfield 82, 3) := by decide +kernel
theorem d_M_root_99 : decode b_M_root 99 = .ok (.laload, 1) := by decide +kernel
theorem d_M_root_100 : decode b_M_root 100 = .ok (.lastore, 1) := by decide +kernel
theorem d_M_root_101 : decode b_M_root 101 = .ok (.aload_n 0, 1) := by decide +kernel
theorem d_M_root_102 : decode b_M_root 102 = .ok (.getfield 10, 3) := by decide +kernel
theorem d_M_root_105 : decode b_M_root 105 = .ok (.getfield 82, 3) := by decide +kernel
theorem d_M_root_108 : decode b_M_root 108 = .ok (.ireturn, 1) := by decide +kernel
theorem d_M_root_109 : decode b_M_root 109 = .ok (.iload 4, 2) := by decide +kernel
theorem d_M_root_111 : decode b_M_root 111 = .ok (.ifCond .ge 51, 3) := by decide +kernel
theorem d_M_root_114 : decode b_M_root 114 = .ok (.aload_n 0, 1) := by decide +kernel
theorem d_M_root_115 : decode b_M_root 115 = .ok (.getfield 10, 3) := by decide +kernel
theorem d_M_root_118 : decode b_M_root 118 = .ok (.getfield 82, 3) := by decide +kernel
theorem d_M_root_121 : decode b_M_root 121 = .ok (.bipush 12, 2) := by decide +kernel
theorem d_M_root_123 : decode b_M_root 123 = .ok (.if_icmp .ne 6, 3) := by decide +kernel
theorem d_M_root_126 : decode b_M_root 126 = .ok (.bipush (-3), 2) := by decide +kernel
theorem d_M_root_128 : decode b_M_root 128 = .ok (.ireturn, 1) := by decide +kernel
theorem d_M_root_129 : decode b_M_root 129 = .ok (.aload_n 0, 1) := by decide +kernel
theorem d_M_root_130 : decode b_M_root 130 = .ok (.getfield 10, 3) := by decide +kernel
theorem d_M_root_133 : decode b_M_root 133 = .ok (.getfield 82, 3) := by decide +kernel
theorem d_M_root_136 : decode b_M_root 136 = .ok (.istore 4, 2) := by decide +kernel
theorem d_M_root_138 : decode b_M_root 138 = .ok (.aload_n 0, 1) := by decide +kernel
theorem d_M_root_139 : decode b_M_root 139 = .ok (.getfield 10, 3) := by decide +kernel
theorem d_M_root_142 : decode b_M_root 142 = .ok (.dup, 1) := by decide +kernel
theorem d_M_root_143 : decode b_M_root 143 = .ok (.getfield 82, 3) := by decide +kernel
theorem d_M_root_146 : decode b_M_root 146 = .ok (.iconst 1, 1) := by decide +kernel
theorem d_M_root_147 : decode b_M_root 147 = .ok (.iadd, 1) := by decide +kernel
theorem d_M_root_148 : decode b_M_root 148 = .ok (.putfield 82, 3) := by decide +kernel
theorem d_M_root_151 : decode b_M_root 151 = .ok (.aload_n 0, 1) := by decide +kernel
theorem d_M_root_152 : decode b_M_root 152 = .ok (.getfield 10, 3) := by decide +kernel
theorem d_M_root_155 : decode b_M_root 155 = .ok (.getfield 86, 3) := by decide +kernel
theorem d_M_root_158 : decode b_M_root 158 = .ok (.iload 4, 2) := by decide +kernel
theorem d_M_root_160 : decode b_M_root 160 = .ok (.iload_n 1, 1) := by decide +kernel
theorem d_M_root_161 : decode b_M_root 161 = .ok (.iastore, 1) := by decide +kernel
theorem d_M_root_162 : decode b_M_root 162 = .ok (.aload_n 0, 1) := by decide +kernel
theorem d_M_root_163 : decode b_M_root 163 = .ok (.getfield 10, 3) := by decide +kernel
theorem d_M_root_166 : decode b_M_root 166 = .ok (.getfield 89, 3) := by decide +kernel
theorem d_M_root_169 : decode b_M_root 169 = .ok (.iload 4, 2) := by decide +kernel
theorem d_M_root_171 : decode b_M_root 171 = .ok (.iload_n 2, 1) := by decide +kernel
theorem d_M_root_172 : decode b_M_root 172 = .ok (.iload_n 3, 1) := by decide +kernel
theorem d_M_root_173 : decode b_M_root 173 = .ok (.invokestatic 72, 3) := by decide +kernel
theorem d_M_root_176 : decode b_M_root 176 = .ok (.lastore, 1) := by decide +kernel
theorem d_M_root_177 : decode b_M_root 177 = .ok (.aload_n 0, 1) := by decide +kernel
theorem d_M_root_178 : decode b_M_root 178 = .ok (.getfield 10, 3) := by decide +kernel
theorem d_M_root_181 : decode b_M_root 181 = .ok (.getfield 82, 3) := by decide +kernel
theorem d_M_root_184 : decode b_M_root 184 = .ok (.ireturn, 1) := by decide +kernel
theorem d_M_rooted_0 : decode b_M_rooted 0 = .ok (.aload_n 0, 1) := by decide +kernel
theorem d_M_rooted_1 : decode b_M_rooted 1 = .ok (.getfield 10, 3) := by decide +kernel
theorem d_M_rooted_4 : decode b_M_rooted 4 = .ok (.iload_n 1, 1) := by decide +kernel
theorem d_M_rooted_5 : decode b_M_rooted 5 = .ok (.invokevirtual 78, 3) := by decide +kernel
theorem d_M_rooted_8 : decode b_M_rooted 8 = .ok (.istore_n 2, 1) := by decide +kernel
theorem d_M_rooted_9 : decode b_M_rooted 9 = .ok (.iload_n 2, 1) := by decide +kernel
theorem d_M_rooted_10 : decode b_M_rooted 10 = .ok (.ifCond .ge 9, 3) := by decide +kernel
theorem d_M_rooted_13 : decode b_M_rooted 13 = .ok (.ldc2_w 47, 3) := by decide +kernel
theorem d_M_rooted_16 : decode b_M_rooted 16 = .ok (.goto 12, 3) := by decide +kernel
theorem d_M_rooted_19 : decode b_M_rooted 19 = .ok (.aload_n 0, 1) := by decide +kernel
theorem d_M_rooted_20 : decode b_M_rooted 20 = .ok (.getfield 10, 3) := by decide +kernel
theorem d_M_rooted_23 : decode b_M_rooted 23 = .ok (.getfield 89, 3) := by decide +kernel
theorem d_M_rooted_26 : decode b_M_rooted 26 = .ok (.iload_n 2, 1) := by decide +kernel
theorem d_M_rooted_27 : decode b_M_rooted 27 = .ok (.laload, 1) := by decide +kernel
theorem d_M_rooted_28 : decode b_M_rooted 28 = .ok (.lreturn, 1) := by decide +kernel
theorem d_M_commit_0 : decode b_M_commit 0 = .ok (.bipush 8, 2) := by decide +kernel
theorem d_M_commit_2 : decode b_M_commit 2 = .ok (.aload_n 0, 1) := by decide +kernel
theorem d_M_commit_3 : decode b_M_commit 3 = .ok (.getfield 10, 3) := by decide +kernel
theorem d_M_commit_6 : decode b_M_commit 6 = .ok (.aload_n 0, 1) := by decide +kernel
theorem d_M_commit_7 : decode b_M_commit 7 = .ok (.getfield 16, 3) := by decide +kernel
theorem d_M_commit_10 : decode b_M_commit 10 = .ok (.invokevirtual 104, 3) := by decide +kernel
theorem d_M_commit_13 : decode b_M_commit 13 = .ok (.iadd, 1) := by decide +kernel
theorem d_M_commit_14 : decode b_M_commit 14 = .ok (.istore_n 1, 1) := by decide +kernel
theorem d_M_commit_15 : decode b_M_commit 15 = .ok (.aload_n 0, 1) := by decide +kernel
theorem d_M_commit_16 : decode b_M_commit 16 = .ok (.iload_n 1, 1) := by decide +kernel
theorem d_M_commit_17 : decode b_M_commit 17 = .ok (.invokevirtual 108, 3) := by decide +kernel
theorem d_M_commit_20 : decode b_M_commit 20 = .ok (.iload_n 1, 1) := by decide +kernel
theorem d_M_commit_21 : decode b_M_commit 21 = .ok (.ireturn, 1) := by decide +kernel
theorem d_M_keep_0 : decode b_M_keep 0 = .ok (.aload_n 0, 1) := by decide +kernel
theorem d_M_keep_1 : decode b_M_keep 1 = .ok (.getfield 16, 3) := by decide +kernel
theorem d_M_keep_4 : decode b_M_keep 4 = .ok (.aload_n 0, 1) := by decide +kernel
theorem d_M_keep_5 : decode b_M_keep 5 = .ok (.getfield 10, 3) := by decide +kernel
theorem d_M_keep_8 : decode b_M_keep 8 = .ok (.invokevirtual 91, 3) := by decide +kernel
theorem d_M_keep_11 : decode b_M_keep 11 = .ok (.aload_n 0, 1) := by decide +kernel
theorem d_M_keep_12 : decode b_M_keep 12 = .ok (.dup, 1) := by decide +kernel
theorem d_M_keep_13 : decode b_M_keep 13 = .ok (.getfield 95, 3) := by decide +kernel
theorem d_M_keep_16 : decode b_M_keep 16 = .ok (.iload_n 1, 1) := by decide +kernel
theorem d_M_keep_17 : decode b_M_keep 17 = .ok (.iadd, 1) := by decide +kernel
theorem d_M_keep_18 : decode b_M_keep 18 = .ok (.putfield 95, 3) := by decide +kernel
theorem d_M_keep_21 : decode b_M_keep 21 = .ok (.aload_n 0, 1) := by decide +kernel
theorem d_M_keep_22 : decode b_M_keep 22 = .ok (.getfield 98, 3) := by decide +kernel
theorem d_M_keep_25 : decode b_M_keep 25 = .ok (.bipush 8, 2) := by decide +kernel
theorem d_M_keep_27 : decode b_M_keep 27 = .ok (.if_icmp .ne 64, 3) := by decide +kernel
theorem d_M_keep_30 : decode b_M_keep 30 = .ok (.aload_n 0, 1) := by decide +kernel
theorem d_M_keep_31 : decode b_M_keep 31 = .ok (.getfield 22, 3) := by decide +kernel
theorem d_M_keep_34 : decode b_M_keep 34 = .ok (.iconst 0, 1) := by decide +kernel
theorem d_M_keep_35 : decode b_M_keep 35 = .ok (.aaload, 1) := by decide +kernel
theorem d_M_keep_36 : decode b_M_keep 36 = .ok (.astore_n 2, 1) := by decide +kernel
theorem d_M_keep_37 : decode b_M_keep 37 = .ok (.aload_n 0, 1) := by decide +kernel
theorem d_M_keep_38 : decode b_M_keep 38 = .ok (.getfield 19, 3) := by decide +kernel
theorem d_M_keep_41 : decode b_M_keep 41 = .ok (.aload_n 2, 1) := by decide +kernel
theorem d_M_keep_42 : decode b_M_keep 42 = .ok (.invokevirtual 91, 3) := by decide +kernel
theorem d_M_keep_45 : decode b_M_keep 45 = .ok (.iconst 1, 1) := by decide +kernel
theorem d_M_keep_46 : decode b_M_keep 46 = .ok (.istore_n 3, 1) := by decide +kernel
theorem d_M_keep_47 : decode b_M_keep 47 = .ok (.iload_n 3, 1) := by decide +kernel
theorem d_M_keep_48 : decode b_M_keep 48 = .ok (.bipush 8, 2) := by decide +kernel
theorem d_M_keep_50 : decode b_M_keep 50 = .ok (.if_icmp .ge 23, 3) := by decide +kernel
theorem d_M_keep_53 : decode b_M_keep 53 = .ok (.aload_n 0, 1) := by decide +kernel
theorem d_M_keep_54 : decode b_M_keep 54 = .ok (.getfield 22, 3) := by decide +kernel
theorem d_M_keep_57 : decode b_M_keep 57 = .ok (.iload_n 3, 1) := by decide +kernel
theorem d_M_keep_58 : decode b_M_keep 58 = .ok (.iconst 1, 1) := by decide +kernel
theorem d_M_keep_59 : decode b_M_keep 59 = .ok (.isub, 1) := by decide +kernel
theorem d_M_keep_60 : decode b_M_keep 60 = .ok (.aload_n 0, 1) := by decide +kernel
theorem d_M_keep_61 : decode b_M_keep 61 = .ok (.getfield 22, 3) := by decide +kernel
theorem d_M_keep_64 : decode b_M_keep 64 = .ok (.iload_n 3, 1) := by decide +kernel
theorem d_M_keep_65 : decode b_M_keep 65 = .ok (.aaload, 1) := by decide +kernel
theorem d_M_keep_66 : decode b_M_keep 66 = .ok (.aastore, 1) := by decide +kernel
theorem d_M_keep_67 : decode b_M_keep 67 = .ok (.iinc 3 1, 3) := by decide +kernel
theorem d_M_keep_70 : decode b_M_keep 70 = .ok (.goto (-23), 3) := by decide +kernel
theorem d_M_keep_73 : decode b_M_keep 73 = .ok (.aload_n 0, 1) := by decide +kernel
theorem d_M_keep_74 : decode b_M_keep 74 = .ok (.getfield 22, 3) := by decide +kernel
theorem d_M_keep_77 : decode b_M_keep 77 = .ok (.bipush 7, 2) := by decide +kernel
theorem d_M_keep_79 : decode b_M_keep 79 = .ok (.aload_n 2, 1) := by decide +kernel
theorem d_M_keep_80 : decode b_M_keep 80 = .ok (.aastore, 1) := by decide +kernel
theorem d_M_keep_81 : decode b_M_keep 81 = .ok (.aload_n 0, 1) := by decide +kernel
theorem d_M_keep_82 : decode b_M_keep 82 = .ok (.dup, 1) := by decide +kernel
theorem d_M_keep_83 : decode b_M_keep 83 = .ok (.getfield 98, 3) := by decide +kernel
theorem d_M_keep_86 : decode b_M_keep 86 = .ok (.iconst 1, 1) := by decide +kernel
theorem d_M_keep_87 : decode b_M_keep 87 = .ok (.isub, 1) := by decide +kernel
theorem d_M_keep_88 : decode b_M_keep 88 = .ok (.putfield 98, 3) := by decide +kernel
theorem d_M_keep_91 : decode b_M_keep 91 = .ok (.aload_n 0, 1) := by decide +kernel
theorem d_M_keep_92 : decode b_M_keep 92 = .ok (.getfield 22, 3) := by decide +kernel
theorem d_M_keep_95 : decode b_M_keep 95 = .ok (.aload_n 0, 1) := by decide +kernel
theorem d_M_keep_96 : decode b_M_keep 96 = .ok (.getfield 98, 3) := by decide +kernel
theorem d_M_keep_99 : decode b_M_keep 99 = .ok (.aaload, 1) := by decide +kernel
theorem d_M_keep_100 : decode b_M_keep 100 = .ok (.aload_n 0, 1) := by decide +kernel
theorem d_M_keep_101 : decode b_M_keep 101 = .ok (.getfield 10, 3) := by decide +kernel
theorem d_M_keep_104 : decode b_M_keep 104 = .ok (.invokevirtual 91, 3) := by decide +kernel
theorem d_M_keep_107 : decode b_M_keep 107 = .ok (.aload_n 0, 1) := by decide +kernel
theorem d_M_keep_108 : decode b_M_keep 108 = .ok (.getfield 22, 3) := by decide +kernel
theorem d_M_keep_111 : decode b_M_keep 111 = .ok (.aload_n 0, 1) := by decide +kernel
theorem d_M_keep_112 : decode b_M_keep 112 = .ok (.getfield 98, 3) := by decide +kernel
theorem d_M_keep_115 : decode b_M_keep 115 = .ok (.aaload, 1) := by decide +kernel
theorem d_M_keep_116 : decode b_M_keep 116 = .ok (.iload_n 1, 1) := by decide +kernel
theorem d_M_keep_117 : decode b_M_keep 117 = .ok (.putfield 101, 3) := by decide +kernel
theorem d_M_keep_120 : decode b_M_keep 120 = .ok (.aload_n 0, 1) := by decide +kernel
theorem d_M_keep_121 : decode b_M_keep 121 = .ok (.dup, 1) := by decide +kernel
theorem d_M_keep_122 : decode b_M_keep 122 = .ok (.getfield 98, 3) := by decide +kernel
theorem d_M_keep_125 : decode b_M_keep 125 = .ok (.iconst 1, 1) := by decide +kernel
theorem d_M_keep_126 : decode b_M_keep 126 = .ok (.iadd, 1) := by decide +kernel
theorem d_M_keep_127 : decode b_M_keep 127 = .ok (.putfield 98, 3) := by decide +kernel
theorem d_M_keep_130 : decode b_M_keep 130 = .ok (.return_, 1) := by decide +kernel
theorem d_M_undo_0 : decode b_M_undo 0 = .ok (.aload_n 0, 1) := by decide +kernel
theorem d_M_undo_1 : decode b_M_undo 1 = .ok (.getfield 10, 3) := by decide +kernel
theorem d_M_undo_4 : decode b_M_undo 4 = .ok (.aload_n 0, 1) := by decide +kernel
theorem d_M_undo_5 : decode b_M_undo 5 = .ok (.getfield 16, 3) := by decide +kernel
theorem d_M_undo_8 : decode b_M_undo 8 = .ok (.invokevirtual 104, 3) := by decide +kernel
theorem d_M_undo_11 : decode b_M_undo 11 = .ok (.istore_n 1, 1) := by decide +kernel
theorem d_M_undo_12 : decode b_M_undo 12 = .ok (.aload_n 0, 1) := by decide +kernel
theorem d_M_undo_13 : decode b_M_undo 13 = .ok (.getfield 10, 3) := by decide +kernel
theorem d_M_undo_16 : decode b_M_undo 16 = .ok (.aload_n 0, 1) := by decide +kernel
theorem d_M_undo_17 : decode b_M_undo 17 = .ok (.getfield 16, 3) := by decide +kernel
theorem d_M_undo_20 : decode b_M_undo 20 = .ok (.invokevirtual 91, 3) := by decide +kernel
theorem d_M_undo_23 : decode b_M_undo 23 = .ok (.iload_n 1, 1) := by decide +kernel
theorem d_M_undo_24 : decode b_M_undo 24 = .ok (.ireturn, 1) := by decide +kernel
theorem d_M_sweep_0 : decode b_M_sweep 0 = .ok (.aload_n 0, 1) := by decide +kernel
theorem d_M_sweep_1 : decode b_M_sweep 1 = .ok (.getfield 10, 3) := by decide +kernel
theorem d_M_sweep_4 : decode b_M_sweep 4 = .ok (.aload_n 0, 1) := by decide +kernel
theorem d_M_sweep_5 : decode b_M_sweep 5 = .ok (.getfield 16, 3) := by decide +kernel
theorem d_M_sweep_8 : decode b_M_sweep 8 = .ok (.invokevirtual 91, 3) := by decide +kernel
theorem d_M_sweep_11 : decode b_M_sweep 11 = .ok (.aload_n 0, 1) := by decide +kernel
theorem d_M_sweep_12 : decode b_M_sweep 12 = .ok (.getfield 26, 3) := by decide +kernel
theorem d_M_sweep_15 : decode b_M_sweep 15 = .ok (.astore_n 1, 1) := by decide +kernel
theorem d_M_sweep_16 : decode b_M_sweep 16 = .ok (.aload_n 0, 1) := by decide +kernel
theorem d_M_sweep_17 : decode b_M_sweep 17 = .ok (.getfield 30, 3) := by decide +kernel
theorem d_M_sweep_20 : decode b_M_sweep 20 = .ok (.astore_n 2, 1) := by decide +kernel
theorem d_M_sweep_21 : decode b_M_sweep 21 = .ok (.iconst 0, 1) := by decide +kernel
theorem d_M_sweep_22 : decode b_M_sweep 22 = .ok (.istore_n 3, 1) := by decide +kernel
theorem d_M_sweep_23 : decode b_M_sweep 23 = .ok (.iconst 0, 1) := by decide +kernel
theorem d_M_sweep_24 : decode b_M_sweep 24 = .ok (.istore 4, 2) := by decide +kernel
theorem d_M_sweep_26 : decode b_M_sweep 26 = .ok (.iconst 0, 1) := by decide +kernel
theorem d_M_sweep_27 : decode b_M_sweep 27 = .ok (.istore 5, 2) := by decide +kernel
theorem d_M_sweep_29 : decode b_M_sweep 29 = .ok (.iload 5, 2) := by decide +kernel
theorem d_M_sweep_31 : decode b_M_sweep 31 = .ok (.bipush 100, 2) := by decide +kernel
theorem d_M_sweep_33 : decode b_M_sweep 33 = .ok (.if_icmp .ge 14, 3) := by decide +kernel
theorem d_M_sweep_36 : decode b_M_sweep 36 = .ok (.aload_n 1, 1) := by decide +kernel
theorem d_M_sweep_37 : decode b_M_sweep 37 = .ok (.iload 5, 2) := by decide +kernel
theorem d_M_sweep_39 : decode b_M_sweep 39 = .ok (.iconst 0, 1) := by decide +kernel
theorem d_M_sweep_40 : decode b_M_sweep 40 = .ok (.bastore, 1) := by decide +kernel
theorem d_M_sweep_41 : decode b_M_sweep 41 = .ok (.iinc 5 1, 3) := by decide +kernel
theorem d_M_sweep_44 : decode b_M_sweep 44 = .ok (.goto (-15), 3) := by decide +kernel
theorem d_M_sweep_47 : decode b_M_sweep 47 = .ok (.iconst 0, 1) := by decide +kernel
theorem d_M_sweep_48 : decode b_M_sweep 48 = .ok (.istore 5, 2) := by decide +kernel
theorem d_M_sweep_50 : decode b_M_sweep 50 = .ok (.iload 5, 2) := by decide +kernel
theorem d_M_sweep_52 : decode b_M_sweep 52 = .ok (.aload_n 0, 1) := by decide +kernel
theorem d_M_sweep_53 : decode b_M_sweep 53 = .ok (.getfield 10, 3) := by decide +kernel
theorem d_M_sweep_56 : decode b_M_sweep 56 = .ok (.getfield 82, 3) := by decide +kernel
theorem d_M_sweep_59 : decode b_M_sweep 59 = .ok (.if_icmp .ge 25, 3) := by decide +kernel
theorem d_M_sweep_62 : decode b_M_sweep 62 = .ok (.aload_n 0, 1) := by decide +kernel
theorem d_M_sweep_63 : decode b_M_sweep 63 = .ok (.aload_n 0, 1) := by decide +kernel
theorem d_M_sweep_64 : decode b_M_sweep 64 = .ok (.getfield 10, 3) := by decide +kernel
theorem d_M_sweep_67 : decode b_M_sweep 67 = .ok (.getfield 89, 3) := by decide +kernel
theorem d_M_sweep_70 : decode b_M_sweep 70 = .ok (.iload 5, 2) := by decide +kernel
theorem d_M_sweep_72 : decode b_M_sweep 72 = .ok (.laload, 1) := by decide +kernel
theorem d_M_sweep_73 : decode b_M_sweep 73 = .ok (.iload_n 3, 1) := by decide +kernel
theorem d_M_sweep_74 : decode b_M_sweep 74 = .ok (.invokevirtual 112, 3) := by decide +kernel
theorem d_M_sweep_77 : decode b_M_sweep 77 = .ok (.istore_n 3, 1) := by decide +kernel
theorem d_M_sweep_78 : decode b_M_sweep 78 = .ok (.iinc 5 1, 3) := by decide +kernel
theorem d_M_sweep_81 : decode b_M_sweep 81 = .ok (.goto (-31), 3) := by decide +kernel
theorem d_M_sweep_84 : decode b_M_sweep 84 = .ok (.iconst 0, 1) := by decide +kernel
theorem d_M_sweep_85 : decode b_M_sweep 85 = .ok (.istore 5, 2) := by decide +kernel
theorem d_M_sweep_87 : decode b_M_sweep 87 = .ok (.iload 5, 2) := by decide +kernel
theorem d_M_sweep_89 : decode b_M_sweep 89 = .ok (.iload_n 3, 1) := by decide +kernel
theorem d_M_sweep_90 : decode b_M_sweep 90 = .ok (.if_icmp .ge 59, 3) := by decide +kernel
theorem d_M_sweep_93 : decode b_M_sweep 93 = .ok (.iconst 0, 1) := by decide +kernel
theorem d_M_sweep_94 : decode b_M_sweep 94 = .ok (.istore 6, 2) := by decide +kernel
theorem d_M_sweep_96 : decode b_M_sweep 96 = .ok (.iload 6, 2) := by decide +kernel
theorem d_M_sweep_98 : decode b_M_sweep 98 = .ok (.aload_n 0, 1) := by decide +kernel
theorem d_M_sweep_99 : decode b_M_sweep 99 = .ok (.getfield 10, 3) := by decide +kernel
theorem d_M_sweep_102 : decode b_M_sweep 102 = .ok (.getfield 51, 3) := by decide +kernel
theorem d_M_sweep_105 : decode b_M_sweep 105 = .ok (.aload_n 2, 1) := by decide +kernel
theorem d_M_sweep_106 : decode b_M_sweep 106 = .ok (.iload 5, 2) := by decide +kernel
theorem d_M_sweep_108 : decode b_M_sweep 108 = .ok (.iaload, 1) := by decide +kernel
theorem d_M_sweep_109 : decode b_M_sweep 109 = .ok (.iaload, 1) := by decide +kernel
theorem d_M_sweep_110 : decode b_M_sweep 110 = .ok (.if_icmp .ge 33, 3) := by decide +kernel
theorem d_M_sweep_113 : decode b_M_sweep 113 = .ok (.aload_n 0, 1) := by decide +kernel
theorem d_M_sweep_114 : decode b_M_sweep 114 = .ok (.aload_n 0, 1) := by decide +kernel
theorem d_M_sweep_115 : decode b_M_sweep 115 = .ok (.getfield 10, 3) := by decide +kernel
theorem d_M_sweep_118 : decode b_M_sweep 118 = .ok (.getfield 68, 3) := by decide +kernel
theorem d_M_sweep_121 : decode b_M_sweep 121 = .ok (.bipush 20, 2) := by decide +kernel
theorem d_M_sweep_123 : decode b_M_sweep 123 = .ok (.aload_n 2, 1) := by decide +kernel
theorem d_M_sweep_124 : decode b_M_sweep 124 = .ok (.iload 5, 2) := by decide +kernel
theorem d_M_sweep_126 : decode b_M_sweep 126 = .ok (.iaload, 1) := by decide +kernel
theorem d_M_sweep_127 : decode b_M_sweep 127 = .ok (.imul, 1) := by decide +kernel
theorem d_M_sweep_128 : decode b_M_sweep 128 = .ok (.iload 6, 2) := by decide +kernel
theorem d_M_sweep_130 : decode b_M_sweep 130 = .ok (.iadd, 1) := by decide +kernel
theorem d_M_sweep_131 : decode b_M_sweep 131 = .ok (.laload, 1) := by decide +kernel
theorem d_M_sweep_132 : decode b_M_sweep 132 = .ok (.iload_n 3, 1) := by decide +kernel
theorem d_M_sweep_133 : decode b_M_sweep 133 = .ok (.invokevirtual 112, 3) := by decide +kernel
theorem d_M_sweep_136 : decode b_M_sweep 136 = .ok (.istore_n 3, 1) := by decide +kernel
theorem d_M_sweep_137 : decode b_M_sweep 137 = .ok (.iinc 6 1, 3) := by decide +kernel
theorem d_M_sweep_140 : decode b_M_sweep 140 = .ok (.goto (-44), 3) := by decide +kernel
theorem d_M_sweep_143 : decode b_M_sweep 143 = .ok (.iinc 5 1, 3) := by decide +kernel
theorem d_M_sweep_146 : decode b_M_sweep 146 = .ok (.goto (-59), 3) := by decide +kernel
theorem d_M_sweep_149 : decode b_M_sweep 149 = .ok (.iconst 0, 1) := by decide +kernel
theorem d_M_sweep_150 : decode b_M_sweep 150 = .ok (.istore 5, 2) := by decide +kernel
theorem d_M_sweep_152 : decode b_M_sweep 152 = .ok (.iload 5, 2) := by decide +kernel
theorem d_M_sweep_154 : decode b_M_sweep 154 = .ok (.bipush 100, 2) := by decide +kernel
theorem d_M_sweep_156 : decode b_M_sweep 156 = .ok (.if_icmp .ge 46, 3) := by decide +kernel
theorem d_M_sweep_159 : decode b_M_sweep 159 = .ok (.aload_n 0, 1) := by decide +kernel
theorem d_M_sweep_160 : decode b_M_sweep 160 = .ok (.getfield 10, 3) := by decide +kernel
theorem d_M_sweep_163 : decode b_M_sweep 163 = .ok (.getfield 40, 3) := by decide +kernel
theorem d_M_sweep_166 : decode b_M_sweep 166 = .ok (.iload 5, 2) := by decide +kernel
theorem d_M_sweep_168 : decode b_M_sweep 168 = .ok (.iaload, 1) := by decide +kernel
theorem d_M_sweep_169 : decode b_M_sweep 169 = .ok (.ifCond .eq 27, 3) := by decide +kernel
theorem d_M_sweep_172 : decode b_M_sweep 172 = .ok (.aload_n 1, 1) := by decide +kernel
theorem d_M_sweep_173 : decode b_M_sweep 173 = .ok (.iload 5, 2) := by decide +kernel
theorem d_M_sweep_175 : decode b_M_sweep 175 = .ok (.baload, 1) := by decide +kernel
theorem d_M_sweep_176 : decode b_M_sweep 176 = .ok (.ifCond .eq 6, 3) := by decide +kernel
theorem d_M_sweep_179 : decode b_M_sweep 179 = .ok (.goto 17, 3) := by decide +kernel
theorem d_M_sweep_182 : decode b_M_sweep 182 = .ok (.aload_n 0, 1) := by decide +kernel
theorem d_M_sweep_183 : decode b_M_sweep 183 = .ok (.getfield 10, 3) := by decide +kernel
theorem d_M_sweep_186 : decode b_M_sweep 186 = .ok (.getfield 40, 3) := by decide +kernel
theorem d_M_sweep_189 : decode b_M_sweep 189 = .ok (.iload 5, 2) := by decide +kernel
theorem d_M_sweep_191 : decode b_M_sweep 191 = .ok (.iconst 0, 1) := by decide +kernel
theorem d_M_sweep_192 : decode b_M_sweep 192 = .ok (.iastore, 1) := by decide +kernel
theorem d_M_sweep_193 : decode b_M_sweep 193 = .ok (.iinc 4 1, 3) := by decide +kernel
theorem d_M_sweep_196 : decode b_M_sweep 196 = .ok (.iinc 5 1, 3) := by decide +kernel
theorem d_M_sweep_199 : decode b_M_sweep 199 = .ok (.goto (-47), 3) := by decide +kernel
theorem d_M_sweep_202 : decode b_M_sweep 202 = .ok (.iload 4, 2) := by decide +kernel
theorem d_M_sweep_204 : decode b_M_sweep 204 = .ok (.ifCond .le 9, 3) := by decide +kernel
theorem d_M_sweep_207 : decode b_M_sweep 207 = .ok (.aload_n 0, 1) := by decide +kernel
theorem d_M_sweep_208 : decode b_M_sweep 208 = .ok (.bipush 8, 2) := by decide +kernel
theorem d_M_sweep_210 : decode b_M_sweep 210 = .ok (.invokevirtual 108, 3) := by decide +kernel
theorem d_M_sweep_213 : decode b_M_sweep 213 = .ok (.iload 4, 2) := by decide +kernel
theorem d_M_sweep_215 : decode b_M_sweep 215 = .ok (.ireturn, 1) := by decide +kernel
theorem d_M_reach_0 : decode b_M_reach 0 = .ok (.lload_n 1, 1) := by decide +kernel
theorem d_M_reach_1 : decode b_M_reach 1 = .ok (.ldc2_w 47, 3) := by decide +kernel
theorem d_M_reach_4 : decode b_M_reach 4 = .ok (.lcmp, 1) := by decide +kernel
theorem d_M_reach_5 : decode b_M_reach 5 = .ok (.ifCond .le 19, 3) := by decide +kernel
theorem d_M_reach_8 : decode b_M_reach 8 = .ok (.aload_n 0, 1) := by decide +kernel
theorem d_M_reach_9 : decode b_M_reach 9 = .ok (.getfield 26, 3) := by decide +kernel
theorem d_M_reach_12 : decode b_M_reach 12 = .ok (.lload_n 1, 1) := by decide +kernel
theorem d_M_reach_13 : decode b_M_reach 13 = .ok (.ldc2_w 47, 3) := by decide +kernel
theorem d_M_reach_16 : decode b_M_reach 16 = .ok (.lsub, 1) := by decide +kernel
theorem d_M_reach_17 : decode b_M_reach 17 = .ok (.lconst 1, 1) := by decide +kernel
theorem d_M_reach_18 : decode b_M_reach 18 = .ok (.lsub, 1) := by decide +kernel
theorem d_M_reach_19 : decode b_M_reach 19 = .ok (.l2i, 1) := by decide +kernel
theorem d_M_reach_20 : decode b_M_reach 20 = .ok (.baload, 1) := by decide +kernel
theorem d_M_reach_21 : decode b_M_reach 21 = .ok (.ifCond .eq 5, 3) := by decide +kernel
theorem d_M_reach_24 : decode b_M_reach 24 = .ok (.iload_n 3, 1) := by decide +kernel
theorem d_M_reach_25 : decode b_M_reach 25 = .ok (.ireturn, 1) := by decide +kernel
theorem d_M_reach_26 : decode b_M_reach 26 = .ok (.aload_n 0, 1) := by decide +kernel
theorem d_M_reach_27 : decode b_M_reach 27 = .ok (.getfield 26, 3) := by decide +kernel
theorem d_M_reach_30 : decode b_M_reach 30 = .ok (.lload_n 1, 1) := by decide +kernel
theorem d_M_reach_31 : decode b_M_reach 31 = .ok (.ldc2_w 47, 3) := by decide +kernel
theorem d_M_reach_34 : decode b_M_reach 34 = .ok (.lsub, 1) := by decide +kernel
theorem d_M_reach_35 : decode b_M_reach 35 = .ok (.lconst 1, 1) := by decide +kernel
theorem d_M_reach_36 : decode b_M_reach 36 = .ok (.lsub, 1) := by decide +kernel
theorem d_M_reach_37 : decode b_M_reach 37 = .ok (.l2i, 1) := by decide +kernel
theorem d_M_reach_38 : decode b_M_reach 38 = .ok (.iconst 1, 1) := by decide +kernel
theorem d_M_reach_39 : decode b_M_reach 39 = .ok (.bastore, 1) := by decide +kernel
theorem d_M_reach_40 : decode b_M_reach 40 = .ok (.aload_n 0, 1) := by decide +kernel
theorem d_M_reach_41 : decode b_M_reach 41 = .ok (.getfield 30, 3) := by decide +kernel
theorem d_M_reach_44 : decode b_M_reach 44 = .ok (.iload_n 3, 1) := by decide +kernel
theorem d_M_reach_45 : decode b_M_reach 45 = .ok (.lload_n 1, 1) := by decide +kernel
theorem d_M_reach_46 : decode b_M_reach 46 = .ok (.ldc2_w 47, 3) := by decide +kernel
theorem d_M_reach_49 : decode b_M_reach 49 = .ok (.lsub, 1) := by decide +kernel
theorem d_M_reach_50 : decode b_M_reach 50 = .ok (.lconst 1, 1) := by decide +kernel
theorem d_M_reach_51 : decode b_M_reach 51 = .ok (.lsub, 1) := by decide +kernel
theorem d_M_reach_52 : decode b_M_reach 52 = .ok (.l2i, 1) := by decide +kernel
theorem d_M_reach_53 : decode b_M_reach 53 = .ok (.iastore, 1) := by decide +kernel
theorem d_M_reach_54 : decode b_M_reach 54 = .ok (.iload_n 3, 1) := by decide +kernel
theorem d_M_reach_55 : decode b_M_reach 55 = .ok (.iconst 1, 1) := by decide +kernel
theorem d_M_reach_56 : decode b_M_reach 56 = .ok (.iadd, 1) := by decide +kernel
theorem d_M_reach_57 : decode b_M_reach 57 = .ok (.ireturn, 1) := by decide +kernel
theorem d_M_sync_0 : decode b_M_sync 0 = .ok (.aload_n 0, 1) := by decide +kernel
theorem d_M_sync_1 : decode b_M_sync 1 = .ok (.getfield 98, 3) := by decide +kernel
theorem d_M_sync_4 : decode b_M_sync 4 = .ok (.istore_n 1, 1) := by decide +kernel
theorem d_M_sync_5 : decode b_M_sync 5 = .ok (.aload_n 0, 1) := by decide +kernel
theorem d_M_sync_6 : decode b_M_sync 6 = .ok (.getfield 19, 3) := by decide +kernel
theorem d_M_sync_9 : decode b_M_sync 9 = .ok (.aload_n 0, 1) := by decide +kernel
theorem d_M_sync_10 : decode b_M_sync 10 = .ok (.getfield 16, 3) := by decide +kernel
theorem d_M_sync_13 : decode b_M_sync 13 = .ok (.invokevirtual 91, 3) := by decide +kernel
theorem d_M_sync_16 : decode b_M_sync 16 = .ok (.aload_n 0, 1) := by decide +kernel
theorem d_M_sync_17 : decode b_M_sync 17 = .ok (.iconst 0, 1) := by decide +kernel
theorem d_M_sync_18 : decode b_M_sync 18 = .ok (.putfield 98, 3) := by decide +kernel
theorem d_M_sync_21 : decode b_M_sync 21 = .ok (.iload_n 1, 1) := by decide +kernel
theorem d_M_sync_22 : decode b_M_sync 22 = .ok (.ireturn, 1) := by decide +kernel
theorem d_M_crash_0 : decode b_M_crash 0 = .ok (.iload_n 1, 1) := by decide +kernel
theorem d_M_crash_1 : decode b_M_crash 1 = .ok (.ifCond .ge 5, 3) := by decide +kernel
theorem d_M_crash_4 : decode b_M_crash 4 = .ok (.iconst (-1), 1) := by decide +kernel
theorem d_M_crash_5 : decode b_M_crash 5 = .ok (.ireturn, 1) := by decide +kernel
theorem d_M_crash_6 : decode b_M_crash 6 = .ok (.iconst 0, 1) := by decide +kernel
theorem d_M_crash_7 : decode b_M_crash 7 = .ok (.istore_n 2, 1) := by decide +kernel
theorem d_M_crash_8 : decode b_M_crash 8 = .ok (.lconst 0, 1) := by decide +kernel
theorem d_M_crash_9 : decode b_M_crash 9 = .ok (.lstore_n 3, 1) := by decide +kernel
theorem d_M_crash_10 : decode b_M_crash 10 = .ok (.iload_n 2, 1) := by decide +kernel
theorem d_M_crash_11 : decode b_M_crash 11 = .ok (.aload_n 0, 1) := by decide +kernel
theorem d_M_crash_12 : decode b_M_crash 12 = .ok (.getfield 98, 3) := by decide +kernel
theorem d_M_crash_15 : decode b_M_crash 15 = .ok (.if_icmp .ge 40, 3) := by decide +kernel
theorem d_M_crash_18 : decode b_M_crash 18 = .ok (.lload_n 3, 1) := by decide +kernel
theorem d_M_crash_19 : decode b_M_crash 19 = .ok (.aload_n 0, 1) := by decide +kernel
theorem d_M_crash_20 : decode b_M_crash 20 = .ok (.getfield 22, 3) := by decide +kernel
theorem d_M_crash_23 : decode b_M_crash 23 = .ok (.iload_n 2, 1) := by decide +kernel
theorem d_M_crash_24 : decode b_M_crash 24 = .ok (.aaload, 1) := by decide +kernel
theorem d_M_crash_25 : decode b_M_crash 25 = .ok (.getfield 101, 3) := by decide +kernel
theorem d_M_crash_28 : decode b_M_crash 28 = .ok (.i2l, 1) := by decide +kernel
theorem d_M_crash_29 : decode b_M_crash 29 = .ok (.ladd, 1) := by decide +kernel
theorem d_M_crash_30 : decode b_M_crash 30 = .ok (.iload_n 1, 1) := by decide +kernel
theorem d_M_crash_31 : decode b_M_crash 31 = .ok (.i2l, 1) := by decide +kernel
theorem d_M_crash_32 : decode b_M_crash 32 = .ok (.lcmp, 1) := by decide +kernel
theorem d_M_crash_33 : decode b_M_crash 33 = .ok (.ifCond .gt 22, 3) := by decide +kernel
theorem d_M_crash_36 : decode b_M_crash 36 = .ok (.lload_n 3, 1) := by decide +kernel
theorem d_M_crash_37 : decode b_M_crash 37 = .ok (.aload_n 0, 1) := by decide +kernel
theorem d_M_crash_38 : decode b_M_crash 38 = .ok (.getfield 22, 3) := by decide +kernel
theorem d_M_crash_41 : decode b_M_crash 41 = .ok (.iload_n 2, 1) := by decide +kernel
theorem d_M_crash_42 : decode b_M_crash 42 = .ok (.aaload, 1) := by decide +kernel
theorem d_M_crash_43 : decode b_M_crash 43 = .ok (.getfield 101, 3) := by decide +kernel
theorem d_M_crash_46 : decode b_M_crash 46 = .ok (.i2l, 1) := by decide +kernel
theorem d_M_crash_47 : decode b_M_crash 47 = .ok (.ladd, 1) := by decide +kernel
theorem d_M_crash_48 : decode b_M_crash 48 = .ok (.lstore_n 3, 1) := by decide +kernel
theorem d_M_crash_49 : decode b_M_crash 49 = .ok (.iinc 2 1, 3) := by decide +kernel
theorem d_M_crash_52 : decode b_M_crash 52 = .ok (.goto (-42), 3) := by decide +kernel
theorem d_M_crash_55 : decode b_M_crash 55 = .ok (.iload_n 2, 1) := by decide +kernel
theorem d_M_crash_56 : decode b_M_crash 56 = .ok (.istore 5, 2) := by decide +kernel
theorem d_M_crash_58 : decode b_M_crash 58 = .ok (.iload 5, 2) := by decide +kernel
theorem d_M_crash_60 : decode b_M_crash 60 = .ok (.aload_n 0, 1) := by decide +kernel
theorem d_M_crash_61 : decode b_M_crash 61 = .ok (.getfield 98, 3) := by decide +kernel
theorem d_M_crash_64 : decode b_M_crash 64 = .ok (.if_icmp .ge 28, 3) := by decide +kernel
theorem d_M_crash_67 : decode b_M_crash 67 = .ok (.aload_n 0, 1) := by decide +kernel
theorem d_M_crash_68 : decode b_M_crash 68 = .ok (.dup, 1) := by decide +kernel
theorem d_M_crash_69 : decode b_M_crash 69 = .ok (.getfield 95, 3) := by decide +kernel
theorem d_M_crash_72 : decode b_M_crash 72 = .ok (.aload_n 0, 1) := by decide +kernel
theorem d_M_crash_73 : decode b_M_crash 73 = .ok (.getfield 22, 3) := by decide +kernel
theorem d_M_crash_76 : decode b_M_crash 76 = .ok (.iload 5, 2) := by decide +kernel
theorem d_M_crash_78 : decode b_M_crash 78 = .ok (.aaload, 1) := by decide +kernel
theorem d_M_crash_79 : decode b_M_crash 79 = .ok (.getfield 101, 3) := by decide +kernel
theorem d_M_crash_82 : decode b_M_crash 82 = .ok (.isub, 1) := by decide +kernel
theorem d_M_crash_83 : decode b_M_crash 83 = .ok (.putfield 95, 3) := by decide +kernel
theorem d_M_crash_86 : decode b_M_crash 86 = .ok (.iinc 5 1, 3) := by decide +kernel
theorem d_M_crash_89 : decode b_M_crash 89 = .ok (.goto (-31), 3) := by decide +kernel
theorem d_M_crash_92 : decode b_M_crash 92 = .ok (.iload_n 2, 1) := by decide +kernel
theorem d_M_crash_93 : decode b_M_crash 93 = .ok (.ifCond .le 18, 3) := by decide +kernel
theorem d_M_crash_96 : decode b_M_crash 96 = .ok (.aload_n 0, 1) := by decide +kernel
theorem d_M_crash_97 : decode b_M_crash 97 = .ok (.getfield 19, 3) := by decide +kernel
theorem d_M_crash_100 : decode b_M_crash 100 = .ok (.aload_n 0, 1) := by decide +kernel
theorem d_M_crash_101 : decode b_M_crash 101 = .ok (.getfield 22, 3) := by decide +kernel
theorem d_M_crash_104 : decode b_M_crash 104 = .ok (.iload_n 2, 1) := by decide +kernel
theorem d_M_crash_105 : decode b_M_crash 105 = .ok (.iconst 1, 1) := by decide +kernel
theorem d_M_crash_106 : decode b_M_crash 106 = .ok (.isub, 1) := by decide +kernel
theorem d_M_crash_107 : decode b_M_crash 107 = .ok (.aaload, 1) := by decide +kernel
theorem d_M_crash_108 : decode b_M_crash 108 = .ok (.invokevirtual 91, 3) := by decide +kernel
theorem d_M_crash_111 : decode b_M_crash 111 = .ok (.aload_n 0, 1) := by decide +kernel
theorem d_M_crash_112 : decode b_M_crash 112 = .ok (.getfield 10, 3) := by decide +kernel
theorem d_M_crash_115 : decode b_M_crash 115 = .ok (.aload_n 0, 1) := by decide +kernel
theorem d_M_crash_116 : decode b_M_crash 116 = .ok (.getfield 19, 3) := by decide +kernel
theorem d_M_crash_119 : decode b_M_crash 119 = .ok (.invokevirtual 91, 3) := by decide +kernel
theorem d_M_crash_122 : decode b_M_crash 122 = .ok (.aload_n 0, 1) := by decide +kernel
theorem d_M_crash_123 : decode b_M_crash 123 = .ok (.getfield 16, 3) := by decide +kernel
theorem d_M_crash_126 : decode b_M_crash 126 = .ok (.aload_n 0, 1) := by decide +kernel
theorem d_M_crash_127 : decode b_M_crash 127 = .ok (.getfield 19, 3) := by decide +kernel
theorem d_M_crash_130 : decode b_M_crash 130 = .ok (.invokevirtual 91, 3) := by decide +kernel
theorem d_M_crash_133 : decode b_M_crash 133 = .ok (.aload_n 0, 1) := by decide +kernel
theorem d_M_crash_134 : decode b_M_crash 134 = .ok (.iconst 0, 1) := by decide +kernel
theorem d_M_crash_135 : decode b_M_crash 135 = .ok (.putfield 98, 3) := by decide +kernel
theorem d_M_crash_138 : decode b_M_crash 138 = .ok (.iload_n 2, 1) := by decide +kernel
theorem d_M_crash_139 : decode b_M_crash 139 = .ok (.ireturn, 1) := by decide +kernel
theorem d_M_kind_0 : decode b_M_kind 0 = .ok (.iload_n 1, 1) := by decide +kernel
theorem d_M_kind_1 : decode b_M_kind 1 = .ok (.i2l, 1) := by decide +kernel
theorem d_M_kind_2 : decode b_M_kind 2 = .ok (.lconst 0, 1) := by decide +kernel
theorem d_M_kind_3 : decode b_M_kind 3 = .ok (.ldc2_w 34, 3) := by decide +kernel
theorem d_M_kind_6 : decode b_M_kind 6 = .ok (.invokestatic 36, 3) := by decide +kernel
theorem d_M_kind_9 : decode b_M_kind 9 = .ok (.ifCond .eq 15, 3) := by decide +kernel
theorem d_M_kind_12 : decode b_M_kind 12 = .ok (.aload_n 0, 1) := by decide +kernel
theorem d_M_kind_13 : decode b_M_kind 13 = .ok (.getfield 10, 3) := by decide +kernel
theorem d_M_kind_16 : decode b_M_kind 16 = .ok (.getfield 40, 3) := by decide +kernel
theorem d_M_kind_19 : decode b_M_kind 19 = .ok (.iload_n 1, 1) := by decide +kernel
theorem d_M_kind_20 : decode b_M_kind 20 = .ok (.iaload, 1) := by decide +kernel
theorem d_M_kind_21 : decode b_M_kind 21 = .ok (.goto 4, 3) := by decide +kernel
theorem d_M_kind_24 : decode b_M_kind 24 = .ok (.iconst (-1), 1) := by decide +kernel
theorem d_M_kind_25 : decode b_M_kind 25 = .ok (.ireturn, 1) := by decide +kernel
theorem d_M_size_0 : decode b_M_size 0 = .ok (.aload_n 0, 1) := by decide +kernel
theorem d_M_size_1 : decode b_M_size 1 = .ok (.iload_n 1, 1) := by decide +kernel
theorem d_M_size_2 : decode b_M_size 2 = .ok (.invokevirtual 43, 3) := by decide +kernel
theorem d_M_size_5 : decode b_M_size 5 = .ok (.ifCond .eq 15, 3) := by decide +kernel
theorem d_M_size_8 : decode b_M_size 8 = .ok (.aload_n 0, 1) := by decide +kernel
theorem d_M_size_9 : decode b_M_size 9 = .ok (.getfield 10, 3) := by decide +kernel
theorem d_M_size_12 : decode b_M_size 12 = .ok (.getfield 51, 3) := by decide +kernel
theorem d_M_size_15 : decode b_M_size 15 = .ok (.iload_n 1, 1) := by decide +kernel
theorem d_M_size_16 : decode b_M_size 16 = .ok (.iaload, 1) := by decide +kernel
theorem d_M_size_17 : decode b_M_size 17 = .ok (.goto 4, 3) := by decide +kernel
theorem d_M_size_20 : decode b_M_size 20 = .ok (.iconst (-1), 1) := by decide +kernel
theorem d_M_size_21 : decode b_M_size 21 = .ok (.ireturn, 1) := by decide +kernel
theorem d_M_count_0 : decode b_M_count 0 = .ok (.iconst 0, 1) := by decide +kernel
theorem d_M_count_1 : decode b_M_count 1 = .ok (.istore_n 2, 1) := by decide +kernel
theorem d_M_count_2 : decode b_M_count 2 = .ok (.iload_n 1, 1) := by decide +kernel
theorem d_M_count_3 : decode b_M_count 3 = .ok (.tableswitch 91 0 3 #[29, 73, 81, 86], 29) := by decide +kernel
theorem d_M_count_32 : decode b_M_count 32 = .ok (.aload_n 0, 1) := by decide +kernel
theorem d_M_count_33 : decode b_M_count 33 = .ok (.getfield 10, 3) := by decide +kernel
theorem d_M_count_36 : decode b_M_count 36 = .ok (.getfield 40, 3) := by decide +kernel
theorem d_M_count_39 : decode b_M_count 39 = .ok (.astore_n 3, 1) := by decide +kernel
theorem d_M_count_40 : decode b_M_count 40 = .ok (.aload_n 3, 1) := by decide +kernel
theorem d_M_count_41 : decode b_M_count 41 = .ok (.arraylength, 1) := by decide +kernel
theorem d_M_count_42 : decode b_M_count 42 = .ok (.istore 4, 2) := by decide +kernel
theorem d_M_count_44 : decode b_M_count 44 = .ok (.iconst 0, 1) := by decide +kernel
theorem d_M_count_45 : decode b_M_count 45 = .ok (.istore 5, 2) := by decide +kernel
theorem d_M_count_47 : decode b_M_count 47 = .ok (.iload 5, 2) := by decide +kernel
theorem d_M_count_49 : decode b_M_count 49 = .ok (.iload 4, 2) := by decide +kernel
theorem d_M_count_51 : decode b_M_count 51 = .ok (.if_icmp .ge 23, 3) := by decide +kernel
theorem d_M_count_54 : decode b_M_count 54 = .ok (.aload_n 3, 1) := by decide +kernel
theorem d_M_count_55 : decode b_M_count 55 = .ok (.iload 5, 2) := by decide +kernel
theorem d_M_count_57 : decode b_M_count 57 = .ok (.iaload, 1) := by decide +kernel
theorem d_M_count_58 : decode b_M_count 58 = .ok (.istore 6, 2) := by decide +kernel
theorem d_M_count_60 : decode b_M_count 60 = .ok (.iload 6, 2) := by decide +kernel
theorem d_M_count_62 : decode b_M_count 62 = .ok (.ifCond .eq 6, 3) := by decide +kernel
theorem d_M_count_65 : decode b_M_count 65 = .ok (.iinc 2 1, 3) := by decide +kernel
theorem d_M_count_68 : decode b_M_count 68 = .ok (.iinc 5 1, 3) := by decide +kernel
theorem d_M_count_71 : decode b_M_count 71 = .ok (.goto (-24), 3) := by decide +kernel
theorem d_M_count_74 : decode b_M_count 74 = .ok (.iload_n 2, 1) := by decide +kernel
theorem d_M_count_75 : decode b_M_count 75 = .ok (.ireturn, 1) := by decide +kernel
theorem d_M_count_76 : decode b_M_count 76 = .ok (.aload_n 0, 1) := by decide +kernel
theorem d_M_count_77 : decode b_M_count 77 = .ok (.getfield 10, 3) := by decide +kernel
theorem d_M_count_80 : decode b_M_count 80 = .ok (.getfield 82, 3) := by decide +kernel
theorem d_M_count_83 : decode b_M_count 83 = .ok (.ireturn, 1) := by decide +kernel
theorem d_M_count_84 : decode b_M_count 84 = .ok (.aload_n 0, 1) := by decide +kernel
theorem d_M_count_85 : decode b_M_count 85 = .ok (.getfield 98, 3) := by decide +kernel
theorem d_M_count_88 : decode b_M_count 88 = .ok (.ireturn, 1) := by decide +kernel
theorem d_M_count_89 : decode b_M_count 89 = .ok (.aload_n 0, 1) := by decide +kernel
theorem d_M_count_90 : decode b_M_count 90 = .ok (.getfield 95, 3) := by decide +kernel
theorem d_M_count_93 : decode b_M_count 93 = .ok (.ireturn, 1) := by decide +kernel
theorem d_M_count_94 : decode b_M_count 94 = .ok (.iconst (-1), 1) := by decide +kernel
theorem d_M_count_95 : decode b_M_count 95 = .ok (.ireturn, 1) := by decide +kernel
end
section
theorem d_LAW_law_0 : decode b_LAW_law 0 = .ok (.new 7, 3) := by decide +kernel
theorem d_LAW_law_3 : decode b_LAW_law 3 = .ok (.dup, 1) := by decide +kernel
theorem d_LAW_law_4 : decode b_LAW_law 4 = .ok (.invokespecial 9, 3) := by decide +kernel
theorem d_LAW_law_7 : decode b_LAW_law 7 = .ok (.astore_n 1, 1) := by decide +kernel
theorem d_LAW_law_8 : decode b_LAW_law 8 = .ok (.new 10, 3) := by decide +kernel
theorem d_LAW_law_11 : decode b_LAW_law 11 = .ok (.dup, 1) := by decide +kernel
theorem d_LAW_law_12 : decode b_LAW_law 12 = .ok (.invokespecial 12, 3) := by decide +kernel
theorem d_LAW_law_15 : decode b_LAW_law 15 = .ok (.astore_n 2, 1) := by decide +kernel
theorem d_LAW_law_16 : decode b_LAW_law 16 = .ok (.iconst 0, 1) := by decide +kernel
theorem d_LAW_law_17 : decode b_LAW_law 17 = .ok (.istore_n 3, 1) := by decide +kernel
theorem d_LAW_law_18 : decode b_LAW_law 18 = .ok (.iload_n 3, 1) := by decide +kernel
theorem d_LAW_law_19 : decode b_LAW_law 19 = .ok (.aload_n 0, 1) := by decide +kernel
theorem d_LAW_law_20 : decode b_LAW_law 20 = .ok (.arraylength, 1) := by decide +kernel
theorem d_LAW_law_21 : decode b_LAW_law 21 = .ok (.iconst 5, 1) := by decide +kernel
theorem d_LAW_law_22 : decode b_LAW_law 22 = .ok (.isub, 1) := by decide +kernel
theorem d_LAW_law_23 : decode b_LAW_law 23 = .ok (.if_icmp .gt 590, 3) := by decide +kernel
theorem d_LAW_law_26 : decode b_LAW_law 26 = .ok (.aload_n 0, 1) := by decide +kernel
theorem d_LAW_law_27 : decode b_LAW_law 27 = .ok (.iload_n 3, 1) := by decide +kernel
theorem d_LAW_law_28 : decode b_LAW_law 28 = .ok (.iaload, 1) := by decide +kernel
theorem d_LAW_law_29 : decode b_LAW_law 29 = .ok (.bipush 31, 2) := by decide +kernel
theorem d_LAW_law_31 : decode b_LAW_law 31 = .ok (.iand, 1) := by decide +kernel
theorem d_LAW_law_32 : decode b_LAW_law 32 = .ok (.tableswitch 575 0 16 #[84, 123, 176, 210, 253, 277, 330, 364, 407, 431, 444, 457, 470, 483, 506, 529, 552], 84) := by decide +kernel
theorem d_LAW_law_116 : decode b_LAW_law 116 = .ok (.aload_n 1, 1) := by decide +kernel
theorem d_LAW_law_117 : decode b_LAW_law 117 = .ok (.aload_n 0, 1) := by decide +kernel
theorem d_LAW_law_118 : decode b_LAW_law 118 = .ok (.iload_n 3, 1) := by decide +kernel
theorem d_LAW_law_119 : decode b_LAW_law 119 = .ok (.iconst 1, 1) := by decide +kernel
theorem d_LAW_law_120 : decode b_LAW_law 120 = .ok (.iadd, 1) := by decide +kernel
theorem d_LAW_law_121 : decode b_LAW_law 121 = .ok (.iaload, 1) := by decide +kernel
theorem d_LAW_law_122 : decode b_LAW_law 122 = .ok (.ifCond .eq 7, 3) := by decide +kernel
theorem d_LAW_law_125 : decode b_LAW_law 125 = .ok (.iconst 1, 1) := by decide +kernel
theorem d_LAW_law_126 : decode b_LAW_law 126 = .ok (.goto 4, 3) := by decide +kernel
theorem d_LAW_law_129 : decode b_LAW_law 129 = .ok (.iconst 0, 1) := by decide +kernel
theorem d_LAW_law_130 : decode b_LAW_law 130 = .ok (.invokevirtual 13, 3) := by decide +kernel
theorem d_LAW_law_133 : decode b_LAW_law 133 = .ok (.aload_n 2, 1) := by decide +kernel
theorem d_LAW_law_134 : decode b_LAW_law 134 = .ok (.aload_n 0, 1) := by decide +kernel
theorem d_LAW_law_135 : decode b_LAW_law 135 = .ok (.iload_n 3, 1) := by decide +kernel
theorem d_LAW_law_136 : decode b_LAW_law 136 = .ok (.iconst 1, 1) := by decide +kernel
theorem d_LAW_law_137 : decode b_LAW_law 137 = .ok (.iadd, 1) := by decide +kernel
theorem d_LAW_law_138 : decode b_LAW_law 138 = .ok (.iaload, 1) := by decide +kernel
theorem d_LAW_law_139 : decode b_LAW_law 139 = .ok (.ifCond .eq 7, 3) := by decide +kernel
theorem d_LAW_law_142 : decode b_LAW_law 142 = .ok (.iconst 1, 1) := by decide +kernel
theorem d_LAW_law_143 : decode b_LAW_law 143 = .ok (.goto 4, 3) := by decide +kernel
theorem d_LAW_law_146 : decode b_LAW_law 146 = .ok (.iconst 0, 1) := by decide +kernel
theorem d_LAW_law_147 : decode b_LAW_law 147 = .ok (.invokevirtual 17, 3) := by decide +kernel
theorem d_LAW_law_150 : decode b_LAW_law 150 = .ok (.if_icmp .eq 457, 3) := by decide +kernel
theorem d_LAW_law_153 : decode b_LAW_law 153 = .ok (.iconst 0, 1) := by decide +kernel
theorem d_LAW_law_154 : decode b_LAW_law 154 = .ok (.ireturn, 1) := by decide +kernel
theorem d_LAW_law_155 : decode b_LAW_law 155 = .ok (.aload_n 1, 1) := by decide +kernel
theorem d_LAW_law_156 : decode b_LAW_law 156 = .ok (.aload_n 0, 1) := by decide +kernel
theorem d_LAW_law_157 : decode b_LAW_law 157 = .ok (.iload_n 3, 1) := by decide +kernel
theorem d_LAW_law_158 : decode b_LAW_law 158 = .ok (.iconst 1, 1) := by decide +kernel
theorem d_LAW_law_159 : decode b_LAW_law 159 = .ok (.iadd, 1) := by decide +kernel
theorem d_LAW_law_160 : decode b_LAW_law 160 = .ok (.iaload, 1) := by decide +kernel
theorem d_LAW_law_161 : decode b_LAW_law 161 = .ok (.aload_n 0, 1) := by decide +kernel
theorem d_LAW_law_162 : decode b_LAW_law 162 = .ok (.iload_n 3, 1) := by decide +kernel
theorem d_LAW_law_163 : decode b_LAW_law 163 = .ok (.iconst 2, 1) := by decide +kernel
theorem d_LAW_law_164 : decode b_LAW_law 164 = .ok (.iadd, 1) := by decide +kernel
theorem d_LAW_law_165 : decode b_LAW_law 165 = .ok (.iaload, 1) := by decide +kernel
theorem d_LAW_law_166 : decode b_LAW_law 166 = .ok (.aload_n 0, 1) := by decide +kernel
theorem d_LAW_law_167 : decode b_LAW_law 167 = .ok (.iload_n 3, 1) := by decide +kernel
theorem d_LAW_law_168 : decode b_LAW_law 168 = .ok (.iconst 3, 1) := by decide +kernel
theorem d_LAW_law_169 : decode b_LAW_law 169 = .ok (.iadd, 1) := by decide +kernel
theorem d_LAW_law_170 : decode b_LAW_law 170 = .ok (.iaload, 1) := by decide +kernel
theorem d_LAW_law_171 : decode b_LAW_law 171 = .ok (.aload_n 0, 1) := by decide +kernel
theorem d_LAW_law_172 : decode b_LAW_law 172 = .ok (.iload_n 3, 1) := by decide +kernel
theorem d_LAW_law_173 : decode b_LAW_law 173 = .ok (.iconst 4, 1) := by decide +kernel
theorem d_LAW_law_174 : decode b_LAW_law 174 = .ok (.iadd, 1) := by decide +kernel
theorem d_LAW_law_175 : decode b_LAW_law 175 = .ok (.iaload, 1) := by decide +kernel
theorem d_LAW_law_176 : decode b_LAW_law 176 = .ok (.invokevirtual 18, 3) := by decide +kernel
theorem d_LAW_law_179 : decode b_LAW_law 179 = .ok (.aload_n 2, 1) := by decide +kernel
theorem d_LAW_law_180 : decode b_LAW_law 180 = .ok (.aload_n 0, 1) := by decide +kernel
theorem d_LAW_law_181 : decode b_LAW_law 181 = .ok (.iload_n 3, 1) := by decide +kernel
theorem d_LAW_law_182 : decode b_LAW_law 182 = .ok (.iconst 1, 1) := by decide +kernel
theorem d_LAW_law_183 : decode b_LAW_law 183 = .ok (.iadd, 1) := by decide +kernel
theorem d_LAW_law_184 : decode b_LAW_law 184 = .ok (.iaload, 1) := by decide +kernel
theorem d_LAW_law_185 : decode b_LAW_law 185 = .ok (.aload_n 0, 1) := by decide +kernel
theorem d_LAW_law_186 : decode b_LAW_law 186 = .ok (.iload_n 3, 1) := by decide +kernel
theorem d_LAW_law_187 : decode b_LAW_law 187 = .ok (.iconst 2, 1) := by decide +kernel
theorem d_LAW_law_188 : decode b_LAW_law 188 = .ok (.iadd, 1) := by decide +kernel
theorem d_LAW_law_189 : decode b_LAW_law 189 = .ok (.iaload, 1) := by decide +kernel
theorem d_LAW_law_190 : decode b_LAW_law 190 = .ok (.aload_n 0, 1) := by decide +kernel
theorem d_LAW_law_191 : decode b_LAW_law 191 = .ok (.iload_n 3, 1) := by decide +kernel
theorem d_LAW_law_192 : decode b_LAW_law 192 = .ok (.iconst 3, 1) := by decide +kernel
theorem d_LAW_law_193 : decode b_LAW_law 193 = .ok (.iadd, 1) := by decide +kernel
theorem d_LAW_law_194 : decode b_LAW_law 194 = .ok (.iaload, 1) := by decide +kernel
theorem d_LAW_law_195 : decode b_LAW_law 195 = .ok (.aload_n 0, 1) := by decide +kernel
theorem d_LAW_law_196 : decode b_LAW_law 196 = .ok (.iload_n 3, 1) := by decide +kernel
theorem d_LAW_law_197 : decode b_LAW_law 197 = .ok (.iconst 4, 1) := by decide +kernel
theorem d_LAW_law_198 : decode b_LAW_law 198 = .ok (.iadd, 1) := by decide +kernel
theorem d_LAW_law_199 : decode b_LAW_law 199 = .ok (.iaload, 1) := by decide +kernel
theorem d_LAW_law_200 : decode b_LAW_law 200 = .ok (.invokevirtual 22, 3) := by decide +kernel
theorem d_LAW_law_203 : decode b_LAW_law 203 = .ok (.if_icmp .eq 404, 3) := by decide +kernel
theorem d_LAW_law_206 : decode b_LAW_law 206 = .ok (.iconst 0, 1) := by decide +kernel
theorem d_LAW_law_207 : decode b_LAW_law 207 = .ok (.ireturn, 1) := by decide +kernel
theorem d_LAW_law_208 : decode b_LAW_law 208 = .ok (.aload_n 1, 1) := by decide +kernel
theorem d_LAW_law_209 : decode b_LAW_law 209 = .ok (.aload_n 0, 1) := by decide +kernel
theorem d_LAW_law_210 : decode b_LAW_law 210 = .ok (.iload_n 3, 1) := by decide +kernel
theorem d_LAW_law_211 : decode b_LAW_law 211 = .ok (.iconst 1, 1) := by decide +kernel
theorem d_LAW_law_212 : decode b_LAW_law 212 = .ok (.iadd, 1) := by decide +kernel
theorem d_LAW_law_213 : decode b_LAW_law 213 = .ok (.iaload, 1) := by decide +kernel
theorem d_LAW_law_214 : decode b_LAW_law 214 = .ok (.aload_n 0, 1) := by decide +kernel
theorem d_LAW_law_215 : decode b_LAW_law 215 = .ok (.iload_n 3, 1) := by decide +kernel
theorem d_LAW_law_216 : decode b_LAW_law 216 = .ok (.iconst 2, 1) := by decide +kernel
theorem d_LAW_law_217 : decode b_LAW_law 217 = .ok (.iadd, 1) := by decide +kernel
theorem d_LAW_law_218 : decode b_LAW_law 218 = .ok (.iaload, 1) := by decide +kernel
theorem d_LAW_law_219 : decode b_LAW_law 219 = .ok (.invokevirtual 23, 3) := by decide +kernel
theorem d_LAW_law_222 : decode b_LAW_law 222 = .ok (.aload_n 2, 1) := by decide +kernel
theorem d_LAW_law_223 : decode b_LAW_law 223 = .ok (.aload_n 0, 1) := by decide +kernel
theorem d_LAW_law_224 : decode b_LAW_law 224 = .ok (.iload_n 3, 1) := by decide +kernel
theorem d_LAW_law_225 : decode b_LAW_law 225 = .ok (.iconst 1, 1) := by decide +kernel
theorem d_LAW_law_226 : decode b_LAW_law 226 = .ok (.iadd, 1) := by decide +kernel
theorem d_LAW_law_227 : decode b_LAW_law 227 = .ok (.iaload, 1) := by decide +kernel
theorem d_LAW_law_228 : decode b_LAW_law 228 = .ok (.aload_n 0, 1) := by decide +kernel
theorem d_LAW_law_229 : decode b_LAW_law 229 = .ok (.iload_n 3, 1) := by decide +kernel
theorem d_LAW_law_230 : decode b_LAW_law 230 = .ok (.iconst 2, 1) := by decide +kernel
theorem d_LAW_law_231 : decode b_LAW_law 231 = .ok (.iadd, 1) := by decide +kernel
theorem d_LAW_law_232 : decode b_LAW_law 232 = .ok (.iaload, 1) := by decide +kernel
theorem d_LAW_law_233 : decode b_LAW_law 233 = .ok (.invokevirtual 27, 3) := by decide +kernel
theorem d_LAW_law_236 : decode b_LAW_law 236 = .ok (.lcmp, 1) := by decide +kernel
theorem d_LAW_law_237 : decode b_LAW_law 237 = .ok (.ifCond .eq 370, 3) := by decide +kernel
theorem d_LAW_law_240 : decode b_LAW_law 240 = .ok (.iconst 0, 1) := by decide +kernel
theorem d_LAW_law_241 : decode b_LAW_law 241 = .ok (.ireturn, 1) := by decide +kernel
theorem d_LAW_law_242 : decode b_LAW_law 242 = .ok (.aload_n 1, 1) := by decide +kernel
theorem d_LAW_law_243 : decode b_LAW_law 243 = .ok (.aload_n 0, 1) := by decide +kernel
theorem d_LAW_law_244 : decode b_LAW_law 244 = .ok (.iload_n 3, 1) := by decide +kernel
theorem d_LAW_law_245 : decode b_LAW_law 245 = .ok (.iconst 1, 1) := by decide +kernel
theorem d_LAW_law_246 : decode b_LAW_law 246 = .ok (.iadd, 1) := by decide +kernel
theorem d_LAW_law_247 : decode b_LAW_law 247 = .ok (.iaload, 1) := by decide +kernel
theorem d_LAW_law_248 : decode b_LAW_law 248 = .ok (.aload_n 0, 1) := by decide +kernel
theorem d_LAW_law_249 : decode b_LAW_law 249 = .ok (.iload_n 3, 1) := by decide +kernel
theorem d_LAW_law_250 : decode b_LAW_law 250 = .ok (.iconst 2, 1) := by decide +kernel
theorem d_LAW_law_251 : decode b_LAW_law 251 = .ok (.iadd, 1) := by decide +kernel
theorem d_LAW_law_252 : decode b_LAW_law 252 = .ok (.iaload, 1) := by decide +kernel
theorem d_LAW_law_253 : decode b_LAW_law 253 = .ok (.aload_n 0, 1) := by decide +kernel
theorem d_LAW_law_254 : decode b_LAW_law 254 = .ok (.iload_n 3, 1) := by decide +kernel
theorem d_LAW_law_255 : decode b_LAW_law 255 = .ok (.iconst 3, 1) := by decide +kernel
end
section
theorem d_LAW_law_256 : decode b_LAW_law 256 = .ok (.iadd, 1) := by decide +kernel
theorem d_LAW_law_257 : decode b_LAW_law 257 = .ok (.iaload, 1) := by decide +kernel
theorem d_LAW_law_258 : decode b_LAW_law 258 = .ok (.invokevirtual 28, 3) := by decide +kernel
theorem d_LAW_law_261 : decode b_LAW_law 261 = .ok (.aload_n 2, 1) := by decide +kernel
theorem d_LAW_law_262 : decode b_LAW_law 262 = .ok (.aload_n 0, 1) := by decide +kernel
theorem d_LAW_law_263 : decode b_LAW_law 263 = .ok (.iload_n 3, 1) := by decide +kernel
theorem d_LAW_law_264 : decode b_LAW_law 264 = .ok (.iconst 1, 1) := by decide +kernel
theorem d_LAW_law_265 : decode b_LAW_law 265 = .ok (.iadd, 1) := by decide +kernel
theorem d_LAW_law_266 : decode b_LAW_law 266 = .ok (.iaload, 1) := by decide +kernel
theorem d_LAW_law_267 : decode b_LAW_law 267 = .ok (.aload_n 0, 1) := by decide +kernel
theorem d_LAW_law_268 : decode b_LAW_law 268 = .ok (.iload_n 3, 1) := by decide +kernel
theorem d_LAW_law_269 : decode b_LAW_law 269 = .ok (.iconst 2, 1) := by decide +kernel
theorem d_LAW_law_270 : decode b_LAW_law 270 = .ok (.iadd, 1) := by decide +kernel
theorem d_LAW_law_271 : decode b_LAW_law 271 = .ok (.iaload, 1) := by decide +kernel
theorem d_LAW_law_272 : decode b_LAW_law 272 = .ok (.aload_n 0, 1) := by decide +kernel
theorem d_LAW_law_273 : decode b_LAW_law 273 = .ok (.iload_n 3, 1) := by decide +kernel
theorem d_LAW_law_274 : decode b_LAW_law 274 = .ok (.iconst 3, 1) := by decide +kernel
theorem d_LAW_law_275 : decode b_LAW_law 275 = .ok (.iadd, 1) := by decide +kernel
theorem d_LAW_law_276 : decode b_LAW_law 276 = .ok (.iaload, 1) := by decide +kernel
theorem d_LAW_law_277 : decode b_LAW_law 277 = .ok (.invokevirtual 32, 3) := by decide +kernel
theorem d_LAW_law_280 : decode b_LAW_law 280 = .ok (.if_icmp .eq 327, 3) := by decide +kernel
theorem d_LAW_law_283 : decode b_LAW_law 283 = .ok (.iconst 0, 1) := by decide +kernel
theorem d_LAW_law_284 : decode b_LAW_law 284 = .ok (.ireturn, 1) := by decide +kernel
theorem d_LAW_law_285 : decode b_LAW_law 285 = .ok (.aload_n 1, 1) := by decide +kernel
theorem d_LAW_law_286 : decode b_LAW_law 286 = .ok (.aload_n 0, 1) := by decide +kernel
theorem d_LAW_law_287 : decode b_LAW_law 287 = .ok (.iload_n 3, 1) := by decide +kernel
theorem d_LAW_law_288 : decode b_LAW_law 288 = .ok (.iconst 1, 1) := by decide +kernel
theorem d_LAW_law_289 : decode b_LAW_law 289 = .ok (.iadd, 1) := by decide +kernel
theorem d_LAW_law_290 : decode b_LAW_law 290 = .ok (.iaload, 1) := by decide +kernel
theorem d_LAW_law_291 : decode b_LAW_law 291 = .ok (.invokevirtual 33, 3) := by decide +kernel
theorem d_LAW_law_294 : decode b_LAW_law 294 = .ok (.aload_n 2, 1) := by decide +kernel
theorem d_LAW_law_295 : decode b_LAW_law 295 = .ok (.aload_n 0, 1) := by decide +kernel
theorem d_LAW_law_296 : decode b_LAW_law 296 = .ok (.iload_n 3, 1) := by decide +kernel
theorem d_LAW_law_297 : decode b_LAW_law 297 = .ok (.iconst 1, 1) := by decide +kernel
theorem d_LAW_law_298 : decode b_LAW_law 298 = .ok (.iadd, 1) := by decide +kernel
theorem d_LAW_law_299 : decode b_LAW_law 299 = .ok (.iaload, 1) := by decide +kernel
theorem d_LAW_law_300 : decode b_LAW_law 300 = .ok (.invokevirtual 37, 3) := by decide +kernel
theorem d_LAW_law_303 : decode b_LAW_law 303 = .ok (.lcmp, 1) := by decide +kernel
theorem d_LAW_law_304 : decode b_LAW_law 304 = .ok (.ifCond .eq 303, 3) := by decide +kernel
theorem d_LAW_law_307 : decode b_LAW_law 307 = .ok (.iconst 0, 1) := by decide +kernel
theorem d_LAW_law_308 : decode b_LAW_law 308 = .ok (.ireturn, 1) := by decide +kernel
theorem d_LAW_law_309 : decode b_LAW_law 309 = .ok (.aload_n 1, 1) := by decide +kernel
theorem d_LAW_law_310 : decode b_LAW_law 310 = .ok (.aload_n 0, 1) := by decide +kernel
theorem d_LAW_law_311 : decode b_LAW_law 311 = .ok (.iload_n 3, 1) := by decide +kernel
theorem d_LAW_law_312 : decode b_LAW_law 312 = .ok (.iconst 1, 1) := by decide +kernel
theorem d_LAW_law_313 : decode b_LAW_law 313 = .ok (.iadd, 1) := by decide +kernel
theorem d_LAW_law_314 : decode b_LAW_law 314 = .ok (.iaload, 1) := by decide +kernel
theorem d_LAW_law_315 : decode b_LAW_law 315 = .ok (.aload_n 0, 1) := by decide +kernel
theorem d_LAW_law_316 : decode b_LAW_law 316 = .ok (.iload_n 3, 1) := by decide +kernel
theorem d_LAW_law_317 : decode b_LAW_law 317 = .ok (.iconst 2, 1) := by decide +kernel
theorem d_LAW_law_318 : decode b_LAW_law 318 = .ok (.iadd, 1) := by decide +kernel
theorem d_LAW_law_319 : decode b_LAW_law 319 = .ok (.iaload, 1) := by decide +kernel
theorem d_LAW_law_320 : decode b_LAW_law 320 = .ok (.aload_n 0, 1) := by decide +kernel
theorem d_LAW_law_321 : decode b_LAW_law 321 = .ok (.iload_n 3, 1) := by decide +kernel
theorem d_LAW_law_322 : decode b_LAW_law 322 = .ok (.iconst 3, 1) := by decide +kernel
theorem d_LAW_law_323 : decode b_LAW_law 323 = .ok (.iadd, 1) := by decide +kernel
theorem d_LAW_law_324 : decode b_LAW_law 324 = .ok (.iaload, 1) := by decide +kernel
theorem d_LAW_law_325 : decode b_LAW_law 325 = .ok (.aload_n 0, 1) := by decide +kernel
theorem d_LAW_law_326 : decode b_LAW_law 326 = .ok (.iload_n 3, 1) := by decide +kernel
theorem d_LAW_law_327 : decode b_LAW_law 327 = .ok (.iconst 4, 1) := by decide +kernel
theorem d_LAW_law_328 : decode b_LAW_law 328 = .ok (.iadd, 1) := by decide +kernel
theorem d_LAW_law_329 : decode b_LAW_law 329 = .ok (.iaload, 1) := by decide +kernel
theorem d_LAW_law_330 : decode b_LAW_law 330 = .ok (.invokevirtual 38, 3) := by decide +kernel
theorem d_LAW_law_333 : decode b_LAW_law 333 = .ok (.aload_n 2, 1) := by decide +kernel
theorem d_LAW_law_334 : decode b_LAW_law 334 = .ok (.aload_n 0, 1) := by decide +kernel
theorem d_LAW_law_335 : decode b_LAW_law 335 = .ok (.iload_n 3, 1) := by decide +kernel
theorem d_LAW_law_336 : decode b_LAW_law 336 = .ok (.iconst 1, 1) := by decide +kernel
theorem d_LAW_law_337 : decode b_LAW_law 337 = .ok (.iadd, 1) := by decide +kernel
theorem d_LAW_law_338 : decode b_LAW_law 338 = .ok (.iaload, 1) := by decide +kernel
theorem d_LAW_law_339 : decode b_LAW_law 339 = .ok (.aload_n 0, 1) := by decide +kernel
theorem d_LAW_law_340 : decode b_LAW_law 340 = .ok (.iload_n 3, 1) := by decide +kernel
theorem d_LAW_law_341 : decode b_LAW_law 341 = .ok (.iconst 2, 1) := by decide +kernel
theorem d_LAW_law_342 : decode b_LAW_law 342 = .ok (.iadd, 1) := by decide +kernel
theorem d_LAW_law_343 : decode b_LAW_law 343 = .ok (.iaload, 1) := by decide +kernel
theorem d_LAW_law_344 : decode b_LAW_law 344 = .ok (.aload_n 0, 1) := by decide +kernel
theorem d_LAW_law_345 : decode b_LAW_law 345 = .ok (.iload_n 3, 1) := by decide +kernel
theorem d_LAW_law_346 : decode b_LAW_law 346 = .ok (.iconst 3, 1) := by decide +kernel
theorem d_LAW_law_347 : decode b_LAW_law 347 = .ok (.iadd, 1) := by decide +kernel
theorem d_LAW_law_348 : decode b_LAW_law 348 = .ok (.iaload, 1) := by decide +kernel
theorem d_LAW_law_349 : decode b_LAW_law 349 = .ok (.aload_n 0, 1) := by decide +kernel
theorem d_LAW_law_350 : decode b_LAW_law 350 = .ok (.iload_n 3, 1) := by decide +kernel
theorem d_LAW_law_351 : decode b_LAW_law 351 = .ok (.iconst 4, 1) := by decide +kernel
theorem d_LAW_law_352 : decode b_LAW_law 352 = .ok (.iadd, 1) := by decide +kernel
theorem d_LAW_law_353 : decode b_LAW_law 353 = .ok (.iaload, 1) := by decide +kernel
theorem d_LAW_law_354 : decode b_LAW_law 354 = .ok (.invokevirtual 41, 3) := by decide +kernel
theorem d_LAW_law_357 : decode b_LAW_law 357 = .ok (.if_icmp .eq 250, 3) := by decide +kernel
theorem d_LAW_law_360 : decode b_LAW_law 360 = .ok (.iconst 0, 1) := by decide +kernel
theorem d_LAW_law_361 : decode b_LAW_law 361 = .ok (.ireturn, 1) := by decide +kernel
theorem d_LAW_law_362 : decode b_LAW_law 362 = .ok (.aload_n 1, 1) := by decide +kernel
theorem d_LAW_law_363 : decode b_LAW_law 363 = .ok (.aload_n 0, 1) := by decide +kernel
theorem d_LAW_law_364 : decode b_LAW_law 364 = .ok (.iload_n 3, 1) := by decide +kernel
theorem d_LAW_law_365 : decode b_LAW_law 365 = .ok (.iconst 1, 1) := by decide +kernel
theorem d_LAW_law_366 : decode b_LAW_law 366 = .ok (.iadd, 1) := by decide +kernel
theorem d_LAW_law_367 : decode b_LAW_law 367 = .ok (.iaload, 1) := by decide +kernel
theorem d_LAW_law_368 : decode b_LAW_law 368 = .ok (.aload_n 0, 1) := by decide +kernel
theorem d_LAW_law_369 : decode b_LAW_law 369 = .ok (.iload_n 3, 1) := by decide +kernel
theorem d_LAW_law_370 : decode b_LAW_law 370 = .ok (.iconst 2, 1) := by decide +kernel
theorem d_LAW_law_371 : decode b_LAW_law 371 = .ok (.iadd, 1) := by decide +kernel
theorem d_LAW_law_372 : decode b_LAW_law 372 = .ok (.iaload, 1) := by decide +kernel
theorem d_LAW_law_373 : decode b_LAW_law 373 = .ok (.invokevirtual 42, 3) := by decide +kernel
theorem d_LAW_law_376 : decode b_LAW_law 376 = .ok (.aload_n 2, 1) := by decide +kernel
theorem d_LAW_law_377 : decode b_LAW_law 377 = .ok (.aload_n 0, 1) := by decide +kernel
theorem d_LAW_law_378 : decode b_LAW_law 378 = .ok (.iload_n 3, 1) := by decide +kernel
theorem d_LAW_law_379 : decode b_LAW_law 379 = .ok (.iconst 1, 1) := by decide +kernel
theorem d_LAW_law_380 : decode b_LAW_law 380 = .ok (.iadd, 1) := by decide +kernel
theorem d_LAW_law_381 : decode b_LAW_law 381 = .ok (.iaload, 1) := by decide +kernel
theorem d_LAW_law_382 : decode b_LAW_law 382 = .ok (.aload_n 0, 1) := by decide +kernel
theorem d_LAW_law_383 : decode b_LAW_law 383 = .ok (.iload_n 3, 1) := by decide +kernel
theorem d_LAW_law_384 : decode b_LAW_law 384 = .ok (.iconst 2, 1) := by decide +kernel
theorem d_LAW_law_385 : decode b_LAW_law 385 = .ok (.iadd, 1) := by decide +kernel
theorem d_LAW_law_386 : decode b_LAW_law 386 = .ok (.iaload, 1) := by decide +kernel
theorem d_LAW_law_387 : decode b_LAW_law 387 = .ok (.invokevirtual 45, 3) := by decide +kernel
theorem d_LAW_law_390 : decode b_LAW_law 390 = .ok (.lcmp, 1) := by decide +kernel
theorem d_LAW_law_391 : decode b_LAW_law 391 = .ok (.ifCond .eq 216, 3) := by decide +kernel
theorem d_LAW_law_394 : decode b_LAW_law 394 = .ok (.iconst 0, 1) := by decide +kernel
theorem d_LAW_law_395 : decode b_LAW_law 395 = .ok (.ireturn, 1) := by decide +kernel
theorem d_LAW_law_396 : decode b_LAW_law 396 = .ok (.aload_n 1, 1) := by decide +kernel
theorem d_LAW_law_397 : decode b_LAW_law 397 = .ok (.aload_n 0, 1) := by decide +kernel
theorem d_LAW_law_398 : decode b_LAW_law 398 = .ok (.iload_n 3, 1) := by decide +kernel
theorem d_LAW_law_399 : decode b_LAW_law 399 = .ok (.iconst 1, 1) := by decide +kernel
theorem d_LAW_law_400 : decode b_LAW_law 400 = .ok (.iadd, 1) := by decide +kernel
theorem d_LAW_law_401 : decode b_LAW_law 401 = .ok (.iaload, 1) := by decide +kernel
theorem d_LAW_law_402 : decode b_LAW_law 402 = .ok (.aload_n 0, 1) := by decide +kernel
theorem d_LAW_law_403 : decode b_LAW_law 403 = .ok (.iload_n 3, 1) := by decide +kernel
theorem d_LAW_law_404 : decode b_LAW_law 404 = .ok (.iconst 2, 1) := by decide +kernel
theorem d_LAW_law_405 : decode b_LAW_law 405 = .ok (.iadd, 1) := by decide +kernel
theorem d_LAW_law_406 : decode b_LAW_law 406 = .ok (.iaload, 1) := by decide +kernel
theorem d_LAW_law_407 : decode b_LAW_law 407 = .ok (.aload_n 0, 1) := by decide +kernel
theorem d_LAW_law_408 : decode b_LAW_law 408 = .ok (.iload_n 3, 1) := by decide +kernel
theorem d_LAW_law_409 : decode b_LAW_law 409 = .ok (.iconst 3, 1) := by decide +kernel
theorem d_LAW_law_410 : decode b_LAW_law 410 = .ok (.iadd, 1) := by decide +kernel
theorem d_LAW_law_411 : decode b_LAW_law 411 = .ok (.iaload, 1) := by decide +kernel
theorem d_LAW_law_412 : decode b_LAW_law 412 = .ok (.invokevirtual 46, 3) := by decide +kernel
theorem d_LAW_law_415 : decode b_LAW_law 415 = .ok (.aload_n 2, 1) := by decide +kernel
theorem d_LAW_law_416 : decode b_LAW_law 416 = .ok (.aload_n 0, 1) := by decide +kernel
theorem d_LAW_law_417 : decode b_LAW_law 417 = .ok (.iload_n 3, 1) := by decide +kernel
end
section
theorem d_LAW_law_418 : decode b_LAW_law 418 = .ok (.iconst 1, 1) := by decide +kernel
theorem d_LAW_law_419 : decode b_LAW_law 419 = .ok (.iadd, 1) := by decide +kernel
theorem d_LAW_law_420 : decode b_LAW_law 420 = .ok (.iaload, 1) := by decide +kernel
theorem d_LAW_law_421 : decode b_LAW_law 421 = .ok (.aload_n 0, 1) := by decide +kernel
theorem d_LAW_law_422 : decode b_LAW_law 422 = .ok (.iload_n 3, 1) := by decide +kernel
theorem d_LAW_law_423 : decode b_LAW_law 423 = .ok (.iconst 2, 1) := by decide +kernel
theorem d_LAW_law_424 : decode b_LAW_law 424 = .ok (.iadd, 1) := by decide +kernel
theorem d_LAW_law_425 : decode b_LAW_law 425 = .ok (.iaload, 1) := by decide +kernel
theorem d_LAW_law_426 : decode b_LAW_law 426 = .ok (.aload_n 0, 1) := by decide +kernel
theorem d_LAW_law_427 : decode b_LAW_law 427 = .ok (.iload_n 3, 1) := by decide +kernel
theorem d_LAW_law_428 : decode b_LAW_law 428 = .ok (.iconst 3, 1) := by decide +kernel
theorem d_LAW_law_429 : decode b_LAW_law 429 = .ok (.iadd, 1) := by decide +kernel
theorem d_LAW_law_430 : decode b_LAW_law 430 = .ok (.iaload, 1) := by decide +kernel
theorem d_LAW_law_431 : decode b_LAW_law 431 = .ok (.invokevirtual 49, 3) := by decide +kernel
theorem d_LAW_law_434 : decode b_LAW_law 434 = .ok (.if_icmp .eq 173, 3) := by decide +kernel
theorem d_LAW_law_437 : decode b_LAW_law 437 = .ok (.iconst 0, 1) := by decide +kernel
theorem d_LAW_law_438 : decode b_LAW_law 438 = .ok (.ireturn, 1) := by decide +kernel
theorem d_LAW_law_439 : decode b_LAW_law 439 = .ok (.aload_n 1, 1) := by decide +kernel
theorem d_LAW_law_440 : decode b_LAW_law 440 = .ok (.aload_n 0, 1) := by decide +kernel
theorem d_LAW_law_441 : decode b_LAW_law 441 = .ok (.iload_n 3, 1) := by decide +kernel
theorem d_LAW_law_442 : decode b_LAW_law 442 = .ok (.iconst 1, 1) := by decide +kernel
theorem d_LAW_law_443 : decode b_LAW_law 443 = .ok (.iadd, 1) := by decide +kernel
theorem d_LAW_law_444 : decode b_LAW_law 444 = .ok (.iaload, 1) := by decide +kernel
theorem d_LAW_law_445 : decode b_LAW_law 445 = .ok (.invokevirtual 50, 3) := by decide +kernel
theorem d_LAW_law_448 : decode b_LAW_law 448 = .ok (.aload_n 2, 1) := by decide +kernel
theorem d_LAW_law_449 : decode b_LAW_law 449 = .ok (.aload_n 0, 1) := by decide +kernel
theorem d_LAW_law_450 : decode b_LAW_law 450 = .ok (.iload_n 3, 1) := by decide +kernel
theorem d_LAW_law_451 : decode b_LAW_law 451 = .ok (.iconst 1, 1) := by decide +kernel
theorem d_LAW_law_452 : decode b_LAW_law 452 = .ok (.iadd, 1) := by decide +kernel
theorem d_LAW_law_453 : decode b_LAW_law 453 = .ok (.iaload, 1) := by decide +kernel
theorem d_LAW_law_454 : decode b_LAW_law 454 = .ok (.invokevirtual 53, 3) := by decide +kernel
theorem d_LAW_law_457 : decode b_LAW_law 457 = .ok (.lcmp, 1) := by decide +kernel
theorem d_LAW_law_458 : decode b_LAW_law 458 = .ok (.ifCond .eq 149, 3) := by decide +kernel
theorem d_LAW_law_461 : decode b_LAW_law 461 = .ok (.iconst 0, 1) := by decide +kernel
theorem d_LAW_law_462 : decode b_LAW_law 462 = .ok (.ireturn, 1) := by decide +kernel
theorem d_LAW_law_463 : decode b_LAW_law 463 = .ok (.aload_n 1, 1) := by decide +kernel
theorem d_LAW_law_464 : decode b_LAW_law 464 = .ok (.invokevirtual 54, 3) := by decide +kernel
theorem d_LAW_law_467 : decode b_LAW_law 467 = .ok (.aload_n 2, 1) := by decide +kernel
theorem d_LAW_law_468 : decode b_LAW_law 468 = .ok (.invokevirtual 58, 3) := by decide +kernel
theorem d_LAW_law_471 : decode b_LAW_law 471 = .ok (.if_icmp .eq 136, 3) := by decide +kernel
theorem d_LAW_law_474 : decode b_LAW_law 474 = .ok (.iconst 0, 1) := by decide +kernel
theorem d_LAW_law_475 : decode b_LAW_law 475 = .ok (.ireturn, 1) := by decide +kernel
theorem d_LAW_law_476 : decode b_LAW_law 476 = .ok (.aload_n 1, 1) := by decide +kernel
theorem d_LAW_law_477 : decode b_LAW_law 477 = .ok (.invokevirtual 59, 3) := by decide +kernel
theorem d_LAW_law_480 : decode b_LAW_law 480 = .ok (.aload_n 2, 1) := by decide +kernel
theorem d_LAW_law_481 : decode b_LAW_law 481 = .ok (.invokevirtual 62, 3) := by decide +kernel
theorem d_LAW_law_484 : decode b_LAW_law 484 = .ok (.if_icmp .eq 123, 3) := by decide +kernel
theorem d_LAW_law_487 : decode b_LAW_law 487 = .ok (.iconst 0, 1) := by decide +kernel
theorem d_LAW_law_488 : decode b_LAW_law 488 = .ok (.ireturn, 1) := by decide +kernel
theorem d_LAW_law_489 : decode b_LAW_law 489 = .ok (.aload_n 1, 1) := by decide +kernel
theorem d_LAW_law_490 : decode b_LAW_law 490 = .ok (.invokevirtual 63, 3) := by decide +kernel
theorem d_LAW_law_493 : decode b_LAW_law 493 = .ok (.aload_n 2, 1) := by decide +kernel
theorem d_LAW_law_494 : decode b_LAW_law 494 = .ok (.invokevirtual 66, 3) := by decide +kernel
theorem d_LAW_law_497 : decode b_LAW_law 497 = .ok (.if_icmp .eq 110, 3) := by decide +kernel
theorem d_LAW_law_500 : decode b_LAW_law 500 = .ok (.iconst 0, 1) := by decide +kernel
theorem d_LAW_law_501 : decode b_LAW_law 501 = .ok (.ireturn, 1) := by decide +kernel
theorem d_LAW_law_502 : decode b_LAW_law 502 = .ok (.aload_n 1, 1) := by decide +kernel
theorem d_LAW_law_503 : decode b_LAW_law 503 = .ok (.invokevirtual 67, 3) := by decide +kernel
theorem d_LAW_law_506 : decode b_LAW_law 506 = .ok (.aload_n 2, 1) := by decide +kernel
theorem d_LAW_law_507 : decode b_LAW_law 507 = .ok (.invokevirtual 70, 3) := by decide +kernel
theorem d_LAW_law_510 : decode b_LAW_law 510 = .ok (.if_icmp .eq 97, 3) := by decide +kernel
theorem d_LAW_law_513 : decode b_LAW_law 513 = .ok (.iconst 0, 1) := by decide +kernel
theorem d_LAW_law_514 : decode b_LAW_law 514 = .ok (.ireturn, 1) := by decide +kernel
theorem d_LAW_law_515 : decode b_LAW_law 515 = .ok (.aload_n 1, 1) := by decide +kernel
theorem d_LAW_law_516 : decode b_LAW_law 516 = .ok (.aload_n 0, 1) := by decide +kernel
theorem d_LAW_law_517 : decode b_LAW_law 517 = .ok (.iload_n 3, 1) := by decide +kernel
theorem d_LAW_law_518 : decode b_LAW_law 518 = .ok (.iconst 1, 1) := by decide +kernel
theorem d_LAW_law_519 : decode b_LAW_law 519 = .ok (.iadd, 1) := by decide +kernel
theorem d_LAW_law_520 : decode b_LAW_law 520 = .ok (.iaload, 1) := by decide +kernel
theorem d_LAW_law_521 : decode b_LAW_law 521 = .ok (.invokevirtual 71, 3) := by decide +kernel
theorem d_LAW_law_524 : decode b_LAW_law 524 = .ok (.aload_n 2, 1) := by decide +kernel
theorem d_LAW_law_525 : decode b_LAW_law 525 = .ok (.aload_n 0, 1) := by decide +kernel
theorem d_LAW_law_526 : decode b_LAW_law 526 = .ok (.iload_n 3, 1) := by decide +kernel
theorem d_LAW_law_527 : decode b_LAW_law 527 = .ok (.iconst 1, 1) := by decide +kernel
theorem d_LAW_law_528 : decode b_LAW_law 528 = .ok (.iadd, 1) := by decide +kernel
theorem d_LAW_law_529 : decode b_LAW_law 529 = .ok (.iaload, 1) := by decide +kernel
theorem d_LAW_law_530 : decode b_LAW_law 530 = .ok (.invokevirtual 75, 3) := by decide +kernel
theorem d_LAW_law_533 : decode b_LAW_law 533 = .ok (.if_icmp .eq 74, 3) := by decide +kernel
theorem d_LAW_law_536 : decode b_LAW_law 536 = .ok (.iconst 0, 1) := by decide +kernel
theorem d_LAW_law_537 : decode b_LAW_law 537 = .ok (.ireturn, 1) := by decide +kernel
theorem d_LAW_law_538 : decode b_LAW_law 538 = .ok (.aload_n 1, 1) := by decide +kernel
theorem d_LAW_law_539 : decode b_LAW_law 539 = .ok (.aload_n 0, 1) := by decide +kernel
theorem d_LAW_law_540 : decode b_LAW_law 540 = .ok (.iload_n 3, 1) := by decide +kernel
theorem d_LAW_law_541 : decode b_LAW_law 541 = .ok (.iconst 1, 1) := by decide +kernel
theorem d_LAW_law_542 : decode b_LAW_law 542 = .ok (.iadd, 1) := by decide +kernel
theorem d_LAW_law_543 : decode b_LAW_law 543 = .ok (.iaload, 1) := by decide +kernel
theorem d_LAW_law_544 : decode b_LAW_law 544 = .ok (.invokevirtual 76, 3) := by decide +kernel
theorem d_LAW_law_547 : decode b_LAW_law 547 = .ok (.aload_n 2, 1) := by decide +kernel
theorem d_LAW_law_548 : decode b_LAW_law 548 = .ok (.aload_n 0, 1) := by decide +kernel
theorem d_LAW_law_549 : decode b_LAW_law 549 = .ok (.iload_n 3, 1) := by decide +kernel
theorem d_LAW_law_550 : decode b_LAW_law 550 = .ok (.iconst 1, 1) := by decide +kernel
theorem d_LAW_law_551 : decode b_LAW_law 551 = .ok (.iadd, 1) := by decide +kernel
theorem d_LAW_law_552 : decode b_LAW_law 552 = .ok (.iaload, 1) := by decide +kernel
theorem d_LAW_law_553 : decode b_LAW_law 553 = .ok (.invokevirtual 79, 3) := by decide +kernel
theorem d_LAW_law_556 : decode b_LAW_law 556 = .ok (.if_icmp .eq 51, 3) := by decide +kernel
theorem d_LAW_law_559 : decode b_LAW_law 559 = .ok (.iconst 0, 1) := by decide +kernel
theorem d_LAW_law_560 : decode b_LAW_law 560 = .ok (.ireturn, 1) := by decide +kernel
theorem d_LAW_law_561 : decode b_LAW_law 561 = .ok (.aload_n 1, 1) := by decide +kernel
theorem d_LAW_law_562 : decode b_LAW_law 562 = .ok (.aload_n 0, 1) := by decide +kernel
theorem d_LAW_law_563 : decode b_LAW_law 563 = .ok (.iload_n 3, 1) := by decide +kernel
theorem d_LAW_law_564 : decode b_LAW_law 564 = .ok (.iconst 1, 1) := by decide +kernel
theorem d_LAW_law_565 : decode b_LAW_law 565 = .ok (.iadd, 1) := by decide +kernel
theorem d_LAW_law_566 : decode b_LAW_law 566 = .ok (.iaload, 1) := by decide +kernel
theorem d_LAW_law_567 : decode b_LAW_law 567 = .ok (.invokevirtual 80, 3) := by decide +kernel
theorem d_LAW_law_570 : decode b_LAW_law 570 = .ok (.aload_n 2, 1) := by decide +kernel
theorem d_LAW_law_571 : decode b_LAW_law 571 = .ok (.aload_n 0, 1) := by decide +kernel
theorem d_LAW_law_572 : decode b_LAW_law 572 = .ok (.iload_n 3, 1) := by decide +kernel
theorem d_LAW_law_573 : decode b_LAW_law 573 = .ok (.iconst 1, 1) := by decide +kernel
theorem d_LAW_law_574 : decode b_LAW_law 574 = .ok (.iadd, 1) := by decide +kernel
theorem d_LAW_law_575 : decode b_LAW_law 575 = .ok (.iaload, 1) := by decide +kernel
theorem d_LAW_law_576 : decode b_LAW_law 576 = .ok (.invokevirtual 83, 3) := by decide +kernel
theorem d_LAW_law_579 : decode b_LAW_law 579 = .ok (.if_icmp .eq 28, 3) := by decide +kernel
theorem d_LAW_law_582 : decode b_LAW_law 582 = .ok (.iconst 0, 1) := by decide +kernel
theorem d_LAW_law_583 : decode b_LAW_law 583 = .ok (.ireturn, 1) := by decide +kernel
theorem d_LAW_law_584 : decode b_LAW_law 584 = .ok (.aload_n 1, 1) := by decide +kernel
theorem d_LAW_law_585 : decode b_LAW_law 585 = .ok (.aload_n 0, 1) := by decide +kernel
theorem d_LAW_law_586 : decode b_LAW_law 586 = .ok (.iload_n 3, 1) := by decide +kernel
theorem d_LAW_law_587 : decode b_LAW_law 587 = .ok (.iconst 1, 1) := by decide +kernel
theorem d_LAW_law_588 : decode b_LAW_law 588 = .ok (.iadd, 1) := by decide +kernel
theorem d_LAW_law_589 : decode b_LAW_law 589 = .ok (.iaload, 1) := by decide +kernel
theorem d_LAW_law_590 : decode b_LAW_law 590 = .ok (.invokevirtual 84, 3) := by decide +kernel
theorem d_LAW_law_593 : decode b_LAW_law 593 = .ok (.aload_n 2, 1) := by decide +kernel
theorem d_LAW_law_594 : decode b_LAW_law 594 = .ok (.aload_n 0, 1) := by decide +kernel
theorem d_LAW_law_595 : decode b_LAW_law 595 = .ok (.iload_n 3, 1) := by decide +kernel
theorem d_LAW_law_596 : decode b_LAW_law 596 = .ok (.iconst 1, 1) := by decide +kernel
theorem d_LAW_law_597 : decode b_LAW_law 597 = .ok (.iadd, 1) := by decide +kernel
theorem d_LAW_law_598 : decode b_LAW_law 598 = .ok (.iaload, 1) := by decide +kernel
theorem d_LAW_law_599 : decode b_LAW_law 599 = .ok (.invokevirtual 87, 3) := by decide +kernel
theorem d_LAW_law_602 : decode b_LAW_law 602 = .ok (.if_icmp .eq 5, 3) := by decide +kernel
theorem d_LAW_law_605 : decode b_LAW_law 605 = .ok (.iconst 0, 1) := by decide +kernel
theorem d_LAW_law_606 : decode b_LAW_law 606 = .ok (.ireturn, 1) := by decide +kernel
theorem d_LAW_law_607 : decode b_LAW_law 607 = .ok (.iinc 3 5, 3) := by decide +kernel
theorem d_LAW_law_610 : decode b_LAW_law 610 = .ok (.goto (-592), 3) := by decide +kernel
theorem d_LAW_law_613 : decode b_LAW_law 613 = .ok (.iconst 1, 1) := by decide +kernel
theorem d_LAW_law_614 : decode b_LAW_law 614 = .ok (.ireturn, 1) := by decide +kernel
end
section
-- ONE MEMORY: shapes by address, contents as functions
abbrev zMem : Type := (Nat → Nat → Int32) × (Nat → Nat → Int64) × (Nat → Nat → Option Nat)
abbrev zSh : Type := Nat → Nat × Nat
abbrev zCs : Type := ClassId × ClassId × ClassId × ClassId × ClassId
def zTys (c : zCs) : List (ClassId × FieldType) := [(c.1, .int), (c.2.1, .boolean), (c.2.2.1, .long), (c.2.2.2.1, .object "KeepHeap$State"), (c.2.2.2.2, .object "KeepHeapModel$State")]
def zKS (μ : zMem) (a : Nat) : List Value := [.ref (a + 1), .ref (a + 2), .ref (a + 3), .ref (a + 4), .ref (a + 5), .ref (a + 6), .ref (a + 7), .ref (a + 8), .int (μ.1 a 0), .ref (a + 9), .ref (a + 10), .int (μ.1 a 1)]
def zMS (μ : zMem) (a : Nat) : List Value := [.ref (a + 1), .ref (a + 2), .ref (a + 3), .ref (a + 4), .ref (a + 5), .ref (a + 6), .int (μ.1 a 0), .int (μ.1 a 1)]
def zKO (μ : zMem) (a : Nat) : List Value := [.ref (a + 1), .ref (a + 12), .ref (a + 23), .ref (a + 34), .ref (a + 35), .int (μ.1 a 0), .long (μ.2.1 a 0)]
def zMO (μ : zMem) (a : Nat) : List Value := [.ref (a + 1), .ref (a + 8), .ref (a + 15), .ref (a + 22), .int (μ.1 a 0), .int (μ.1 a 1), .ref (a + 23), .ref (a + 24)]
/-- the cell at an address of a shape: 1 int[], 2 boolean[], 3 long[], 4 KeepHeap$State[], 5 KeepHeapModel$State[], 6..9 objects -/
def zEn (c : zCs) (μ : zMem) (a : Nat) (t : Nat × Nat) : Option va_E := match t with
  | (1, n) => some (.inl (c.1, n, .inl (μ.1 a)))
  | (2, n) => some (.inl (c.2.1, n, .inl (μ.1 a)))
  | (3, n) => some (.inl (c.2.2.1, n, .inr (.inl (μ.2.1 a))))
  | (4, n) => some (.inl (c.2.2.2.1, n, .inr (.inr (.inr (.inr (μ.2.2 a))))))
  | (5, n) => some (.inl (c.2.2.2.2, n, .inr (.inr (.inr (.inr (μ.2.2 a))))))
  | (6, _) => some (.inr (0, zKS μ a))
  | (7, _) => some (.inr (1, zMS μ a))
  | (8, _) => some (.inr (2, zKO μ a))
  | (9, _) => some (.inr (3, zMO μ a))
  | _ => none
def zP (D : va_G) (c : zCs) (sh : zSh) (μ : zMem) (H : Heap) : Prop := ∀ (a : Nat) (en : va_E), zEn c μ a (sh a) = some en → va_at D classes (a, en) H
theorem zEn_congr {c : zCs} {μ μ' : zMem} {a : Nat} (t : Nat × Nat) (h1 : μ'.1 a = μ.1 a) (h2 : μ'.2.1 a = μ.2.1 a) (h3 : μ'.2.2 a = μ.2.2 a) : zEn c μ' a t = zEn c μ a t := by
  unfold zEn zKS zMS zKO zMO
  rw [h1, h2, h3]
theorem zEn_none {c : zCs} {μ : zMem} {a : Nat} : zEn c μ a (0, 0) = none := rfl
theorem zP.cell {D : va_G} {c : zCs} {sh : zSh} {μ : zMem} {H : Heap} (h : zP D c sh μ H) {a : Nat} {t : Nat × Nat} (hs : sh a = t) {en : va_E} (he : zEn c μ a t = some en) : va_at D classes (a, en) H := h a en (by rw [hs]; exact he)
theorem zP1 {D : va_G} {cl : List vw_C} {q : Nat × va_E} {H : Heap} (h : va_at D cl q H) : va_P D cl [q] H := by
  intro k r hk
  cases k with
  | zero => cases hk; exact h
  | succ k => simp at hk
/-- a memory that differs at one address -/
theorem zP.upd {D : va_G} {c : zCs} {sh : zSh} {μ μ' : zMem} {H H1 : Heap} (h : zP D c sh μ H) {a : Nat} (o1 : ∀ b, b ≠ a → μ'.1 b = μ.1 b) (o2 : ∀ b, b ≠ a → μ'.2.1 b = μ.2.1 b) (o3 : ∀ b, b ≠ a → μ'.2.2 b = μ.2.2 b)
    {t : Nat × Nat} (hs : sh a = t) {en : va_E} (he : zEn c μ' a t = some en) (hn : va_at D classes (a, en) H1) (oq : ∀ q : Nat, q ≠ a → H1[q]? = H[q]?) : zP D c sh μ' H1 := by
  intro b e hb
  by_cases hba : b = a
  · subst hba
    rw [hs, he] at hb
    cases hb
    exact hn
  · rw [zEn_congr (sh b) (o1 b hba) (o2 b hba) (o3 b hba)] at hb
    exact (h b e hb).kept (oq b hba)
def mI (μ : zMem) (a i : Nat) (v : Int32) : zMem := (va_up μ.1 a (upd (μ.1 a) i v), μ.2)
def mL (μ : zMem) (a i : Nat) (v : Int64) : zMem := (μ.1, va_up μ.2.1 a (vp_updL (μ.2.1 a) i v), μ.2.2)
def mR (μ : zMem) (a i : Nat) (v : Option Nat) : zMem := (μ.1, μ.2.1, va_up μ.2.2 a (va_up (μ.2.2 a) i v))
theorem mI_1 (μ : zMem) (a i : Nat) (v : Int32) (b j : Nat) : (mI μ a i v).1 b j = if b = a ∧ j = i then v else μ.1 b j := by
  unfold mI va_up upd
  by_cases h : b = a
  · subst h; by_cases h2 : j = i <;> simp [h2]
  · simp [h]
theorem mL_1 (μ : zMem) (a i : Nat) (v : Int64) (b j : Nat) : (mL μ a i v).2.1 b j = if b = a ∧ j = i then v else μ.2.1 b j := by
  unfold mL va_up vp_updL
  by_cases h : b = a
  · subst h; by_cases h2 : j = i <;> simp [h2]
  · simp [h]
theorem mR_1 (μ : zMem) (a i : Nat) (v : Option Nat) (b j : Nat) : (mR μ a i v).2.2 b j = if b = a ∧ j = i then v else μ.2.2 b j := by
  unfold mR va_up
  by_cases h : b = a
  · subst h; by_cases h2 : j = i <;> simp [h2]
  · simp [h]
theorem mI_2 (μ : zMem) (a i : Nat) (v : Int32) : (mI μ a i v).2 = μ.2 := rfl
theorem mL_i (μ : zMem) (a i : Nat) (v : Int64) : (mL μ a i v).1 = μ.1 := rfl
theorem mL_r (μ : zMem) (a i : Nat) (v : Int64) : (mL μ a i v).2.2 = μ.2.2 := rfl
theorem mR_i (μ : zMem) (a i : Nat) (v : Option Nat) : (mR μ a i v).1 = μ.1 := rfl
theorem mR_l (μ : zMem) (a i : Nat) (v : Option Nat) : (mR μ a i v).2.1 = μ.2.1 := rfl
theorem mI_eq (μ : zMem) (a i : Nat) (v : Int32) : (mI μ a i v).1 a i = v := by rw [mI_1]; simp
theorem mI_ne (μ : zMem) {a i : Nat} (v : Int32) {b j : Nat} (h : b ≠ a ∨ j ≠ i) : (mI μ a i v).1 b j = μ.1 b j := by
  rw [mI_1, if_neg]; intro q; rcases h with h | h
  · exact h q.1
  · exact h q.2
theorem mL_eq (μ : zMem) (a i : Nat) (v : Int64) : (mL μ a i v).2.1 a i = v := by rw [mL_1]; simp
theorem mL_ne (μ : zMem) {a i : Nat} (v : Int64) {b j : Nat} (h : b ≠ a ∨ j ≠ i) : (mL μ a i v).2.1 b j = μ.2.1 b j := by
  rw [mL_1, if_neg]; intro q; rcases h with h | h
  · exact h q.1
  · exact h q.2
theorem mR_eq (μ : zMem) (a i : Nat) (v : Option Nat) : (mR μ a i v).2.2 a i = v := by rw [mR_1]; simp
theorem mR_ne (μ : zMem) {a i : Nat} (v : Option Nat) {b j : Nat} (h : b ≠ a ∨ j ≠ i) : (mR μ a i v).2.2 b j = μ.2.2 b j := by
  rw [mR_1, if_neg]; intro q; rcases h with h | h
  · exact h q.1
  · exact h q.2
theorem mI_o (μ : zMem) {a : Nat} (i : Nat) (v : Int32) {b : Nat} (h : b ≠ a) : (mI μ a i v).1 b = μ.1 b := va_up_ne _ _ h
theorem mL_o (μ : zMem) {a : Nat} (i : Nat) (v : Int64) {b : Nat} (h : b ≠ a) : (mL μ a i v).2.1 b = μ.2.1 b := va_up_ne _ _ h
theorem mR_o (μ : zMem) {a : Nat} (i : Nat) (v : Option Nat) {b : Nat} (h : b ≠ a) : (mR μ a i v).2.2 b = μ.2.2 b := va_up_ne _ _ h
-- locals by position
def zpos : Nat → List (Option Value) → List (Nat × Value)
  | _, [] => []
  | i, none :: r => zpos (i + 1) r
  | i, some v :: r => (i, v) :: zpos (i + 1) r
theorem zpos_mem : ∀ (L : List (Option Value)) (i : Nat) (q : Nat × Value), q ∈ zpos i L ↔ i ≤ q.1 ∧ L[q.1 - i]? = some (some q.2)
  | [], i, q => by simp [zpos]
  | none :: r, i, q => by
    rw [zpos, zpos_mem r (i + 1) q]
    constructor
    · rintro ⟨h1, h2⟩
      refine ⟨by omega, ?_⟩
      rw [show q.1 - i = (q.1 - (i + 1)) + 1 by omega, List.getElem?_cons_succ]
      exact h2
    · rintro ⟨h1, h2⟩
      by_cases h : q.1 = i
      · rw [h, Nat.sub_self, List.getElem?_cons_zero] at h2
        cases h2
      · refine ⟨by omega, ?_⟩
        rw [show q.1 - i = (q.1 - (i + 1)) + 1 by omega, List.getElem?_cons_succ] at h2
        exact h2
  | some v :: r, i, q => by
    rw [zpos, List.mem_cons, zpos_mem r (i + 1) q]
    constructor
    · rintro (h | ⟨h1, h2⟩)
      · subst h
        refine ⟨Nat.le_refl _, ?_⟩
        simp
      · refine ⟨by omega, ?_⟩
        rw [show q.1 - i = (q.1 - (i + 1)) + 1 by omega, List.getElem?_cons_succ]
        exact h2
    · rintro ⟨h1, h2⟩
      by_cases h : q.1 = i
      · rw [h, Nat.sub_self, List.getElem?_cons_zero] at h2
        left
        obtain ⟨a, b⟩ := q
        simp at h h2
        rw [h, h2]
      · right
        refine ⟨by omega, ?_⟩
        rw [show q.1 - i = (q.1 - (i + 1)) + 1 by omega, List.getElem?_cons_succ] at h2
        exact h2
def zL (ls : Array Slot) (L : List (Option Value)) : Prop := lv_has ls L.length (zpos 0 L)
theorem zL.get {ls : Array Slot} {L : List (Option Value)} (h : zL ls L) {i : Nat} {v : Value} (hi : L[i]? = some (some v)) : ls[i]? = some (.val v) := h.2.2 (i, v) ((zpos_mem L 0 (i, v)).mpr ⟨Nat.zero_le _, hi⟩)
/-- position i - 1 holds no long -/
def zN2 (L : List (Option Value)) (i : Nat) : Bool := match i with
  | 0 => true
  | j + 1 => match L[j]? with
    | some (some v) => v.category == 1
    | _ => true
theorem zL.of1 {ls : Array Slot} {L : List (Option Value)} {i : Nat} {v : Value} (hn : zN2 L i = true) (hi : i < L.length) (h : lv_has ls L.length ((i, v) :: (zpos 0 L).filter (fun q => !(q.1 == i) && !(q.1 + 1 == i && q.2.category == 2)))) : zL ls (L.set i (some v)) := by
  refine ⟨by rw [List.length_set]; exact h.1, h.2.1, fun q hq => h.2.2 q ?_⟩
  obtain ⟨-, h2⟩ := (zpos_mem _ 0 q).mp hq
  rw [Nat.sub_zero] at h2
  obtain ⟨a, b⟩ := q
  by_cases ha : a = i
  · subst ha
    rw [List.getElem?_set_self hi] at h2
    cases h2
    exact List.mem_cons_self
  · rw [List.getElem?_set_ne (Ne.symm ha)] at h2
    refine List.mem_cons_of_mem _ (List.mem_filter.mpr ⟨(zpos_mem L 0 (a, b)).mpr ⟨Nat.zero_le _, h2⟩, ?_⟩)
    have h3 : (a == i) = false := by simpa using ha
    by_cases h4 : a + 1 = i
    · subst h4
      have h5 : b.category = 1 := by
        simp only [zN2] at hn
        rw [h2] at hn
        simpa using hn
      simp [h3, h5]
    · have h6 : (a + 1 == i) = false := by simpa using h4
      simp [h3, h6]
theorem zL.of2 {ls : Array Slot} {L : List (Option Value)} {i : Nat} {v : Value} (hn : zN2 L i = true) (hi : i + 1 < L.length) (h : lv_has ls L.length ((i, v) :: (zpos 0 L).filter (fun q => !(q.1 == i) && (!(q.1 == i + 1) && !(q.1 + 1 == i && q.2.category == 2))))) : zL ls ((L.set i (some v)).set (i + 1) none) := by
  refine ⟨by rw [List.length_set, List.length_set]; exact h.1, h.2.1, fun q hq => h.2.2 q ?_⟩
  obtain ⟨-, h2⟩ := (zpos_mem _ 0 q).mp hq
  rw [Nat.sub_zero] at h2
  obtain ⟨a, b⟩ := q
  by_cases ha1 : a = i + 1
  · subst ha1
    rw [List.getElem?_set_self (by rw [List.length_set]; exact hi)] at h2
    cases h2
  rw [List.getElem?_set_ne (Ne.symm ha1)] at h2
  by_cases ha : a = i
  · subst ha
    rw [List.getElem?_set_self (by omega)] at h2
    cases h2
    exact List.mem_cons_self
  · rw [List.getElem?_set_ne (Ne.symm ha)] at h2
    refine List.mem_cons_of_mem _ (List.mem_filter.mpr ⟨(zpos_mem L 0 (a, b)).mpr ⟨Nat.zero_le _, h2⟩, ?_⟩)
    have h3 : (a == i) = false := by simpa using ha
    have h3' : (a == i + 1) = false := by simpa using ha1
    by_cases h4 : a + 1 = i
    · subst h4
      have h5 : b.category = 1 := by
        simp only [zN2] at hn
        rw [h2] at hn
        simpa using hn
      simp [h3, h3', h5]
    · have h6 : (a + 1 == i) = false := by simpa using h4
      simp [h3, h3', h6]
-- nest links and array classes of references: facts of the tables beside tW
def zNest : List Cond := [.fieldLinkNest "KeepHeap" 30 "KeepHeap$State" "kind" "[I" "KeepHeap", .fieldLinkNest "KeepHeap" 56 "KeepHeap$State" "size" "[I" "KeepHeap", .fieldLinkNest "KeepHeap" 64 "KeepHeap$State" "sort" "[I" "KeepHeap", .fieldLinkNest "KeepHeap" 67 "KeepHeap$State" "value" "[I" "KeepHeap", .fieldLinkNest "KeepHeap" 92 "KeepHeap$State" "rootSort" "[I" "KeepHeap", .fieldLinkNest "KeepHeap" 95 "KeepHeap$State" "root" "[I" "KeepHeap", .fieldLinkNest "KeepHeap" 85 "KeepHeap$State" "roots" "I" "KeepHeap", .methodLinkNest "KeepHeap" 9 ⟨"KeepHeap$State", "<init>", "()V"⟩ "KeepHeap", .methodLinkNest "KeepHeapModel" 9 ⟨"KeepHeapModel$State", "<init>", "()V"⟩ "KeepHeapModel"]
def zNW (U : State) : Prop := (∀ w ∈ zNest, va_Nw w U) ∧ va_AO "KeepHeap$State" U ∧ va_AO "KeepHeapModel$State" U
theorem zNest_tab : ∀ w ∈ zNest, w.onTables = true := by
  intro w hw
  simp only [zNest, List.mem_cons, List.not_mem_nil, or_false] at hw
  rcases hw with rfl | rfl | rfl | rfl | rfl | rfl | rfl | rfl | rfl <;> rfl
theorem zNW.calling {U : State} (h : zNW U) (g : JFrame) (mk : MethodId) (a : Array Value) : zNW (U.calling g mk a) :=
  ⟨fun w hw => va_Nw.same (u := U) (U := U.calling g mk a) (zNest_tab w hw) rfl (h.1 w hw), h.2.1.moved (Vm.Alike.refl U.vm), h.2.2.moved (Vm.Alike.refl U.vm)⟩
theorem zNW.warm {s U : State} (hW : s.WarmedH U.vm) (h : zNW s) : zNW U := by
  refine ⟨fun w hw => ?_, h.2.1.moved hW.alike, h.2.2.moved hW.alike⟩
  have h1 := h.1 w hw
  simp only [zNest, List.mem_cons, List.not_mem_nil, or_false] at hw
  rcases hw with rfl | rfl | rfl | rfl | rfl | rfl | rfl | rfl | rfl
  · exact h1.warmF hW
  · exact h1.warmF hW
  · exact h1.warmF hW
  · exact h1.warmF hW
  · exact h1.warmF hW
  · exact h1.warmF hW
  · exact h1.warmF hW
  · exact h1.warmM hW
  · exact h1.warmM hW
end
section
-- the walk's judgement over the one memory
abbrev zG : Type := Launch × va_G × zCs × zSh
abbrev zX : Type := Program × Env × Room × State × MethodId × Array Value × List Frame × Method × Code × Nat × Nat × (State → Prop) × (Nat → Prop)
abbrev gs (g : zG) : zSh := g.2.2.2
abbrev gc (g : zG) : zCs := g.2.2.1
def zA (sh : zSh) : Nat → Prop := fun q => sh q ≠ (0, 0)
def PW (g : zG) (x : zX) (μ : zMem) (pc : Nat) (L : List (Option Value)) (st : List Value) : Prop := match g, x with
  | (l, D, cs, sh), (p, e, R, s, m, args, below, meth, c, cells, slots, Q, A) => ∀ (H : Heap) (locs : List Loc) (ls : Array Slot), zP D cs sh μ H → va_S A s.heap H locs → zL ls L → W p l e R s m args below meth c H locs cells slots Q (F0 m pc ls st)
def zF (g : zG) (x : zX) (cc : ByteArray) (own : String) (nL fr lo : Nat) : Prop := match g, x with
  | (_, D, cs, sh), (p, _, R, s, m, args, _, meth, c, cells, slots, _, A) => p.tables.exec = Jvm.exec ∧ c.code = cc ∧ c.maxLocals = nL ∧ s.vm.findClass own = some m.cls ∧ (∀ w ∈ tW, w.before args s = true) ∧ va_K D classes (zTys cs) s ∧ zNW s ∧ (∀ q, sh q ≠ (0, 0) → A q) ∧ meth.locks = false ∧ R.frames = fr ∧ R.locals = lo ∧ cells ≤ R.cells ∧ slots ≤ R.slots
def zQ (D : va_G) (cs : zCs) (sh : zSh) (A : Nat → Prop) (QQ : Option Value → zMem → Prop) : Array Value → State → Outcome → State → Prop := fun _ st oc t => (∃ (v : Option Value) (μ : zMem), oc = .returned v ∧ QQ v μ ∧ zP D cs sh μ t.heap) ∧ va_F A st t
def zR (g : zG) (x : zX) (ret : Option FieldType) (QQ : Option Value → zMem → Prop) : Prop := match g, x with
  | (_, D, cs, sh), (_, _, _, s, _, args, below, meth, _, cells, slots, Q, A) => meth.sig.returnType = ret ∧ Q = MQ below (zQ D cs sh A QQ) args s cells slots A
/-- a method's contract: from the memory μ it returns v, the memory then μ', with QQ v μ' -/
def zC (g : zG) (y : MethodName) (b : ByteArray) (ml : Nat) (ret : Option FieldType) (fr lo : Nat) (av : List Value) (μ : zMem) (QQ : Option Value → zMem → Prop) : Prop := match g with
  | (l, D, cs, sh) => Met l y (Cond.code y b ml ret :: tW) ({ frames := fr, cells := 0, slots := 0, locals := lo }) (va_Pc av (fun U => zP D cs sh μ U.heap ∧ va_K D classes (zTys cs) U ∧ zNW U)) (zQ D cs sh (zA sh) QQ) 0 0 (zA sh)
theorem zC.of {g : zG} {y : MethodName} {b : ByteArray} {ml : Nat} {ret : Option FieldType} {fr lo : Nat} {av : List Value} {μ : zMem} {QQ : Option Value → zMem → Prop} (hy : plainName y.cls = true) (hav : (lg_sl av).length ≤ ml) (L : List (Option Value)) (hL : L.length = ml) (hp : zpos 0 L = lv_args 0 av)
    (body : ∀ x : zX, zF g x b y.cls ml fr lo → zR g x ret QQ → PW g x μ 0 L []) : zC g y b ml ret fr lo av μ QQ := by
  obtain ⟨l, D, cs, sh⟩ := g
  refine Met.ofW (cc := b) (maxL := ml) (ret := ret) hy rfl ?_
  intro p e s m args below meth c s₁ B hml hv
  obtain ⟨rfl, hP, hK, hN⟩ := hv
  have hts := atoms_spec (ws := Cond.code y b ml ret :: tW) B.pre
  have hl := lv_entry av (n := ml) hav
  rw [lg_entry_eq]
  generalize (lg_sl av ++ List.replicate (ml - (lg_sl av).length) Slot.unset).toArray = ls at hl ⊢
  have hzl : zL ls L := by
    unfold zL
    rw [hL, hp]
    exact hl
  exact body (p, e, (headSpec (Cond.code y b ml ret :: tW) ({ frames := fr, cells := 0, slots := 0, locals := lo })).room, s, m, av.toArray, below, meth, c, 0, 0, _, zA sh) ⟨B.exec, B.bytes, hml, findClass_of_methodNamed B.named, fun w hw => hts w (List.mem_cons_of_mem _ hw), hK, hN, fun q h => h, B.notSynchronized, rfl, rfl, Nat.le_refl _, Nat.le_refl _⟩ ⟨B.returns, rfl⟩ s.heap [] ls hP va_S.rf hzl
section ZR
variable {g : zG} {x : zX} {cc : ByteArray} {own : String} {nL fr lo : Nat} {μ : zMem} {pc : Nat} {L : List (Option Value)} {st : List Value}
theorem PW.eq {pc' : Nat} {L' : List (Option Value)} {st' : List Value} {μ' : zMem} (h : PW g x μ' pc' L' st') (hm : μ = μ') (h1 : pc = pc') (h2 : L = L') (h3 : st = st') : PW g x μ pc L st := by
  subst hm; subst h1; subst h2; subst h3; exact h
theorem s_iconst (F : zF g x cc own nL fr lo) {n : Int} {v : Int32} (hd : decode cc pc = .ok (.iconst n, 1)) (hv : Int32.ofInt n = v)
    (k : PW g x μ (pc + 1) L (.int v :: st)) : PW g x μ pc L st := by
  obtain ⟨l, D, cs, sh⟩ := g
  obtain ⟨p, e, R, s, m, args, below, meth, c, cells, slots, Q, A⟩ := x
  intro H locs ls hP hS hl
  exact lv_iconst F.1 F.2.1 hd hv (k H locs ls hP hS hl)
theorem s_bipush (F : zF g x cc own nL fr lo) {n : Int} {v : Int32} (hd : decode cc pc = .ok (.bipush n, 2)) (hv : (Int8.ofInt n).toInt32 = v)
    (k : PW g x μ (pc + 2) L (.int v :: st)) : PW g x μ pc L st := by
  obtain ⟨l, D, cs, sh⟩ := g
  obtain ⟨p, e, R, s, m, args, below, meth, c, cells, slots, Q, A⟩ := x
  intro H locs ls hP hS hl
  exact lv_bipush F.1 F.2.1 hd hv (k H locs ls hP hS hl)
theorem s_sipush (F : zF g x cc own nL fr lo) {n : Int} {v : Int32} (hd : decode cc pc = .ok (.sipush n, 3)) (hv : (Int16.ofInt n).toInt32 = v)
    (k : PW g x μ (pc + 3) L (.int v :: st)) : PW g x μ pc L st := by
  obtain ⟨l, D, cs, sh⟩ := g
  obtain ⟨p, e, R, s, m, args, below, meth, c, cells, slots, Q, A⟩ := x
  intro H locs ls hP hS hl
  exact lv_sipush F.1 F.2.1 hd hv (k H locs ls hP hS hl)
theorem s_lconst (F : zF g x cc own nL fr lo) {n : Fin 2} {v : Int64} (hd : decode cc pc = .ok (.lconst n, 1)) (hv : Int64.ofNat (n : Nat) = v)
    (k : PW g x μ (pc + 1) L (.long v :: st)) : PW g x μ pc L st := by
  obtain ⟨l, D, cs, sh⟩ := g
  obtain ⟨p, e, R, s, m, args, below, meth, c, cells, slots, Q, A⟩ := x
  intro H locs ls hP hS hl
  exact lv_lconst F.1 F.2.1 hd hv (k H locs ls hP hS hl)
theorem s_ldc2 (F : zF g x cc own nL fr lo) {i : Nat} {v : Int64} (hw : Cond.constantLong own i v ∈ tW) (hd : decode cc pc = .ok (.ldc2_w i, 3))
    (k : PW g x μ (pc + 3) L (.long v :: st)) : PW g x μ pc L st := by
  obtain ⟨l, D, cs, sh⟩ := g
  obtain ⟨p, e, R, s, m, args, below, meth, c, cells, slots, Q, A⟩ := x
  intro H locs ls hP hS hl
  exact lv_ldc2 F.1 F.2.1 F.2.2.2.1 (F.2.2.2.2.1 _ hw) hd (k H locs ls hP hS hl)
theorem s_iload_n (F : zF g x cc own nL fr lo) {j : Fin 4} {v : Int32} (hd : decode cc pc = .ok (.iload_n j, 1)) (hi : L[(j : Nat)]? = some (some (.int v)))
    (k : PW g x μ (pc + 1) L (.int v :: st)) : PW g x μ pc L st := by
  obtain ⟨l, D, cs, sh⟩ := g
  obtain ⟨p, e, R, s, m, args, below, meth, c, cells, slots, Q, A⟩ := x
  intro H locs ls hP hS hl
  exact lv_iload_n F.1 F.2.1 hd rfl (hl.get hi) (k H locs ls hP hS hl)
theorem s_iload (F : zF g x cc own nL fr lo) {i : Nat} {v : Int32} (hd : decode cc pc = .ok (.iload i, 2)) (hi : L[i]? = some (some (.int v)))
    (k : PW g x μ (pc + 2) L (.int v :: st)) : PW g x μ pc L st := by
  obtain ⟨l, D, cs, sh⟩ := g
  obtain ⟨p, e, R, s, m, args, below, meth, c, cells, slots, Q, A⟩ := x
  intro H locs ls hP hS hl
  exact lv_iload F.1 F.2.1 hd (hl.get hi) (k H locs ls hP hS hl)
theorem s_lload_n (F : zF g x cc own nL fr lo) {j : Fin 4} {v : Int64} (hd : decode cc pc = .ok (.lload_n j, 1)) (hi : L[(j : Nat)]? = some (some (.long v)))
    (k : PW g x μ (pc + 1) L (.long v :: st)) : PW g x μ pc L st := by
  obtain ⟨l, D, cs, sh⟩ := g
  obtain ⟨p, e, R, s, m, args, below, meth, c, cells, slots, Q, A⟩ := x
  intro H locs ls hP hS hl
  exact lv_lload_n F.1 F.2.1 hd rfl (hl.get hi) (k H locs ls hP hS hl)
theorem s_lload (F : zF g x cc own nL fr lo) {i : Nat} {v : Int64} (hd : decode cc pc = .ok (.lload i, 2)) (hi : L[i]? = some (some (.long v)))
    (k : PW g x μ (pc + 2) L (.long v :: st)) : PW g x μ pc L st := by
  obtain ⟨l, D, cs, sh⟩ := g
  obtain ⟨p, e, R, s, m, args, below, meth, c, cells, slots, Q, A⟩ := x
  intro H locs ls hP hS hl
  exact lv_lload F.1 F.2.1 hd (hl.get hi) (k H locs ls hP hS hl)
theorem s_aload_n (F : zF g x cc own nL fr lo) {j : Fin 4} {v : Nat} (hd : decode cc pc = .ok (.aload_n j, 1)) (hi : L[(j : Nat)]? = some (some (.ref v)))
    (k : PW g x μ (pc + 1) L (.ref v :: st)) : PW g x μ pc L st := by
  obtain ⟨l, D, cs, sh⟩ := g
  obtain ⟨p, e, R, s, m, args, below, meth, c, cells, slots, Q, A⟩ := x
  intro H locs ls hP hS hl
  exact lv_aload_n F.1 F.2.1 hd rfl (hl.get hi) (k H locs ls hP hS hl)
theorem s_aload (F : zF g x cc own nL fr lo) {i : Nat} {v : Nat} (hd : decode cc pc = .ok (.aload i, 2)) (hi : L[i]? = some (some (.ref v)))
    (k : PW g x μ (pc + 2) L (.ref v :: st)) : PW g x μ pc L st := by
  obtain ⟨l, D, cs, sh⟩ := g
  obtain ⟨p, e, R, s, m, args, below, meth, c, cells, slots, Q, A⟩ := x
  intro H locs ls hP hS hl
  exact lv_aload F.1 F.2.1 hd (hl.get hi) (k H locs ls hP hS hl)
theorem s_istore_n (F : zF g x cc own nL fr lo) {j : Fin 4} {v : Int32} {L' : List (Option Value)} (hd : decode cc pc = .ok (.istore_n j, 1)) (hi : (j : Nat) < L.length) (hn : zN2 L (j : Nat) = true) (hL : L.set (j : Nat) (some (.int v)) = L')
    (k : PW g x μ (pc + 1) L' st) : PW g x μ pc L (.int v :: st) := by
  obtain ⟨l, D, cs, sh⟩ := g
  obtain ⟨p, e, R, s, m, args, below, meth, c, cells, slots, Q, A⟩ := x
  intro H locs ls hP hS hl
  exact lv_istore_n F.1 F.2.1 hd rfl hl hi rfl (fun ls' h => k H locs ls' hP hS (hL ▸ zL.of1 hn hi h))
theorem s_istore (F : zF g x cc own nL fr lo) {i : Nat} {v : Int32} {L' : List (Option Value)} (hd : decode cc pc = .ok (.istore i, 2)) (hi : i < L.length) (hn : zN2 L i = true) (hL : L.set i (some (.int v)) = L')
    (k : PW g x μ (pc + 2) L' st) : PW g x μ pc L (.int v :: st) := by
  obtain ⟨l, D, cs, sh⟩ := g
  obtain ⟨p, e, R, s, m, args, below, meth, c, cells, slots, Q, A⟩ := x
  intro H locs ls hP hS hl
  exact lv_istore F.1 F.2.1 hd hl hi rfl (fun ls' h => k H locs ls' hP hS (hL ▸ zL.of1 hn hi h))
theorem s_astore_n (F : zF g x cc own nL fr lo) {j : Fin 4} {v : Nat} {L' : List (Option Value)} (hd : decode cc pc = .ok (.astore_n j, 1)) (hi : (j : Nat) < L.length) (hn : zN2 L (j : Nat) = true) (hL : L.set (j : Nat) (some (.ref v)) = L')
    (k : PW g x μ (pc + 1) L' st) : PW g x μ pc L (.ref v :: st) := by
  obtain ⟨l, D, cs, sh⟩ := g
  obtain ⟨p, e, R, s, m, args, below, meth, c, cells, slots, Q, A⟩ := x
  intro H locs ls hP hS hl
  exact lv_astore_n F.1 F.2.1 hd rfl hl hi rfl (fun ls' h => k H locs ls' hP hS (hL ▸ zL.of1 hn hi h))
theorem s_astore (F : zF g x cc own nL fr lo) {i : Nat} {v : Nat} {L' : List (Option Value)} (hd : decode cc pc = .ok (.astore i, 2)) (hi : i < L.length) (hn : zN2 L i = true) (hL : L.set i (some (.ref v)) = L')
    (k : PW g x μ (pc + 2) L' st) : PW g x μ pc L (.ref v :: st) := by
  obtain ⟨l, D, cs, sh⟩ := g
  obtain ⟨p, e, R, s, m, args, below, meth, c, cells, slots, Q, A⟩ := x
  intro H locs ls hP hS hl
  exact lv_astore F.1 F.2.1 hd hl hi rfl (fun ls' h => k H locs ls' hP hS (hL ▸ zL.of1 hn hi h))
theorem s_lstore_n (F : zF g x cc own nL fr lo) {j : Fin 4} {v : Int64} {L' : List (Option Value)} (hd : decode cc pc = .ok (.lstore_n j, 1)) (hi : (j : Nat) + 1 < L.length) (hn : zN2 L (j : Nat) = true) (hL : (L.set (j : Nat) (some (.long v))).set ((j : Nat) + 1) none = L')
    (k : PW g x μ (pc + 1) L' st) : PW g x μ pc L (.long v :: st) := by
  obtain ⟨l, D, cs, sh⟩ := g
  obtain ⟨p, e, R, s, m, args, below, meth, c, cells, slots, Q, A⟩ := x
  intro H locs ls hP hS hl
  exact lv_lstore_n F.1 F.2.1 hd rfl hl hi rfl (fun ls' h => k H locs ls' hP hS (hL ▸ zL.of2 hn hi h))
theorem zpos_get {L : List (Option Value)} {i : Nat} {v : Value} (h : L[i]? = some (some v)) : ∃ k : Nat, (zpos 0 L)[k]? = some (i, v) := List.getElem?_of_mem ((zpos_mem L 0 (i, v)).mpr ⟨Nat.zero_le _, h⟩)
theorem s_iinc (F : zF g x cc own nL fr lo) {i : Nat} {n : Int} {a v : Int32} {L' : List (Option Value)} (hd : decode cc pc = .ok (.iinc i n, 3)) (hi : L[i]? = some (some (.int a))) (hv : a + Int32.ofInt n = v) (hn : zN2 L i = true) (hL : L.set i (some (.int v)) = L')
    (k : PW g x μ (pc + 3) L' st) : PW g x μ pc L st := by
  obtain ⟨l, D, cs, sh⟩ := g
  obtain ⟨p, e, R, s, m, args, below, meth, c, cells, slots, Q, A⟩ := x
  intro H locs ls hP hS hl
  obtain ⟨j, hj⟩ := zpos_get hi
  have hlt : i < L.length := (List.getElem?_eq_some_iff.mp hi).1
  exact lv_iinc F.1 F.2.1 hd hl hj hv hlt rfl (fun ls' h => k H locs ls' hP hS (hL ▸ zL.of1 hn hlt h))
theorem s_iadd (F : zF g x cc own nL fr lo) {a b : Int32} (hd : decode cc pc = .ok (.iadd, 1))
    (k : PW g x μ (pc + 1) L (.int (a + b) :: st)) : PW g x μ pc L (.int b :: .int a :: st) := by
  obtain ⟨l, D, cs, sh⟩ := g
  obtain ⟨p, e, R, s, m, args, below, meth, c, cells, slots, Q, A⟩ := x
  intro H locs ls hP hS hl
  exact lv_iadd F.1 F.2.1 hd (k H locs ls hP hS hl)
theorem s_isub (F : zF g x cc own nL fr lo) {a b : Int32} (hd : decode cc pc = .ok (.isub, 1))
    (k : PW g x μ (pc + 1) L (.int (a - b) :: st)) : PW g x μ pc L (.int b :: .int a :: st) := by
  obtain ⟨l, D, cs, sh⟩ := g
  obtain ⟨p, e, R, s, m, args, below, meth, c, cells, slots, Q, A⟩ := x
  intro H locs ls hP hS hl
  exact lv_isub F.1 F.2.1 hd (k H locs ls hP hS hl)
theorem s_imul (F : zF g x cc own nL fr lo) {a b : Int32} (hd : decode cc pc = .ok (.imul, 1))
    (k : PW g x μ (pc + 1) L (.int (a * b) :: st)) : PW g x μ pc L (.int b :: .int a :: st) := by
  obtain ⟨l, D, cs, sh⟩ := g
  obtain ⟨p, e, R, s, m, args, below, meth, c, cells, slots, Q, A⟩ := x
  intro H locs ls hP hS hl
  exact lv_imul F.1 F.2.1 hd (k H locs ls hP hS hl)
theorem s_iand (F : zF g x cc own nL fr lo) {a b : Int32} (hd : decode cc pc = .ok (.iand, 1))
    (k : PW g x μ (pc + 1) L (.int (a &&& b) :: st)) : PW g x μ pc L (.int b :: .int a :: st) := by
  obtain ⟨l, D, cs, sh⟩ := g
  obtain ⟨p, e, R, s, m, args, below, meth, c, cells, slots, Q, A⟩ := x
  intro H locs ls hP hS hl
  exact lv_iand F.1 F.2.1 hd (k H locs ls hP hS hl)
theorem s_ladd (F : zF g x cc own nL fr lo) {a b : Int64} (hd : decode cc pc = .ok (.ladd, 1))
    (k : PW g x μ (pc + 1) L (.long (a + b) :: st)) : PW g x μ pc L (.long b :: .long a :: st) := by
  obtain ⟨l, D, cs, sh⟩ := g
  obtain ⟨p, e, R, s, m, args, below, meth, c, cells, slots, Q, A⟩ := x
  intro H locs ls hP hS hl
  exact lv_ladd F.1 F.2.1 hd (k H locs ls hP hS hl)
theorem s_lsub (F : zF g x cc own nL fr lo) {a b : Int64} (hd : decode cc pc = .ok (.lsub, 1))
    (k : PW g x μ (pc + 1) L (.long (a - b) :: st)) : PW g x μ pc L (.long b :: .long a :: st) := by
  obtain ⟨l, D, cs, sh⟩ := g
  obtain ⟨p, e, R, s, m, args, below, meth, c, cells, slots, Q, A⟩ := x
  intro H locs ls hP hS hl
  exact lv_lsub F.1 F.2.1 hd (k H locs ls hP hS hl)
theorem s_i2l (F : zF g x cc own nL fr lo) {a : Int32} (hd : decode cc pc = .ok (.i2l, 1))
    (k : PW g x μ (pc + 1) L (.long a.toInt64 :: st)) : PW g x μ pc L (.int a :: st) := by
  obtain ⟨l, D, cs, sh⟩ := g
  obtain ⟨p, e, R, s, m, args, below, meth, c, cells, slots, Q, A⟩ := x
  intro H locs ls hP hS hl
  exact lv_i2l F.1 F.2.1 hd rfl (k H locs ls hP hS hl)
theorem s_l2i (F : zF g x cc own nL fr lo) {a : Int64} (hd : decode cc pc = .ok (.l2i, 1))
    (k : PW g x μ (pc + 1) L (.int a.toInt32 :: st)) : PW g x μ pc L (.long a :: st) := by
  obtain ⟨l, D, cs, sh⟩ := g
  obtain ⟨p, e, R, s, m, args, below, meth, c, cells, slots, Q, A⟩ := x
  intro H locs ls hP hS hl
  exact lv_l2i F.1 F.2.1 hd rfl (k H locs ls hP hS hl)
theorem s_lcmp (F : zF g x cc own nL fr lo) {a b : Int64} (hd : decode cc pc = .ok (.lcmp, 1))
    (k : PW g x μ (pc + 1) L (.int (lg_cmp a b) :: st)) : PW g x μ pc L (.long b :: .long a :: st) := by
  obtain ⟨l, D, cs, sh⟩ := g
  obtain ⟨p, e, R, s, m, args, below, meth, c, cells, slots, Q, A⟩ := x
  intro H locs ls hP hS hl
  exact W.lcmp F.1 F.2.1 hd (k H locs ls hP hS hl)
theorem s_dup (F : zF g x cc own nL fr lo) {v : Value} (hd : decode cc pc = .ok (.dup, 1)) (hv : v.category = 1)
    (k : PW g x μ (pc + 1) L (v :: v :: st)) : PW g x μ pc L (v :: st) := by
  obtain ⟨l, D, cs, sh⟩ := g
  obtain ⟨p, e, R, s, m, args, below, meth, c, cells, slots, Q, A⟩ := x
  intro H locs ls hP hS hl
  exact lv_dup F.1 F.2.1 hd hv (k H locs ls hP hS hl)
theorem s_dup2 (F : zF g x cc own nL fr lo) {v w : Value} (hd : decode cc pc = .ok (.dup2, 1)) (hv : v.category = 1) (hw : w.category = 1)
    (k : PW g x μ (pc + 1) L (v :: w :: v :: w :: st)) : PW g x μ pc L (v :: w :: st) := by
  obtain ⟨l, D, cs, sh⟩ := g
  obtain ⟨p, e, R, s, m, args, below, meth, c, cells, slots, Q, A⟩ := x
  intro H locs ls hP hS hl
  exact lv_dup2_11 F.1 F.2.1 hd hv hw (k H locs ls hP hS hl)
theorem s_goto (F : zF g x cc own nL fr lo) {off : Int} (t : Nat) (hd : decode cc pc = .ok (.goto off, 3)) (ht : (pc : Int) + off = (t : Int))
    (k : PW g x μ t L st) : PW g x μ pc L st := by
  obtain ⟨l, D, cs, sh⟩ := g
  obtain ⟨p, e, R, s, m, args, below, meth, c, cells, slots, Q, A⟩ := x
  intro H locs ls hP hS hl
  exact lv_goto F.1 F.2.1 hd ht (k H locs ls hP hS hl)
theorem s_if_eq (F : zF g x cc own nL fr lo) {a : Int32} {off : Int} (t : Nat) (hd : decode cc pc = .ok (.ifCond .eq off, 3)) (ht : (pc : Int) + off = (t : Int))
    (kt : a = 0 → PW g x μ t L st) (kf : ¬ a = 0 → PW g x μ (pc + 3) L st) : PW g x μ pc L (.int a :: st) := by
  obtain ⟨l, D, cs, sh⟩ := g
  obtain ⟨p, e, R, s, m, args, below, meth, c, cells, slots, Q, A⟩ := x
  intro H locs ls hP hS hl
  exact lv_if_eq F.1 F.2.1 hd ht (fun h => kt h H locs ls hP hS hl) (fun h => kf h H locs ls hP hS hl)
theorem s_icmp_eq (F : zF g x cc own nL fr lo) {a b : Int32} {off : Int} (t : Nat) (hd : decode cc pc = .ok (.if_icmp .eq off, 3)) (ht : (pc : Int) + off = (t : Int))
    (kt : a = b → PW g x μ t L st) (kf : ¬ a = b → PW g x μ (pc + 3) L st) : PW g x μ pc L (.int b :: .int a :: st) := by
  obtain ⟨l, D, cs, sh⟩ := g
  obtain ⟨p, e, R, s, m, args, below, meth, c, cells, slots, Q, A⟩ := x
  intro H locs ls hP hS hl
  exact lv_icmp_eq F.1 F.2.1 hd ht (fun h => kt h H locs ls hP hS hl) (fun h => kf h H locs ls hP hS hl)
theorem s_if_ne (F : zF g x cc own nL fr lo) {a : Int32} {off : Int} (t : Nat) (hd : decode cc pc = .ok (.ifCond .ne off, 3)) (ht : (pc : Int) + off = (t : Int))
    (kt : ¬ a = 0 → PW g x μ t L st) (kf : a = 0 → PW g x μ (pc + 3) L st) : PW g x μ pc L (.int a :: st) := by
  obtain ⟨l, D, cs, sh⟩ := g
  obtain ⟨p, e, R, s, m, args, below, meth, c, cells, slots, Q, A⟩ := x
  intro H locs ls hP hS hl
  exact lv_if_ne F.1 F.2.1 hd ht (fun h => kt h H locs ls hP hS hl) (fun h => kf h H locs ls hP hS hl)
theorem s_icmp_ne (F : zF g x cc own nL fr lo) {a b : Int32} {off : Int} (t : Nat) (hd : decode cc pc = .ok (.if_icmp .ne off, 3)) (ht : (pc : Int) + off = (t : Int))
    (kt : ¬ a = b → PW g x μ t L st) (kf : a = b → PW g x μ (pc + 3) L st) : PW g x μ pc L (.int b :: .int a :: st) := by
  obtain ⟨l, D, cs, sh⟩ := g
  obtain ⟨p, e, R, s, m, args, below, meth, c, cells, slots, Q, A⟩ := x
  intro H locs ls hP hS hl
  exact lv_icmp_ne F.1 F.2.1 hd ht (fun h => kt h H locs ls hP hS hl) (fun h => kf h H locs ls hP hS hl)
theorem s_if_lt (F : zF g x cc own nL fr lo) {a : Int32} {off : Int} (t : Nat) (hd : decode cc pc = .ok (.ifCond .lt off, 3)) (ht : (pc : Int) + off = (t : Int))
    (kt : a < 0 → PW g x μ t L st) (kf : ¬ a < 0 → PW g x μ (pc + 3) L st) : PW g x μ pc L (.int a :: st) := by
  obtain ⟨l, D, cs, sh⟩ := g
  obtain ⟨p, e, R, s, m, args, below, meth, c, cells, slots, Q, A⟩ := x
  intro H locs ls hP hS hl
  exact lv_if_lt F.1 F.2.1 hd ht (fun h => kt h H locs ls hP hS hl) (fun h => kf h H locs ls hP hS hl)
theorem s_icmp_lt (F : zF g x cc own nL fr lo) {a b : Int32} {off : Int} (t : Nat) (hd : decode cc pc = .ok (.if_icmp .lt off, 3)) (ht : (pc : Int) + off = (t : Int))
    (kt : a < b → PW g x μ t L st) (kf : ¬ a < b → PW g x μ (pc + 3) L st) : PW g x μ pc L (.int b :: .int a :: st) := by
  obtain ⟨l, D, cs, sh⟩ := g
  obtain ⟨p, e, R, s, m, args, below, meth, c, cells, slots, Q, A⟩ := x
  intro H locs ls hP hS hl
  exact lv_icmp_lt F.1 F.2.1 hd ht (fun h => kt h H locs ls hP hS hl) (fun h => kf h H locs ls hP hS hl)
theorem s_if_ge (F : zF g x cc own nL fr lo) {a : Int32} {off : Int} (t : Nat) (hd : decode cc pc = .ok (.ifCond .ge off, 3)) (ht : (pc : Int) + off = (t : Int))
    (kt : 0 ≤ a → PW g x μ t L st) (kf : ¬ 0 ≤ a → PW g x μ (pc + 3) L st) : PW g x μ pc L (.int a :: st) := by
  obtain ⟨l, D, cs, sh⟩ := g
  obtain ⟨p, e, R, s, m, args, below, meth, c, cells, slots, Q, A⟩ := x
  intro H locs ls hP hS hl
  exact lv_if_ge F.1 F.2.1 hd ht (fun h => kt h H locs ls hP hS hl) (fun h => kf h H locs ls hP hS hl)
theorem s_icmp_ge (F : zF g x cc own nL fr lo) {a b : Int32} {off : Int} (t : Nat) (hd : decode cc pc = .ok (.if_icmp .ge off, 3)) (ht : (pc : Int) + off = (t : Int))
    (kt : b ≤ a → PW g x μ t L st) (kf : ¬ b ≤ a → PW g x μ (pc + 3) L st) : PW g x μ pc L (.int b :: .int a :: st) := by
  obtain ⟨l, D, cs, sh⟩ := g
  obtain ⟨p, e, R, s, m, args, below, meth, c, cells, slots, Q, A⟩ := x
  intro H locs ls hP hS hl
  exact lv_icmp_ge F.1 F.2.1 hd ht (fun h => kt h H locs ls hP hS hl) (fun h => kf h H locs ls hP hS hl)
theorem s_if_gt (F : zF g x cc own nL fr lo) {a : Int32} {off : Int} (t : Nat) (hd : decode cc pc = .ok (.ifCond .gt off, 3)) (ht : (pc : Int) + off = (t : Int))
    (kt : 0 < a → PW g x μ t L st) (kf : ¬ 0 < a → PW g x μ (pc + 3) L st) : PW g x μ pc L (.int a :: st) := by
  obtain ⟨l, D, cs, sh⟩ := g
  obtain ⟨p, e, R, s, m, args, below, meth, c, cells, slots, Q, A⟩ := x
  intro H locs ls hP hS hl
  exact lv_if_gt F.1 F.2.1 hd ht (fun h => kt h H locs ls hP hS hl) (fun h => kf h H locs ls hP hS hl)
theorem s_icmp_gt (F : zF g x cc own nL fr lo) {a b : Int32} {off : Int} (t : Nat) (hd : decode cc pc = .ok (.if_icmp .gt off, 3)) (ht : (pc : Int) + off = (t : Int))
    (kt : b < a → PW g x μ t L st) (kf : ¬ b < a → PW g x μ (pc + 3) L st) : PW g x μ pc L (.int b :: .int a :: st) := by
  obtain ⟨l, D, cs, sh⟩ := g
  obtain ⟨p, e, R, s, m, args, below, meth, c, cells, slots, Q, A⟩ := x
  intro H locs ls hP hS hl
  exact lv_icmp_gt F.1 F.2.1 hd ht (fun h => kt h H locs ls hP hS hl) (fun h => kf h H locs ls hP hS hl)
theorem s_if_le (F : zF g x cc own nL fr lo) {a : Int32} {off : Int} (t : Nat) (hd : decode cc pc = .ok (.ifCond .le off, 3)) (ht : (pc : Int) + off = (t : Int))
    (kt : a ≤ 0 → PW g x μ t L st) (kf : ¬ a ≤ 0 → PW g x μ (pc + 3) L st) : PW g x μ pc L (.int a :: st) := by
  obtain ⟨l, D, cs, sh⟩ := g
  obtain ⟨p, e, R, s, m, args, below, meth, c, cells, slots, Q, A⟩ := x
  intro H locs ls hP hS hl
  exact lv_if_le F.1 F.2.1 hd ht (fun h => kt h H locs ls hP hS hl) (fun h => kf h H locs ls hP hS hl)
theorem s_icmp_le (F : zF g x cc own nL fr lo) {a b : Int32} {off : Int} (t : Nat) (hd : decode cc pc = .ok (.if_icmp .le off, 3)) (ht : (pc : Int) + off = (t : Int))
    (kt : a ≤ b → PW g x μ t L st) (kf : ¬ a ≤ b → PW g x μ (pc + 3) L st) : PW g x μ pc L (.int b :: .int a :: st) := by
  obtain ⟨l, D, cs, sh⟩ := g
  obtain ⟨p, e, R, s, m, args, below, meth, c, cells, slots, Q, A⟩ := x
  intro H locs ls hP hS hl
  exact lv_icmp_le F.1 F.2.1 hd ht (fun h => kt h H locs ls hP hS hl) (fun h => kf h H locs ls hP hS hl)
theorem n_icmp_eq (F : zF g x cc own nL fr lo) {a b : Nat} {off : Int} (t : Nat) (hd : decode cc pc = .ok (.if_icmp .eq off, 3)) (ht : (pc : Int) + off = (t : Int)) (ha : a < 2 ^ 31) (hb : b < 2 ^ 31)
    (kt : a = b → PW g x μ t L st) (kf : a ≠ b → PW g x μ (pc + 3) L st) : PW g x μ pc L (.int (nI b) :: .int (nI a) :: st) := s_icmp_eq F t hd ht (fun h => kt ((nI_eq ha hb).mp h)) (fun h => kf (fun e => h ((nI_eq ha hb).mpr e)))
theorem n_icmp_ne (F : zF g x cc own nL fr lo) {a b : Nat} {off : Int} (t : Nat) (hd : decode cc pc = .ok (.if_icmp .ne off, 3)) (ht : (pc : Int) + off = (t : Int)) (ha : a < 2 ^ 31) (hb : b < 2 ^ 31)
    (kt : a ≠ b → PW g x μ t L st) (kf : a = b → PW g x μ (pc + 3) L st) : PW g x μ pc L (.int (nI b) :: .int (nI a) :: st) := s_icmp_ne F t hd ht (fun h => kt (fun e => h ((nI_eq ha hb).mpr e))) (fun h => kf ((nI_eq ha hb).mp h))
theorem n_icmp_lt (F : zF g x cc own nL fr lo) {a b : Nat} {off : Int} (t : Nat) (hd : decode cc pc = .ok (.if_icmp .lt off, 3)) (ht : (pc : Int) + off = (t : Int)) (ha : a < 2 ^ 31) (hb : b < 2 ^ 31)
    (kt : a < b → PW g x μ t L st) (kf : b ≤ a → PW g x μ (pc + 3) L st) : PW g x μ pc L (.int (nI b) :: .int (nI a) :: st) := s_icmp_lt F t hd ht (fun h => kt ((nI_ltI ha hb).mp h)) (fun h => kf (Nat.le_of_not_lt (fun e => h ((nI_ltI ha hb).mpr e))))
theorem n_icmp_ge (F : zF g x cc own nL fr lo) {a b : Nat} {off : Int} (t : Nat) (hd : decode cc pc = .ok (.if_icmp .ge off, 3)) (ht : (pc : Int) + off = (t : Int)) (ha : a < 2 ^ 31) (hb : b < 2 ^ 31)
    (kt : b ≤ a → PW g x μ t L st) (kf : a < b → PW g x μ (pc + 3) L st) : PW g x μ pc L (.int (nI b) :: .int (nI a) :: st) := s_icmp_ge F t hd ht (fun h => kt ((nI_leI hb ha).mp h)) (fun h => kf (Nat.lt_of_not_le (fun e => h ((nI_leI hb ha).mpr e))))
theorem n_icmp_gt (F : zF g x cc own nL fr lo) {a b : Nat} {off : Int} (t : Nat) (hd : decode cc pc = .ok (.if_icmp .gt off, 3)) (ht : (pc : Int) + off = (t : Int)) (ha : a < 2 ^ 31) (hb : b < 2 ^ 31)
    (kt : b < a → PW g x μ t L st) (kf : a ≤ b → PW g x μ (pc + 3) L st) : PW g x μ pc L (.int (nI b) :: .int (nI a) :: st) := s_icmp_gt F t hd ht (fun h => kt ((nI_ltI hb ha).mp h)) (fun h => kf (Nat.le_of_not_lt (fun e => h ((nI_ltI hb ha).mpr e))))
theorem n_icmp_le (F : zF g x cc own nL fr lo) {a b : Nat} {off : Int} (t : Nat) (hd : decode cc pc = .ok (.if_icmp .le off, 3)) (ht : (pc : Int) + off = (t : Int)) (ha : a < 2 ^ 31) (hb : b < 2 ^ 31)
    (kt : a ≤ b → PW g x μ t L st) (kf : b < a → PW g x μ (pc + 3) L st) : PW g x μ pc L (.int (nI b) :: .int (nI a) :: st) := s_icmp_le F t hd ht (fun h => kt ((nI_leI ha hb).mp h)) (fun h => kf (Nat.lt_of_not_le (fun e => h ((nI_leI ha hb).mpr e))))
theorem n_iadd (F : zF g x cc own nL fr lo) {a b : Nat} (hd : decode cc pc = .ok (.iadd, 1))
    (k : PW g x μ (pc + 1) L (.int (nI (a + b)) :: st)) : PW g x μ pc L (.int (nI b) :: .int (nI a) :: st) := s_iadd F hd (by rw [nI_add]; exact k)
theorem n_imul (F : zF g x cc own nL fr lo) {a b : Nat} (hd : decode cc pc = .ok (.imul, 1))
    (k : PW g x μ (pc + 1) L (.int (nI (a * b)) :: st)) : PW g x μ pc L (.int (nI b) :: .int (nI a) :: st) := s_imul F hd (by rw [pk_mul]; exact k)
theorem n_isub (F : zF g x cc own nL fr lo) {a b : Nat} (hd : decode cc pc = .ok (.isub, 1)) (h : b ≤ a)
    (k : PW g x μ (pc + 1) L (.int (nI (a - b)) :: st)) : PW g x μ pc L (.int (nI b) :: .int (nI a) :: st) := s_isub F hd (by rw [pk_sub h]; exact k)
theorem n_iinc (F : zF g x cc own nL fr lo) {i n a : Nat} {L' : List (Option Value)} (hd : decode cc pc = .ok (.iinc i (n : Int), 3)) (hi : L[i]? = some (some (.int (nI a)))) (hn : zN2 L i = true) (hL : L.set i (some (.int (nI (a + n)))) = L')
    (k : PW g x μ (pc + 3) L' st) : PW g x μ pc L st := s_iinc F hd hi (by rw [← nI_add]; rfl) hn hL k
theorem n_iconst (F : zF g x cc own nL fr lo) {n : Nat} (hd : decode cc pc = .ok (.iconst (n : Int), 1)) (k : PW g x μ (pc + 1) L (.int (nI n) :: st)) : PW g x μ pc L st := s_iconst F hd rfl k
theorem n_iconst_m1 (F : zF g x cc own nL fr lo) (hd : decode cc pc = .ok (.iconst (-1), 1)) (k : PW g x μ (pc + 1) L (.int (-1) :: st)) : PW g x μ pc L st := s_iconst F hd (by decide) k
theorem n_bipush (F : zF g x cc own nL fr lo) {n : Nat} (hd : decode cc pc = .ok (.bipush (n : Int), 2)) (hv : (Int8.ofInt (n : Int)).toInt32 = nI n) (k : PW g x μ (pc + 2) L (.int (nI n) :: st)) : PW g x μ pc L st := s_bipush F hd hv k
theorem n_sipush (F : zF g x cc own nL fr lo) {n : Nat} (hd : decode cc pc = .ok (.sipush (n : Int), 3)) (hv : (Int16.ofInt (n : Int)).toInt32 = nI n) (k : PW g x μ (pc + 3) L (.int (nI n) :: st)) : PW g x μ pc L st := s_sipush F hd hv k
/-- a value on the stack under another name -/
theorem s_val {v w : Value} (h : v = w) (k : PW g x μ pc L (w :: st)) : PW g x μ pc L (v :: st) := h ▸ k
theorem s_vali {v w : Int32} (h : v = w) (k : PW g x μ pc L (.int w :: st)) : PW g x μ pc L (.int v :: st) := h ▸ k
theorem s_vall {v w : Int64} (h : v = w) (k : PW g x μ pc L (.long w :: st)) : PW g x μ pc L (.long v :: st) := h ▸ k
theorem s_tableOut (F : zF g x cc own nL fr lo) {dflt lo' hi : Int} {offs : Array Int} {len : Nat} {a : Int32} (t : Nat) (hd : decode cc pc = .ok (.tableswitch dflt lo' hi offs, len)) (h : a.toInt < lo' ∨ hi < a.toInt) (ht : (pc : Int) + dflt = (t : Int))
    (k : PW g x μ t L st) : PW g x μ pc L (.int a :: st) := by
  obtain ⟨l, D, cs, sh⟩ := g
  obtain ⟨p, e, R, s, m, args, below, meth, c, cells, slots, Q, A⟩ := x
  intro H locs ls hP hS hl
  exact lv_tableOut F.1 F.2.1 hd h ht (k H locs ls hP hS hl)
theorem s_tableIn (F : zF g x cc own nL fr lo) {dflt lo' hi : Int} {offs : Array Int} {len : Nat} {a : Int32} {off : Int} (t : Nat) (hd : decode cc pc = .ok (.tableswitch dflt lo' hi offs, len)) (h1 : ¬ a.toInt < lo') (h2 : ¬ hi < a.toInt) (ho : offs[(a.toInt - lo').toNat]? = some off) (ht : (pc : Int) + off = (t : Int))
    (k : PW g x μ t L st) : PW g x μ pc L (.int a :: st) := by
  obtain ⟨l, D, cs, sh⟩ := g
  obtain ⟨p, e, R, s, m, args, below, meth, c, cells, slots, Q, A⟩ := x
  intro H locs ls hP hS hl
  exact lv_tableIn F.1 F.2.1 hd h1 h2 ho ht (k H locs ls hP hS hl)
theorem s_iret (F : zF g x cc own nL fr lo) {QQ : Option Value → zMem → Prop} {v : Int32} (hR : zR g x (some .int) QQ) (hd : decode cc pc = .ok (.ireturn, 1)) (h : QQ (some (.int v)) μ) : PW g x μ pc L [.int v] := by
  obtain ⟨l, D, cs, sh⟩ := g
  obtain ⟨p, e, R, s, m, args, below, meth, c, cells, slots, Q, A⟩ := x
  intro H locs ls hP hS hl
  obtain ⟨hr, hQ⟩ := hR
  subst hQ
  have hlocks : meth.locks = false := F.2.2.2.2.2.2.2.2.1
  exact W.iret (v := v) F.1 F.2.1 hr (fun t ht hW => ⟨⟨_, μ, rfl, h, by rw [ht]; exact hP⟩, hS.F ht⟩) hS.2.2 hd hlocks
theorem s_lret (F : zF g x cc own nL fr lo) {QQ : Option Value → zMem → Prop} {v : Int64} (hR : zR g x (some .long) QQ) (hd : decode cc pc = .ok (.lreturn, 1)) (h : QQ (some (.long v)) μ) : PW g x μ pc L [.long v] := by
  obtain ⟨l, D, cs, sh⟩ := g
  obtain ⟨p, e, R, s, m, args, below, meth, c, cells, slots, Q, A⟩ := x
  intro H locs ls hP hS hl
  obtain ⟨hr, hQ⟩ := hR
  subst hQ
  have hlocks : meth.locks = false := F.2.2.2.2.2.2.2.2.1
  exact W.lret (v := v) F.1 F.2.1 hr (fun t ht hW => ⟨⟨_, μ, rfl, h, by rw [ht]; exact hP⟩, hS.F ht⟩) hS.2.2 hd hlocks
theorem s_vret (F : zF g x cc own nL fr lo) {QQ : Option Value → zMem → Prop}  (hR : zR g x none QQ) (hd : decode cc pc = .ok (.return_, 1)) (h : QQ (none) μ) : PW g x μ pc L [] := by
  obtain ⟨l, D, cs, sh⟩ := g
  obtain ⟨p, e, R, s, m, args, below, meth, c, cells, slots, Q, A⟩ := x
  intro H locs ls hP hS hl
  obtain ⟨hr, hQ⟩ := hR
  subst hQ
  have hlocks : meth.locks = false := F.2.2.2.2.2.2.2.2.1
  exact W.vret F.1 F.2.1 hr (fun t ht hW => ⟨⟨_, μ, rfl, h, by rw [ht]; exact hP⟩, hS.F ht⟩) hS.2.2 hd hlocks
theorem s_zret (F : zF g x cc own nL fr lo) {QQ : Option Value → zMem → Prop} {v : Int32} (hR : zR g x (some .boolean) QQ) (hd : decode cc pc = .ok (.ireturn, 1)) (hn : narrow .boolean (.int v) = .int v) (h : QQ (some (.int v)) μ) : PW g x μ pc L [.int v] := by
  obtain ⟨l, D, cs, sh⟩ := g
  obtain ⟨p, e, R, s, m, args, below, meth, c, cells, slots, Q, A⟩ := x
  intro H locs ls hP hS hl
  obtain ⟨hr, hQ⟩ := hR
  subst hQ
  have hlocks : meth.locks = false := F.2.2.2.2.2.2.2.2.1
  exact W.zret (v := v) F.1 F.2.1 hr hn (fun t ht hW => ⟨⟨_, μ, rfl, h, by rw [ht]; exact hP⟩, hS.F ht⟩) hS.2.2 hd hlocks
theorem s_iald (F : zF g x cc own nL fr lo) {a n i : Nat} {v : Int32} (hd : decode cc pc = .ok (.iaload, 1)) (hs : gs g a = (1, n)) (hi : i < n) (hn : n ≤ 2000) (hv : μ.1 a i = v)
    (k : PW g x μ (pc + 1) L (.int v :: st)) : PW g x μ pc L (.int (nI i) :: .ref a :: st) := by
  obtain ⟨l, D, cs, sh⟩ := g
  obtain ⟨p, e, R, s, m, args, below, meth, c, cells, slots, Q, A⟩ := x
  intro H locs ls hP hS hl
  subst hv
  have hc := hP.cell hs rfl
  have hb : vp_in (nI i) n := vp_in_nI hi (by omega)
  have hk := k H locs ls hP hS hl
  rw [← nI_clamp (n := i) (by omega)] at hk
  exact va_iald F.1 F.2.1 F.2.2.2.2.2.1 (zP1 hc) 0 0 rfl rfl hb hd hk
theorem s_zald (F : zF g x cc own nL fr lo) {a n i : Nat} {v : Int32} (hd : decode cc pc = .ok (.baload, 1)) (hs : gs g a = (2, n)) (hi : i < n) (hn : n ≤ 2000) (hv : μ.1 a i = v)
    (k : PW g x μ (pc + 1) L (.int v :: st)) : PW g x μ pc L (.int (nI i) :: .ref a :: st) := by
  obtain ⟨l, D, cs, sh⟩ := g
  obtain ⟨p, e, R, s, m, args, below, meth, c, cells, slots, Q, A⟩ := x
  intro H locs ls hP hS hl
  subst hv
  have hc := hP.cell hs rfl
  have hb : vp_in (nI i) n := vp_in_nI hi (by omega)
  have hk := k H locs ls hP hS hl
  rw [← nI_clamp (n := i) (by omega)] at hk
  exact va_zald F.1 F.2.1 F.2.2.2.2.2.1 (zP1 hc) 0 1 rfl rfl hb hd hk
theorem s_lald (F : zF g x cc own nL fr lo) {a n i : Nat} {v : Int64} (hd : decode cc pc = .ok (.laload, 1)) (hs : gs g a = (3, n)) (hi : i < n) (hn : n ≤ 2000) (hv : μ.2.1 a i = v)
    (k : PW g x μ (pc + 1) L (.long v :: st)) : PW g x μ pc L (.int (nI i) :: .ref a :: st) := by
  obtain ⟨l, D, cs, sh⟩ := g
  obtain ⟨p, e, R, s, m, args, below, meth, c, cells, slots, Q, A⟩ := x
  intro H locs ls hP hS hl
  subst hv
  have hc := hP.cell hs rfl
  have hb : vp_in (nI i) n := vp_in_nI hi (by omega)
  have hk := k H locs ls hP hS hl
  rw [← nI_clamp (n := i) (by omega)] at hk
  exact va_lald F.1 F.2.1 F.2.2.2.2.2.1 (zP1 hc) 0 2 rfl rfl hb hd hk
theorem s_aldK (F : zF g x cc own nL fr lo) {a n i v : Nat} (hd : decode cc pc = .ok (.aaload, 1)) (hs : gs g a = (4, n)) (hi : i < n) (hn : n ≤ 2000) (hv : μ.2.2 a i = some v)
    (k : PW g x μ (pc + 1) L (.ref v :: st)) : PW g x μ pc L (.int (nI i) :: .ref a :: st) := by
  obtain ⟨l, D, cs, sh⟩ := g
  obtain ⟨p, e, R, s, m, args, below, meth, c, cells, slots, Q, A⟩ := x
  intro H locs ls hP hS hl
  have hc := hP.cell hs rfl
  have hb : vp_in (nI i) n := vp_in_nI hi (by omega)
  have hk := k H locs ls hP hS hl
  have he : va_rf (μ.2.2 a (nI i).toNatClampNeg) = .ref v := by rw [nI_clamp (n := i) (by omega), hv]; rfl
  rw [← he] at hk
  exact va_aldq F.1 F.2.1 F.2.2.2.2.2.1 (zP1 hc) 0 3 rfl rfl hb hd hk
theorem s_aldM (F : zF g x cc own nL fr lo) {a n i v : Nat} (hd : decode cc pc = .ok (.aaload, 1)) (hs : gs g a = (5, n)) (hi : i < n) (hn : n ≤ 2000) (hv : μ.2.2 a i = some v)
    (k : PW g x μ (pc + 1) L (.ref v :: st)) : PW g x μ pc L (.int (nI i) :: .ref a :: st) := by
  obtain ⟨l, D, cs, sh⟩ := g
  obtain ⟨p, e, R, s, m, args, below, meth, c, cells, slots, Q, A⟩ := x
  intro H locs ls hP hS hl
  have hc := hP.cell hs rfl
  have hb : vp_in (nI i) n := vp_in_nI hi (by omega)
  have hk := k H locs ls hP hS hl
  have he : va_rf (μ.2.2 a (nI i).toNatClampNeg) = .ref v := by rw [nI_clamp (n := i) (by omega), hv]; rfl
  rw [← he] at hk
  exact va_aldq F.1 F.2.1 F.2.2.2.2.2.1 (zP1 hc) 0 4 rfl rfl hb hd hk
theorem s_iast (F : zF g x cc own nL fr lo) {a n i : Nat} {v : Int32} (hd : decode cc pc = .ok (.iastore, 1)) (hs : gs g a = (1, n)) (hi : i < n) (hn : n ≤ 2000)
    (k : PW g x (mI μ a i v) (pc + 1) L st) : PW g x μ pc L (.int v :: .int (nI i) :: .ref a :: st) := by
  obtain ⟨l, D, cs, sh⟩ := g
  obtain ⟨p, e, R, s, m, args, below, meth, c, cells, slots, Q, A⟩ := x
  intro H locs ls hP hS hl
  have hc := hP.cell hs rfl
  have hb : vp_in (nI i) n := vp_in_nI hi (by omega)
  refine W.iast F.1 F.2.1 hc ((F.2.2.2.2.2.1.2 0 _ rfl).1 n (fun j => .int (μ.1 a j))) (fun q => by cases q) (by show ¬ (nI i < 0 ∨ (arrV _ _ _).slots.size ≤ _); rw [arrV_size]; exact hb) rfl rfl hd fun H1 e z oq => ?_
  refine k H1 _ ls (hP.upd (a := a) (fun b hb => va_up_ne _ _ hb) (fun b hb => rfl) (fun b hb => rfl) hs rfl ?_ oq) (hS.put z oq (F.2.2.2.2.2.2.2.1 a (by rw [show sh a = (1, n) from hs]; intro h; cases h))) hl
  show H1[a]? = some (vp_cell _ _)
  rw [e, nI_clamp (n := i) (by omega)]
  rw [vp_cell_i, vp_cell_i, arrV_store]
  congr 2
  funext q
  by_cases hq : q = i
  · subst hq
    simp [updV, upd, mI, va_up_self]
  · simp [updV, upd, mI, va_up_self, hq]
theorem s_zast (F : zF g x cc own nL fr lo) {a n i : Nat} {v : Int32} (hd : decode cc pc = .ok (.bastore, 1)) (hs : gs g a = (2, n)) (hi : i < n) (hn : n ≤ 2000) (hz : narrow .boolean (.int v) = .int v)
    (k : PW g x (mI μ a i v) (pc + 1) L st) : PW g x μ pc L (.int v :: .int (nI i) :: .ref a :: st) := by
  obtain ⟨l, D, cs, sh⟩ := g
  obtain ⟨p, e, R, s, m, args, below, meth, c, cells, slots, Q, A⟩ := x
  intro H locs ls hP hS hl
  have hc := hP.cell hs rfl
  have hb : vp_in (nI i) n := vp_in_nI hi (by omega)
  refine W.zast F.1 F.2.1 hc ((F.2.2.2.2.2.1.2 1 _ rfl).1 n (fun j => .int (μ.1 a j))) (fun q => by cases q) (by show ¬ (nI i < 0 ∨ (arrV _ _ _).slots.size ≤ _); rw [arrV_size]; exact hb) rfl rfl hd fun H1 e z oq => ?_
  rw [hz] at e
  refine k H1 _ ls (hP.upd (a := a) (fun b hb => va_up_ne _ _ hb) (fun b hb => rfl) (fun b hb => rfl) hs rfl ?_ oq) (hS.put z oq (F.2.2.2.2.2.2.2.1 a (by rw [show sh a = (2, n) from hs]; intro h; cases h))) hl
  show H1[a]? = some (vp_cell _ _)
  rw [e, nI_clamp (n := i) (by omega)]
  rw [vp_cell_i, vp_cell_i, arrV_store]
  congr 2
  funext q
  by_cases hq : q = i
  · subst hq
    simp [updV, upd, mI, va_up_self]
  · simp [updV, upd, mI, va_up_self, hq]
theorem s_last (F : zF g x cc own nL fr lo) {a n i : Nat} {v : Int64} (hd : decode cc pc = .ok (.lastore, 1)) (hs : gs g a = (3, n)) (hi : i < n) (hn : n ≤ 2000)
    (k : PW g x (mL μ a i v) (pc + 1) L st) : PW g x μ pc L (.long v :: .int (nI i) :: .ref a :: st) := by
  obtain ⟨l, D, cs, sh⟩ := g
  obtain ⟨p, e, R, s, m, args, below, meth, c, cells, slots, Q, A⟩ := x
  intro H locs ls hP hS hl
  have hc := hP.cell hs rfl
  have hb : vp_in (nI i) n := vp_in_nI hi (by omega)
  refine W.last F.1 F.2.1 hc ((F.2.2.2.2.2.1.2 2 _ rfl).1 n (fun j => .long (μ.2.1 a j))) (fun q => by cases q) (by show ¬ (nI i < 0 ∨ (arrV _ _ _).slots.size ≤ _); rw [arrV_size]; exact hb) rfl rfl hd fun H1 e z oq => ?_
  refine k H1 _ ls (hP.upd (a := a) (fun b hb => rfl) (fun b hb => va_up_ne _ _ hb) (fun b hb => rfl) hs rfl ?_ oq) (hS.put z oq (F.2.2.2.2.2.2.2.1 a (by rw [show sh a = (3, n) from hs]; intro h; cases h))) hl
  show H1[a]? = some (vp_cell _ _)
  rw [e, nI_clamp (n := i) (by omega)]
  rw [vp_cell_l, vp_cell_l, arrV_store]
  congr 2
  funext q
  by_cases hq : q = i
  · subst hq
    simp [updV, vp_updL, mL, va_up_self]
  · simp [updV, vp_updL, mL, va_up_self, hq]
theorem s_astK (F : zF g x cc own nL fr lo) {a n i v : Nat} (hd : decode cc pc = .ok (.aastore, 1)) (hs : gs g a = (4, n)) (hi : i < n) (hn : n ≤ 2000) (hv : gs g v = (6, 0))
    (k : PW g x (mR μ a i (some v)) (pc + 1) L st) : PW g x μ pc L (.ref v :: .int (nI i) :: .ref a :: st) := by
  obtain ⟨l, D, cs, sh⟩ := g
  obtain ⟨p, e, R, s, m, args, below, meth, c, cells, slots, Q, A⟩ := x
  intro H locs ls hP hS hl
  have hc := hP.cell hs rfl
  have hcv := hP.cell hv rfl
  have hK := F.2.2.2.2.2.1
  obtain ⟨r', hr', cellV, g1, g2, g3, -⟩ := hcv
  have hcls := (hK.1 0 _ rfl).2
  obtain ⟨kA, comp, k1, k2, k3, -⟩ := (hK.2 3 _ rfl).2
  have hcomp : comp = D.1 0 := Option.some.inj (k3.symm.trans hcls.1)
  subst hcomp
  obtain ⟨kC, hkC, -⟩ := hcls.2
  have hcl : (nI i).toNatClampNeg = i := nI_clamp (n := i) (by omega)
  refine W.aast F.1 F.2.1 hc (fun q h => by cases h) (fun h => by cases h) k1 k2 rfl hkC ⟨nI_pos (by omega), by show _ < (arrV _ _ _).slots.size; rw [arrV_size, hcl]; exact hi⟩ g1 (fun q h => by rw [g3] at h; cases h) (by rw [g2]; exact hkC) (by rw [g2]; exact va_assign hcls) rfl rfl hd fun H1 e z oq => ?_
  refine k H1 _ ls (hP.upd (a := a) (fun b hb => rfl) (fun b hb => rfl) (fun b hb => va_up_ne _ _ hb) hs rfl ?_ oq) (hS.put z oq (F.2.2.2.2.2.2.2.1 a (by rw [show sh a = (4, n) from hs]; intro h; cases h))) hl
  show H1[a]? = some (vp_cell _ _)
  rw [e, hcl]
  rw [vp_cell_q, vp_cell_q, arrV_store]
  congr 2
  funext q
  by_cases hq : q = i
  · subst hq
    simp [updV, mR, va_up, va_rf]
  · simp [updV, mR, va_up, hq]
theorem s_astM (F : zF g x cc own nL fr lo) {a n i v : Nat} (hd : decode cc pc = .ok (.aastore, 1)) (hs : gs g a = (5, n)) (hi : i < n) (hn : n ≤ 2000) (hv : gs g v = (7, 0))
    (k : PW g x (mR μ a i (some v)) (pc + 1) L st) : PW g x μ pc L (.ref v :: .int (nI i) :: .ref a :: st) := by
  obtain ⟨l, D, cs, sh⟩ := g
  obtain ⟨p, e, R, s, m, args, below, meth, c, cells, slots, Q, A⟩ := x
  intro H locs ls hP hS hl
  have hc := hP.cell hs rfl
  have hcv := hP.cell hv rfl
  have hK := F.2.2.2.2.2.1
  obtain ⟨r', hr', cellV, g1, g2, g3, -⟩ := hcv
  have hcls := (hK.1 1 _ rfl).2
  obtain ⟨kA, comp, k1, k2, k3, -⟩ := (hK.2 4 _ rfl).2
  have hcomp : comp = D.1 1 := Option.some.inj (k3.symm.trans hcls.1)
  subst hcomp
  obtain ⟨kC, hkC, -⟩ := hcls.2
  have hcl : (nI i).toNatClampNeg = i := nI_clamp (n := i) (by omega)
  refine W.aast F.1 F.2.1 hc (fun q h => by cases h) (fun h => by cases h) k1 k2 rfl hkC ⟨nI_pos (by omega), by show _ < (arrV _ _ _).slots.size; rw [arrV_size, hcl]; exact hi⟩ g1 (fun q h => by rw [g3] at h; cases h) (by rw [g2]; exact hkC) (by rw [g2]; exact va_assign hcls) rfl rfl hd fun H1 e z oq => ?_
  refine k H1 _ ls (hP.upd (a := a) (fun b hb => rfl) (fun b hb => rfl) (fun b hb => va_up_ne _ _ hb) hs rfl ?_ oq) (hS.put z oq (F.2.2.2.2.2.2.2.1 a (by rw [show sh a = (5, n) from hs]; intro h; cases h))) hl
  show H1[a]? = some (vp_cell _ _)
  rw [e, hcl]
  rw [vp_cell_q, vp_cell_q, arrV_store]
  congr 2
  funext q
  by_cases hq : q = i
  · subst hq
    simp [updV, mR, va_up, va_rf]
  · simp [updV, mR, va_up, hq]
end ZR
end
section
section ZF
variable {g : zG} {x : zX} {cc : ByteArray} {own : String} {nL fr lo : Nat} {μ : zMem} {pc : Nat} {L : List (Option Value)} {st : List Value}
theorem s_get (F : zF g x cc own nL fr lo) {a ci N i : Nat} {C : String} {T : u_T} {t : Nat × Nat} {fs : List Value} {v : Value} (hs : gs g a = t) (he : zEn (gc g) μ a t = some (.inr (ci, fs))) (hc : classes[ci]? = some (C, T, N)) (hin : ∀ w ∈ u_ws C T N, w ∈ tW) (k : Nat) (hk : k < N) (hT : (T k).1 = C) (hl : Cond.fieldLink own i C (T k).2.1 (T k).2.2.1 ∈ tW) (hv : fs[k]? = some v) (hd : decode cc pc = .ok (.getfield i, 3))
    (kk : PW g x μ (pc + 3) L (v :: st)) : PW g x μ pc L (.ref a :: st) := by
  obtain ⟨l, D, cs, sh⟩ := g
  obtain ⟨p, e, R, s, m, args, below, meth, c, cells, slots, Q, A⟩ := x
  intro H locs ls hP hS hz
  exact va_get F.1 F.2.1 F.2.2.2.2.1 hin F.2.2.2.1 F.2.2.2.2.2.1 (zP1 (hP.cell hs he)) 0 rfl hc k hk (F.2.2.2.2.1 _ hl) (fun q h => by rw [hT] at h; exact h) hv hd (kk H locs ls hP hS hz)
theorem s_getN (F : zF g x cc own nL fr lo) {a ci N i : Nat} {C host : String} {T : u_T} {t : Nat × Nat} {fs : List Value} {v : Value} (hs : gs g a = t) (he : zEn (gc g) μ a t = some (.inr (ci, fs))) (hc : classes[ci]? = some (C, T, N)) (hin : ∀ w ∈ u_ws C T N, w ∈ tW) (k : Nat) (hk : k < N) (hT : (T k).1 = C) (hl : Cond.fieldLinkNest own i C (T k).2.1 (T k).2.2.1 host ∈ zNest) (hv : fs[k]? = some v) (hd : decode cc pc = .ok (.getfield i, 3))
    (kk : PW g x μ (pc + 3) L (v :: st)) : PW g x μ pc L (.ref a :: st) := by
  obtain ⟨l, D, cs, sh⟩ := g
  obtain ⟨p, e, R, s, m, args, below, meth, c, cells, slots, Q, A⟩ := x
  intro H locs ls hP hS hz
  exact va_getN (host := host) F.1 F.2.1 F.2.2.2.2.1 hin F.2.2.2.1 F.2.2.2.2.2.1 (zP1 (hP.cell hs he)) 0 rfl hc k hk (va_Nw.use rfl (F.2.2.2.2.2.2.1.1 _ hl)) (fun q h => by rw [hT] at h; exact h) hv hd (kk H locs ls hP hS hz)
theorem s_put (F : zF g x cc own nL fr lo) {a ci N i : Nat} {C : String} {T : u_T} {t : Nat × Nat} {fs : List Value} {v : Value} {μ' : zMem} (ht0 : t ≠ (0, 0)) (hs : gs g a = t) (he : zEn (gc g) μ a t = some (.inr (ci, fs))) (hc : classes[ci]? = some (C, T, N)) (hin : ∀ w ∈ u_ws C T N, w ∈ tW) (ty0 : Nat → FieldType) (hty : ∀ k, k < N → parseFieldDescriptor (T k).2.2.1 = some (ty0 k)) (hnm : ∀ a, a < N → ∀ b, b < N → a ≠ b → (T a).2.1 ≠ (T b).2.1) (k : Nat) (hk : k < N) (hT : (T k).1 = C) (hfin : (T k).2.2.2 = false) (hl : Cond.fieldLink own i C (T k).2.1 (T k).2.2.1 ∈ tW) (hn : narrow (ty0 k) v = v) (hfit : fits (ty0 k) v = true) (hlen : k < fs.length) (hd : decode cc pc = .ok (.putfield i, 3))
    (o1 : ∀ b, b ≠ a → μ'.1 b = μ.1 b) (o2 : ∀ b, b ≠ a → μ'.2.1 b = μ.2.1 b) (o3 : ∀ b, b ≠ a → μ'.2.2 b = μ.2.2 b) (he' : zEn (gc g) μ' a t = some (.inr (ci, fs.set k v)))
    (kk : PW g x μ' (pc + 3) L st) : PW g x μ pc L (v :: .ref a :: st) := by
  obtain ⟨l, D, cs, sh⟩ := g
  obtain ⟨p, e, R, s, m, args, below, meth, c, cells, slots, Q, A⟩ := x
  intro H locs ls hP hS hz
  have hK := F.2.2.2.2.2.1
  have hap := va_apart (own := own) (D := D) F.2.2.2.2.1 hin ty0 hty hnm hK hc
  obtain ⟨r, h1, cell, q1, q2, q3, q4⟩ := hP.cell hs he
  have hr : r = (C, T, N) := Option.some.inj (h1.symm.trans hc)
  subst hr
  obtain ⟨hSl, hfc, kC, hkC, hkind⟩ := hK.1 ci _ hc
  obtain ⟨cf, kf, fi, f, hi, hsl⟩ := hSl k hk
  have hlay := F.2.2.2.2.1 _ (hin _ (u_in_lay hk))
  unfold u_lay at hlay
  rw [if_neg (by rw [hfin]; decide)] at hlay
  have hst := (u_facts hfc hkC (u_lays F.2.2.2.2.1 hin hk) hi).1
  have h6 := u_store hfc hkC hkind hlay hi (hty k hk) hn hfit
  refine W.putK F.1 F.2.1 (f := f) ⟨F.2.2.2.1, F.2.2.2.2.1 _ hl, ⟨_, _, _, by rw [hT] at hi; exact hi⟩, hst⟩ (by rw [q2]; exact h6) q1 q3 (by rw [hsl]; exact k2_hasslot (q4 k hk)) rfl rfl hd fun H' e1 e2 e3 => ?_
  rw [hsl] at e1 ⊢
  exact kk H' _ ls (hP.upd o1 o2 o3 hs he' ⟨_, hc, t_OB.to (V := updV (vp_V fs) k v) ⟨_, e1, q2, q3, t_set q4 hap hk v⟩ (fun j _ => vp_updV_set hlen v j)⟩ e3) (hS.put e2 e3 (F.2.2.2.2.2.2.2.1 a (by rw [show sh a = t from hs]; exact ht0))) hz
theorem g_KS_11 (F : zF g x cc R_KS nL fr lo) {a : Nat} (hd : decode cc pc = .ok (.getfield 11, 3)) (hs : gs g a = (6, 0)) (kk : PW g x μ (pc + 3) L (.ref (a + 1) :: st)) : PW g x μ pc L (.ref a :: st) := s_get (fs := zKS μ a) F hs rfl (ci := 0) rfl in_KS 0 (by decide) rfl k_20 rfl hd kk
theorem g_K_30 (F : zF g x cc R_K nL fr lo) {a : Nat} (hd : decode cc pc = .ok (.getfield 30, 3)) (hs : gs g a = (6, 0)) (kk : PW g x μ (pc + 3) L (.ref (a + 1) :: st)) : PW g x μ pc L (.ref a :: st) := s_getN (host := "KeepHeap") (fs := zKS μ a) F hs rfl (ci := 0) rfl in_KS 0 (by decide) rfl (by decide +kernel) rfl hd kk
theorem g_KS_15 (F : zF g x cc R_KS nL fr lo) {a : Nat} (hd : decode cc pc = .ok (.getfield 15, 3)) (hs : gs g a = (6, 0)) (kk : PW g x μ (pc + 3) L (.ref (a + 2) :: st)) : PW g x μ pc L (.ref a :: st) := s_get (fs := zKS μ a) F hs rfl (ci := 0) rfl in_KS 1 (by decide) rfl k_22 rfl hd kk
theorem g_K_56 (F : zF g x cc R_K nL fr lo) {a : Nat} (hd : decode cc pc = .ok (.getfield 56, 3)) (hs : gs g a = (6, 0)) (kk : PW g x μ (pc + 3) L (.ref (a + 2) :: st)) : PW g x μ pc L (.ref a :: st) := s_getN (host := "KeepHeap") (fs := zKS μ a) F hs rfl (ci := 0) rfl in_KS 1 (by decide) rfl (by decide +kernel) rfl hd kk
theorem g_KS_18 (F : zF g x cc R_KS nL fr lo) {a : Nat} (hd : decode cc pc = .ok (.getfield 18, 3)) (hs : gs g a = (6, 0)) (kk : PW g x μ (pc + 3) L (.ref (a + 3) :: st)) : PW g x μ pc L (.ref a :: st) := s_get (fs := zKS μ a) F hs rfl (ci := 0) rfl in_KS 2 (by decide) rfl k_24 rfl hd kk
theorem g_KS_21 (F : zF g x cc R_KS nL fr lo) {a : Nat} (hd : decode cc pc = .ok (.getfield 21, 3)) (hs : gs g a = (6, 0)) (kk : PW g x μ (pc + 3) L (.ref (a + 4) :: st)) : PW g x μ pc L (.ref a :: st) := s_get (fs := zKS μ a) F hs rfl (ci := 0) rfl in_KS 3 (by decide) rfl k_25 rfl hd kk
theorem g_K_64 (F : zF g x cc R_K nL fr lo) {a : Nat} (hd : decode cc pc = .ok (.getfield 64, 3)) (hs : gs g a = (6, 0)) (kk : PW g x μ (pc + 3) L (.ref (a + 4) :: st)) : PW g x μ pc L (.ref a :: st) := s_getN (host := "KeepHeap") (fs := zKS μ a) F hs rfl (ci := 0) rfl in_KS 3 (by decide) rfl (by decide +kernel) rfl hd kk
theorem g_KS_24 (F : zF g x cc R_KS nL fr lo) {a : Nat} (hd : decode cc pc = .ok (.getfield 24, 3)) (hs : gs g a = (6, 0)) (kk : PW g x μ (pc + 3) L (.ref (a + 5) :: st)) : PW g x μ pc L (.ref a :: st) := s_get (fs := zKS μ a) F hs rfl (ci := 0) rfl in_KS 4 (by decide) rfl k_27 rfl hd kk
theorem g_K_67 (F : zF g x cc R_K nL fr lo) {a : Nat} (hd : decode cc pc = .ok (.getfield 67, 3)) (hs : gs g a = (6, 0)) (kk : PW g x μ (pc + 3) L (.ref (a + 5) :: st)) : PW g x μ pc L (.ref a :: st) := s_getN (host := "KeepHeap") (fs := zKS μ a) F hs rfl (ci := 0) rfl in_KS 4 (by decide) rfl (by decide +kernel) rfl hd kk
theorem g_KS_27 (F : zF g x cc R_KS nL fr lo) {a : Nat} (hd : decode cc pc = .ok (.getfield 27, 3)) (hs : gs g a = (6, 0)) (kk : PW g x μ (pc + 3) L (.ref (a + 6) :: st)) : PW g x μ pc L (.ref a :: st) := s_get (fs := zKS μ a) F hs rfl (ci := 0) rfl in_KS 5 (by decide) rfl k_29 rfl hd kk
theorem g_KS_30 (F : zF g x cc R_KS nL fr lo) {a : Nat} (hd : decode cc pc = .ok (.getfield 30, 3)) (hs : gs g a = (6, 0)) (kk : PW g x μ (pc + 3) L (.ref (a + 7) :: st)) : PW g x μ pc L (.ref a :: st) := s_get (fs := zKS μ a) F hs rfl (ci := 0) rfl in_KS 6 (by decide) rfl k_30 rfl hd kk
theorem g_K_92 (F : zF g x cc R_K nL fr lo) {a : Nat} (hd : decode cc pc = .ok (.getfield 92, 3)) (hs : gs g a = (6, 0)) (kk : PW g x μ (pc + 3) L (.ref (a + 7) :: st)) : PW g x μ pc L (.ref a :: st) := s_getN (host := "KeepHeap") (fs := zKS μ a) F hs rfl (ci := 0) rfl in_KS 6 (by decide) rfl (by decide +kernel) rfl hd kk
theorem g_KS_33 (F : zF g x cc R_KS nL fr lo) {a : Nat} (hd : decode cc pc = .ok (.getfield 33, 3)) (hs : gs g a = (6, 0)) (kk : PW g x μ (pc + 3) L (.ref (a + 8) :: st)) : PW g x μ pc L (.ref a :: st) := s_get (fs := zKS μ a) F hs rfl (ci := 0) rfl in_KS 7 (by decide) rfl k_32 rfl hd kk
theorem g_K_95 (F : zF g x cc R_K nL fr lo) {a : Nat} (hd : decode cc pc = .ok (.getfield 95, 3)) (hs : gs g a = (6, 0)) (kk : PW g x μ (pc + 3) L (.ref (a + 8) :: st)) : PW g x μ pc L (.ref a :: st) := s_getN (host := "KeepHeap") (fs := zKS μ a) F hs rfl (ci := 0) rfl in_KS 7 (by decide) rfl (by decide +kernel) rfl hd kk
theorem g_KS_43 (F : zF g x cc R_KS nL fr lo) {a : Nat} {v : Int32} (hd : decode cc pc = .ok (.getfield 43, 3)) (hs : gs g a = (6, 0)) (hv : (μ.1 a 0) = v) (kk : PW g x μ (pc + 3) L (.int v :: st)) : PW g x μ pc L (.ref a :: st) := s_get (fs := zKS μ a) F hs rfl (ci := 0) rfl in_KS 8 (by decide) rfl k_34 (by rw [← hv]; rfl) hd kk
theorem p_KS_43 (F : zF g x cc R_KS nL fr lo) {a : Nat} {v : Int32} (hd : decode cc pc = .ok (.putfield 43, 3)) (hs : gs g a = (6, 0)) (kk : PW g x (mI μ a 0 v) (pc + 3) L st) : PW g x μ pc L (.int v :: .ref a :: st) := s_put (fs := zKS μ a) (μ' := mI μ a 0 v) F (by decide) hs rfl (ci := 0) rfl in_KS t_KS t_KS_ok n_KS 8 (by decide) rfl rfl k_34 rfl rfl (Nat.le_of_ble_eq_true rfl) hd (fun b hb => mI_o μ _ _ hb) (fun _ _ => rfl) (fun _ _ => rfl) (by
  show some (Sum.inr (0, zKS (mI μ a 0 v) a)) = _
  simp [zKS, mI_1, mI_2]) kk
theorem g_K_85 (F : zF g x cc R_K nL fr lo) {a : Nat} {v : Int32} (hd : decode cc pc = .ok (.getfield 85, 3)) (hs : gs g a = (6, 0)) (hv : (μ.1 a 0) = v) (kk : PW g x μ (pc + 3) L (.int v :: st)) : PW g x μ pc L (.ref a :: st) := s_getN (host := "KeepHeap") (fs := zKS μ a) F hs rfl (ci := 0) rfl in_KS 8 (by decide) rfl (by decide +kernel) (by rw [← hv]; rfl) hd kk
theorem g_KS_36 (F : zF g x cc R_KS nL fr lo) {a : Nat} (hd : decode cc pc = .ok (.getfield 36, 3)) (hs : gs g a = (6, 0)) (kk : PW g x μ (pc + 3) L (.ref (a + 9) :: st)) : PW g x μ pc L (.ref a :: st) := s_get (fs := zKS μ a) F hs rfl (ci := 0) rfl in_KS 9 (by decide) rfl k_36 rfl hd kk
theorem g_KS_40 (F : zF g x cc R_KS nL fr lo) {a : Nat} (hd : decode cc pc = .ok (.getfield 40, 3)) (hs : gs g a = (6, 0)) (kk : PW g x μ (pc + 3) L (.ref (a + 10) :: st)) : PW g x μ pc L (.ref a :: st) := s_get (fs := zKS μ a) F hs rfl (ci := 0) rfl in_KS 10 (by decide) rfl k_37 rfl hd kk
theorem g_KS_67 (F : zF g x cc R_KS nL fr lo) {a : Nat} {v : Int32} (hd : decode cc pc = .ok (.getfield 67, 3)) (hs : gs g a = (6, 0)) (hv : (μ.1 a 1) = v) (kk : PW g x μ (pc + 3) L (.int v :: st)) : PW g x μ pc L (.ref a :: st) := s_get (fs := zKS μ a) F hs rfl (ci := 0) rfl in_KS 11 (by decide) rfl k_38 (by rw [← hv]; rfl) hd kk
theorem p_KS_67 (F : zF g x cc R_KS nL fr lo) {a : Nat} {v : Int32} (hd : decode cc pc = .ok (.putfield 67, 3)) (hs : gs g a = (6, 0)) (kk : PW g x (mI μ a 1 v) (pc + 3) L st) : PW g x μ pc L (.int v :: .ref a :: st) := s_put (fs := zKS μ a) (μ' := mI μ a 1 v) F (by decide) hs rfl (ci := 0) rfl in_KS t_KS t_KS_ok n_KS 11 (by decide) rfl rfl k_38 rfl rfl (Nat.le_of_ble_eq_true rfl) hd (fun b hb => mI_o μ _ _ hb) (fun _ _ => rfl) (fun _ _ => rfl) (by
  show some (Sum.inr (0, zKS (mI μ a 1 v) a)) = _
  simp [zKS, mI_1, mI_2]) kk
theorem g_K_10 (F : zF g x cc R_K nL fr lo) {a : Nat} (hd : decode cc pc = .ok (.getfield 10, 3)) (hs : gs g a = (8, 0)) (kk : PW g x μ (pc + 3) L (.ref (a + 1) :: st)) : PW g x μ pc L (.ref a :: st) := s_get (fs := zKO μ a) F hs rfl (ci := 2) rfl in_K 0 (by decide) rfl k_67 rfl hd kk
theorem g_K_16 (F : zF g x cc R_K nL fr lo) {a : Nat} (hd : decode cc pc = .ok (.getfield 16, 3)) (hs : gs g a = (8, 0)) (kk : PW g x μ (pc + 3) L (.ref (a + 12) :: st)) : PW g x μ pc L (.ref a :: st) := s_get (fs := zKO μ a) F hs rfl (ci := 2) rfl in_K 1 (by decide) rfl k_68 rfl hd kk
theorem g_K_19 (F : zF g x cc R_K nL fr lo) {a : Nat} (hd : decode cc pc = .ok (.getfield 19, 3)) (hs : gs g a = (8, 0)) (kk : PW g x μ (pc + 3) L (.ref (a + 23) :: st)) : PW g x μ pc L (.ref a :: st) := s_get (fs := zKO μ a) F hs rfl (ci := 2) rfl in_K 2 (by decide) rfl k_69 rfl hd kk
theorem g_K_22 (F : zF g x cc R_K nL fr lo) {a : Nat} (hd : decode cc pc = .ok (.getfield 22, 3)) (hs : gs g a = (8, 0)) (kk : PW g x μ (pc + 3) L (.ref (a + 34) :: st)) : PW g x μ pc L (.ref a :: st) := s_get (fs := zKO μ a) F hs rfl (ci := 2) rfl in_K 3 (by decide) rfl k_70 rfl hd kk
theorem g_K_26 (F : zF g x cc R_K nL fr lo) {a : Nat} (hd : decode cc pc = .ok (.getfield 26, 3)) (hs : gs g a = (8, 0)) (kk : PW g x μ (pc + 3) L (.ref (a + 35) :: st)) : PW g x μ pc L (.ref a :: st) := s_get (fs := zKO μ a) F hs rfl (ci := 2) rfl in_K 4 (by decide) rfl k_71 rfl hd kk
theorem g_K_98 (F : zF g x cc R_K nL fr lo) {a : Nat} {v : Int32} (hd : decode cc pc = .ok (.getfield 98, 3)) (hs : gs g a = (8, 0)) (hv : (μ.1 a 0) = v) (kk : PW g x μ (pc + 3) L (.int v :: st)) : PW g x μ pc L (.ref a :: st) := s_get (fs := zKO μ a) F hs rfl (ci := 2) rfl in_K 5 (by decide) rfl k_72 (by rw [← hv]; rfl) hd kk
theorem p_K_98 (F : zF g x cc R_K nL fr lo) {a : Nat} {v : Int32} (hd : decode cc pc = .ok (.putfield 98, 3)) (hs : gs g a = (8, 0)) (kk : PW g x (mI μ a 0 v) (pc + 3) L st) : PW g x μ pc L (.int v :: .ref a :: st) := s_put (fs := zKO μ a) (μ' := mI μ a 0 v) F (by decide) hs rfl (ci := 2) rfl in_K t_K t_K_ok n_K 5 (by decide) rfl rfl k_72 rfl rfl (Nat.le_of_ble_eq_true rfl) hd (fun b hb => mI_o μ _ _ hb) (fun _ _ => rfl) (fun _ _ => rfl) (by
  show some (Sum.inr (2, zKO (mI μ a 0 v) a)) = _
  simp [zKO, mI_1, mI_2]) kk
theorem g_K_105 (F : zF g x cc R_K nL fr lo) {a : Nat} {v : Int64} (hd : decode cc pc = .ok (.getfield 105, 3)) (hs : gs g a = (8, 0)) (hv : (μ.2.1 a 0) = v) (kk : PW g x μ (pc + 3) L (.long v :: st)) : PW g x μ pc L (.ref a :: st) := s_get (fs := zKO μ a) F hs rfl (ci := 2) rfl in_K 6 (by decide) rfl k_73 (by rw [← hv]; rfl) hd kk
theorem p_K_105 (F : zF g x cc R_K nL fr lo) {a : Nat} {v : Int64} (hd : decode cc pc = .ok (.putfield 105, 3)) (hs : gs g a = (8, 0)) (kk : PW g x (mL μ a 0 v) (pc + 3) L st) : PW g x μ pc L (.long v :: .ref a :: st) := s_put (fs := zKO μ a) (μ' := mL μ a 0 v) F (by decide) hs rfl (ci := 2) rfl in_K t_K t_K_ok n_K 6 (by decide) rfl rfl k_73 rfl rfl (Nat.le_of_ble_eq_true rfl) hd (fun _ _ => rfl) (fun b hb => mL_o μ _ _ hb) (fun _ _ => rfl) (by
  show some (Sum.inr (2, zKO (mL μ a 0 v) a)) = _
  simp [zKO, mL_1, mL_i]) kk
theorem g_MS_9 (F : zF g x cc R_MS nL fr lo) {a : Nat} (hd : decode cc pc = .ok (.getfield 9, 3)) (hs : gs g a = (7, 0)) (kk : PW g x μ (pc + 3) L (.ref (a + 1) :: st)) : PW g x μ pc L (.ref a :: st) := s_get (fs := zMS μ a) F hs rfl (ci := 1) rfl in_MS 0 (by decide) rfl k_249 rfl hd kk
theorem g_M_40 (F : zF g x cc R_M nL fr lo) {a : Nat} (hd : decode cc pc = .ok (.getfield 40, 3)) (hs : gs g a = (7, 0)) (kk : PW g x μ (pc + 3) L (.ref (a + 1) :: st)) : PW g x μ pc L (.ref a :: st) := s_get (fs := zMS μ a) F hs rfl (ci := 1) rfl in_MS 0 (by decide) rfl k_250 rfl hd kk
theorem g_MS_15 (F : zF g x cc R_MS nL fr lo) {a : Nat} (hd : decode cc pc = .ok (.getfield 15, 3)) (hs : gs g a = (7, 0)) (kk : PW g x μ (pc + 3) L (.ref (a + 2) :: st)) : PW g x μ pc L (.ref a :: st) := s_get (fs := zMS μ a) F hs rfl (ci := 1) rfl in_MS 1 (by decide) rfl k_251 rfl hd kk
theorem g_M_51 (F : zF g x cc R_M nL fr lo) {a : Nat} (hd : decode cc pc = .ok (.getfield 51, 3)) (hs : gs g a = (7, 0)) (kk : PW g x μ (pc + 3) L (.ref (a + 2) :: st)) : PW g x μ pc L (.ref a :: st) := s_get (fs := zMS μ a) F hs rfl (ci := 1) rfl in_MS 1 (by decide) rfl k_252 rfl hd kk
theorem g_MS_18 (F : zF g x cc R_MS nL fr lo) {a : Nat} (hd : decode cc pc = .ok (.getfield 18, 3)) (hs : gs g a = (7, 0)) (kk : PW g x μ (pc + 3) L (.ref (a + 3) :: st)) : PW g x μ pc L (.ref a :: st) := s_get (fs := zMS μ a) F hs rfl (ci := 1) rfl in_MS 2 (by decide) rfl k_253 rfl hd kk
theorem g_M_65 (F : zF g x cc R_M nL fr lo) {a : Nat} (hd : decode cc pc = .ok (.getfield 65, 3)) (hs : gs g a = (7, 0)) (kk : PW g x μ (pc + 3) L (.ref (a + 3) :: st)) : PW g x μ pc L (.ref a :: st) := s_get (fs := zMS μ a) F hs rfl (ci := 1) rfl in_MS 2 (by decide) rfl k_254 rfl hd kk
theorem g_MS_21 (F : zF g x cc R_MS nL fr lo) {a : Nat} (hd : decode cc pc = .ok (.getfield 21, 3)) (hs : gs g a = (7, 0)) (kk : PW g x μ (pc + 3) L (.ref (a + 4) :: st)) : PW g x μ pc L (.ref a :: st) := s_get (fs := zMS μ a) F hs rfl (ci := 1) rfl in_MS 3 (by decide) rfl k_255 rfl hd kk
theorem g_M_86 (F : zF g x cc R_M nL fr lo) {a : Nat} (hd : decode cc pc = .ok (.getfield 86, 3)) (hs : gs g a = (7, 0)) (kk : PW g x μ (pc + 3) L (.ref (a + 4) :: st)) : PW g x μ pc L (.ref a :: st) := s_get (fs := zMS μ a) F hs rfl (ci := 1) rfl in_MS 3 (by decide) rfl k_256 rfl hd kk
theorem g_MS_24 (F : zF g x cc R_MS nL fr lo) {a : Nat} (hd : decode cc pc = .ok (.getfield 24, 3)) (hs : gs g a = (7, 0)) (kk : PW g x μ (pc + 3) L (.ref (a + 5) :: st)) : PW g x μ pc L (.ref a :: st) := s_get (fs := zMS μ a) F hs rfl (ci := 1) rfl in_MS 4 (by decide) rfl k_257 rfl hd kk
theorem g_M_68 (F : zF g x cc R_M nL fr lo) {a : Nat} (hd : decode cc pc = .ok (.getfield 68, 3)) (hs : gs g a = (7, 0)) (kk : PW g x μ (pc + 3) L (.ref (a + 5) :: st)) : PW g x μ pc L (.ref a :: st) := s_get (fs := zMS μ a) F hs rfl (ci := 1) rfl in_MS 4 (by decide) rfl k_258 rfl hd kk
theorem g_MS_28 (F : zF g x cc R_MS nL fr lo) {a : Nat} (hd : decode cc pc = .ok (.getfield 28, 3)) (hs : gs g a = (7, 0)) (kk : PW g x μ (pc + 3) L (.ref (a + 6) :: st)) : PW g x μ pc L (.ref a :: st) := s_get (fs := zMS μ a) F hs rfl (ci := 1) rfl in_MS 5 (by decide) rfl k_259 rfl hd kk
theorem g_M_89 (F : zF g x cc R_M nL fr lo) {a : Nat} (hd : decode cc pc = .ok (.getfield 89, 3)) (hs : gs g a = (7, 0)) (kk : PW g x μ (pc + 3) L (.ref (a + 6) :: st)) : PW g x μ pc L (.ref a :: st) := s_get (fs := zMS μ a) F hs rfl (ci := 1) rfl in_MS 5 (by decide) rfl k_260 rfl hd kk
theorem g_MS_37 (F : zF g x cc R_MS nL fr lo) {a : Nat} {v : Int32} (hd : decode cc pc = .ok (.getfield 37, 3)) (hs : gs g a = (7, 0)) (hv : (μ.1 a 0) = v) (kk : PW g x μ (pc + 3) L (.int v :: st)) : PW g x μ pc L (.ref a :: st) := s_get (fs := zMS μ a) F hs rfl (ci := 1) rfl in_MS 6 (by decide) rfl k_261 (by rw [← hv]; rfl) hd kk
theorem p_MS_37 (F : zF g x cc R_MS nL fr lo) {a : Nat} {v : Int32} (hd : decode cc pc = .ok (.putfield 37, 3)) (hs : gs g a = (7, 0)) (kk : PW g x (mI μ a 0 v) (pc + 3) L st) : PW g x μ pc L (.int v :: .ref a :: st) := s_put (fs := zMS μ a) (μ' := mI μ a 0 v) F (by decide) hs rfl (ci := 1) rfl in_MS t_MS t_MS_ok n_MS 6 (by decide) rfl rfl k_261 rfl rfl (Nat.le_of_ble_eq_true rfl) hd (fun b hb => mI_o μ _ _ hb) (fun _ _ => rfl) (fun _ _ => rfl) (by
  show some (Sum.inr (1, zMS (mI μ a 0 v) a)) = _
  simp [zMS, mI_1, mI_2]) kk
theorem g_M_82 (F : zF g x cc R_M nL fr lo) {a : Nat} {v : Int32} (hd : decode cc pc = .ok (.getfield 82, 3)) (hs : gs g a = (7, 0)) (hv : (μ.1 a 0) = v) (kk : PW g x μ (pc + 3) L (.int v :: st)) : PW g x μ pc L (.ref a :: st) := s_get (fs := zMS μ a) F hs rfl (ci := 1) rfl in_MS 6 (by decide) rfl k_262 (by rw [← hv]; rfl) hd kk
theorem p_M_82 (F : zF g x cc R_M nL fr lo) {a : Nat} {v : Int32} (hd : decode cc pc = .ok (.putfield 82, 3)) (hs : gs g a = (7, 0)) (kk : PW g x (mI μ a 0 v) (pc + 3) L st) : PW g x μ pc L (.int v :: .ref a :: st) := s_put (fs := zMS μ a) (μ' := mI μ a 0 v) F (by decide) hs rfl (ci := 1) rfl in_MS t_MS t_MS_ok n_MS 6 (by decide) rfl rfl k_262 rfl rfl (Nat.le_of_ble_eq_true rfl) hd (fun b hb => mI_o μ _ _ hb) (fun _ _ => rfl) (fun _ _ => rfl) (by
  show some (Sum.inr (1, zMS (mI μ a 0 v) a)) = _
  simp [zMS, mI_1, mI_2]) kk
theorem g_M_101 (F : zF g x cc R_M nL fr lo) {a : Nat} {v : Int32} (hd : decode cc pc = .ok (.getfield 101, 3)) (hs : gs g a = (7, 0)) (hv : (μ.1 a 1) = v) (kk : PW g x μ (pc + 3) L (.int v :: st)) : PW g x μ pc L (.ref a :: st) := s_get (fs := zMS μ a) F hs rfl (ci := 1) rfl in_MS 7 (by decide) rfl k_263 (by rw [← hv]; rfl) hd kk
theorem p_M_101 (F : zF g x cc R_M nL fr lo) {a : Nat} {v : Int32} (hd : decode cc pc = .ok (.putfield 101, 3)) (hs : gs g a = (7, 0)) (kk : PW g x (mI μ a 1 v) (pc + 3) L st) : PW g x μ pc L (.int v :: .ref a :: st) := s_put (fs := zMS μ a) (μ' := mI μ a 1 v) F (by decide) hs rfl (ci := 1) rfl in_MS t_MS t_MS_ok n_MS 7 (by decide) rfl rfl k_263 rfl rfl (Nat.le_of_ble_eq_true rfl) hd (fun b hb => mI_o μ _ _ hb) (fun _ _ => rfl) (fun _ _ => rfl) (by
  show some (Sum.inr (1, zMS (mI μ a 1 v) a)) = _
  simp [zMS, mI_1, mI_2]) kk
theorem g_M_10 (F : zF g x cc R_M nL fr lo) {a : Nat} (hd : decode cc pc = .ok (.getfield 10, 3)) (hs : gs g a = (9, 0)) (kk : PW g x μ (pc + 3) L (.ref (a + 1) :: st)) : PW g x μ pc L (.ref a :: st) := s_get (fs := zMO μ a) F hs rfl (ci := 3) rfl in_M 0 (by decide) rfl k_283 rfl hd kk
theorem g_M_16 (F : zF g x cc R_M nL fr lo) {a : Nat} (hd : decode cc pc = .ok (.getfield 16, 3)) (hs : gs g a = (9, 0)) (kk : PW g x μ (pc + 3) L (.ref (a + 8) :: st)) : PW g x μ pc L (.ref a :: st) := s_get (fs := zMO μ a) F hs rfl (ci := 3) rfl in_M 1 (by decide) rfl k_284 rfl hd kk
theorem g_M_19 (F : zF g x cc R_M nL fr lo) {a : Nat} (hd : decode cc pc = .ok (.getfield 19, 3)) (hs : gs g a = (9, 0)) (kk : PW g x μ (pc + 3) L (.ref (a + 15) :: st)) : PW g x μ pc L (.ref a :: st) := s_get (fs := zMO μ a) F hs rfl (ci := 3) rfl in_M 2 (by decide) rfl k_285 rfl hd kk
theorem g_M_22 (F : zF g x cc R_M nL fr lo) {a : Nat} (hd : decode cc pc = .ok (.getfield 22, 3)) (hs : gs g a = (9, 0)) (kk : PW g x μ (pc + 3) L (.ref (a + 22) :: st)) : PW g x μ pc L (.ref a :: st) := s_get (fs := zMO μ a) F hs rfl (ci := 3) rfl in_M 3 (by decide) rfl k_286 rfl hd kk
theorem g_M_98 (F : zF g x cc R_M nL fr lo) {a : Nat} {v : Int32} (hd : decode cc pc = .ok (.getfield 98, 3)) (hs : gs g a = (9, 0)) (hv : (μ.1 a 0) = v) (kk : PW g x μ (pc + 3) L (.int v :: st)) : PW g x μ pc L (.ref a :: st) := s_get (fs := zMO μ a) F hs rfl (ci := 3) rfl in_M 4 (by decide) rfl k_287 (by rw [← hv]; rfl) hd kk
theorem p_M_98 (F : zF g x cc R_M nL fr lo) {a : Nat} {v : Int32} (hd : decode cc pc = .ok (.putfield 98, 3)) (hs : gs g a = (9, 0)) (kk : PW g x (mI μ a 0 v) (pc + 3) L st) : PW g x μ pc L (.int v :: .ref a :: st) := s_put (fs := zMO μ a) (μ' := mI μ a 0 v) F (by decide) hs rfl (ci := 3) rfl in_M t_M t_M_ok n_M 4 (by decide) rfl rfl k_287 rfl rfl (Nat.le_of_ble_eq_true rfl) hd (fun b hb => mI_o μ _ _ hb) (fun _ _ => rfl) (fun _ _ => rfl) (by
  show some (Sum.inr (3, zMO (mI μ a 0 v) a)) = _
  simp [zMO, mI_1, mI_2]) kk
theorem g_M_95 (F : zF g x cc R_M nL fr lo) {a : Nat} {v : Int32} (hd : decode cc pc = .ok (.getfield 95, 3)) (hs : gs g a = (9, 0)) (hv : (μ.1 a 1) = v) (kk : PW g x μ (pc + 3) L (.int v :: st)) : PW g x μ pc L (.ref a :: st) := s_get (fs := zMO μ a) F hs rfl (ci := 3) rfl in_M 5 (by decide) rfl k_288 (by rw [← hv]; rfl) hd kk
theorem p_M_95 (F : zF g x cc R_M nL fr lo) {a : Nat} {v : Int32} (hd : decode cc pc = .ok (.putfield 95, 3)) (hs : gs g a = (9, 0)) (kk : PW g x (mI μ a 1 v) (pc + 3) L st) : PW g x μ pc L (.int v :: .ref a :: st) := s_put (fs := zMO μ a) (μ' := mI μ a 1 v) F (by decide) hs rfl (ci := 3) rfl in_M t_M t_M_ok n_M 5 (by decide) rfl rfl k_288 rfl rfl (Nat.le_of_ble_eq_true rfl) hd (fun b hb => mI_o μ _ _ hb) (fun _ _ => rfl) (fun _ _ => rfl) (by
  show some (Sum.inr (3, zMO (mI μ a 1 v) a)) = _
  simp [zMO, mI_1, mI_2]) kk
theorem g_M_26 (F : zF g x cc R_M nL fr lo) {a : Nat} (hd : decode cc pc = .ok (.getfield 26, 3)) (hs : gs g a = (9, 0)) (kk : PW g x μ (pc + 3) L (.ref (a + 23) :: st)) : PW g x μ pc L (.ref a :: st) := s_get (fs := zMO μ a) F hs rfl (ci := 3) rfl in_M 6 (by decide) rfl k_289 rfl hd kk
theorem g_M_30 (F : zF g x cc R_M nL fr lo) {a : Nat} (hd : decode cc pc = .ok (.getfield 30, 3)) (hs : gs g a = (9, 0)) (kk : PW g x μ (pc + 3) L (.ref (a + 24) :: st)) : PW g x μ pc L (.ref a :: st) := s_get (fs := zMO μ a) F hs rfl (ci := 3) rfl in_M 7 (by decide) rfl k_290 rfl hd kk
end ZF
theorem tW_good : ∀ w ∈ tW, (w.onTables && w.keeps) = true ∨ ∃ ty, w = .arrayClass ty := fun w hw => good_of_word (List.mem_filter.mp hw).2
theorem tW_in {y : MethodName} {b : ByteArray} {n : Nat} {r : Option FieldType} (h : Cond.code y b n r ∈ tW) : GoodIn tW (Cond.code y b n r :: tW) := by
  intro w hw
  rcases List.mem_cons.mp hw with rfl | hw
  · exact ⟨h, tW_good _ h⟩
  · exact ⟨hw, tW_good _ hw⟩
def okN (y : MethodName) (n : Nat) : Prop := y.cls ≠ "java/lang/invoke/MethodHandle" ∧ y.cls ≠ "java/lang/invoke/VarHandle" ∧ (parseMethodDescriptor y.desc).map (fun d => d.parameters.length) = some n
def okV (C : String) (y : MethodName) (b : ByteArray) (ml : Nat) (ret : Option FieldType) (n : Nat) : Prop := Cond.instanceMethod y ∈ tW ∧ Cond.selects C y y ∈ tW ∧ Cond.initialized C ∈ tW ∧ Cond.code y b ml ret ∈ tW ∧ y.cls = C ∧ okN y n
def okS (y : MethodName) (b : ByteArray) (ml : Nat) (ret : Option FieldType) (n : Nat) : Prop := Cond.static y ∈ tW ∧ Cond.initialized y.cls ∈ tW ∧ Cond.code y b ml ret ∈ tW ∧ okN y n
/-- an object of the class ci lies at b -/
def zO (g : zG) (b ci : Nat) : Prop := ∀ (c : zCs) (μ : zMem), ∃ fs, zEn c μ b (gs g b) = some (.inr (ci, fs))
theorem oKS {g : zG} {b : Nat} (h : gs g b = (6, 0)) : zO g b 0 := fun c μ => ⟨_, by rw [h]; rfl⟩
theorem oMS {g : zG} {b : Nat} (h : gs g b = (7, 0)) : zO g b 1 := fun c μ => ⟨_, by rw [h]; rfl⟩
theorem oK {g : zG} {b : Nat} (h : gs g b = (8, 0)) : zO g b 2 := fun c μ => ⟨_, by rw [h]; rfl⟩
theorem oM {g : zG} {b : Nat} (h : gs g b = (9, 0)) : zO g b 3 := fun c μ => ⟨_, by rw [h]; rfl⟩
theorem zPre {D : va_G} {cs : zCs} {sh : zSh} {av : List Value} {μ : zMem} : FrameBlind (va_Pc av (fun U => zP D cs sh μ U.heap ∧ va_K D classes (zTys cs) U ∧ zNW U)) := by
  rintro a U g mk ⟨h1, h2, h3, h4⟩
  exact ⟨h1, h2, va_K.moved (u := U) (U := U.calling g mk a) (Vm.Alike.refl U.vm) h3, h4.calling g mk a⟩
section ZC
variable {g : zG} {x : zX} {cc : ByteArray} {own : String} {nL fr lo : Nat} {μ : zMem} {pc : Nat} {L : List (Option Value)} {st : List Value}
theorem s_callV (F : zF g x cc own nL fr lo) {y : MethodName} {b : ByteArray} {ml : Nat} {ret : Option FieldType} {fr' lo' a ci n i : Nat} {C : String} {T : u_T} {N : Nat} {As rest : List Value} {QQ : Option Value → zMem → Prop} (ok : okV C y b ml ret n) (hl : Cond.methodLink own i y ∈ tW) (hc : classes[ci]? = some (C, T, N)) (ho : zO g a ci) (hn : As.length = n) (hL : L.length = nL) (hst : st = As.reverse ++ .ref a :: rest) (hw : (rest.map fun v => v.category).sum ≤ 8) (hr : fr' + 1 ≤ fr ∧ 8 + (ml + 11) + lo' ≤ lo) (hd : decode cc pc = .ok (.invokevirtual i, 3)) (hM : zC g y b ml ret fr' lo' (.ref a :: As) μ QQ)
    (kk : ∀ (v : Option Value) (μ' : zMem), QQ v μ' → PW g x μ' (pc + 3) L (v.toList ++ rest)) : PW g x μ pc L st := by
  obtain ⟨l, D, cs, sh⟩ := g
  obtain ⟨p, e, R, s, m, args, below, meth, c, cells, slots, Q, A⟩ := x
  intro H locs ls hP hS hz2
  have hts := F.2.2.2.2.1
  have hK := F.2.2.2.2.2.1
  obtain ⟨k1, k2, k3, k4, hcl, hok⟩ := ok
  obtain ⟨fs, hE⟩ := ho cs μ
  have hcell := hP.cell rfl hE
  obtain ⟨cellB, w1, w2, w3⟩ := va_recv (q0 := 0) hK (zP1 hcell) hc rfl
  have hG : GoodIn tW (wsV own i C y (Cond.code y b ml ret :: tW)) := by
    intro w hw
    rcases List.mem_append.mp hw with h | h
    · have h' : w ∈ tW := by
        simp only [List.mem_cons, List.not_mem_nil, or_false] at h
        rcases h with rfl | rfl | rfl | rfl
        · exact hl
        · exact k1
        · exact k2
        · exact k3
      exact ⟨h', tW_good _ h'⟩
    · exact tW_in k4 w h
  have hfr : R.frames = fr := F.2.2.2.2.2.2.2.2.2.1
  have hlo : R.locals = lo := F.2.2.2.2.2.2.2.2.2.2.1
  have run := va_runV (H := H) (locs := locs) (cells := cells) (slots := slots) (below := below) (meth := meth) (e := e) (rest := rest) (g := F0 m pc ls st) ⟨F.1, F.2.1, F.2.2.1, F.2.2.2.1, hts⟩ hM (cwV n hts hG rfl rfl rfl ⟨hcl, hok⟩ (by rw [hfr, hlo]; exact hr)) ⟨zPre, ⟨cellB, w1, w2, w3⟩, fun U hU hW => ⟨rfl, by rw [hU]; exact hP, va_K.moved hW.alike hK, F.2.2.2.2.2.2.1.warm hW⟩⟩ rfl hn (hz2.1.trans hL) hst (lv_room hw) hd ⟨F.2.2.2.2.2.2.2.2.2.2.2.1, F.2.2.2.2.2.2.2.2.2.2.2.2⟩
  intro T hT X
  obtain ⟨v, st₀, t, T', L', h0, X', hL', e1, e2, ⟨⟨v', μ', hv, hq, hP'⟩, hz, hk⟩, stp⟩ := run T hT X
  cases hv
  rw [h0] at hz hk
  have hA := F.2.2.2.2.2.2.2.1
  have hSn : va_S A s.heap T'.heap (locs ++ L') := ⟨Nat.le_trans hS.1 (by rw [e1]; exact hz), fun q h1 h2 => by rw [e1, hk q (Nat.lt_of_lt_of_le h1 hS.1) (fun z => h2 (hA q z))]; exact hS.2.1 q h1 h2, fun q hq => by
      rcases List.mem_append.mp hq with h | h
      · exact hS.2.2 q h
      · exact hA _ (hL' q h)⟩
  obtain ⟨t2, a1, b1⟩ := kk v μ' hq T'.heap (locs ++ L') ls (by rw [e1]; exact hP') hSn hz2 T' rfl X'
  exact ⟨t2, stp t2 a1, b1⟩
theorem s_callS (F : zF g x cc own nL fr lo) {y : MethodName} {b : ByteArray} {ml : Nat} {ret : Option FieldType} {fr' lo' n i : Nat} {As rest : List Value} {QQ : Option Value → zMem → Prop} (ok : okS y b ml ret n) (hl : Cond.methodLink own i y ∈ tW) (hown : y.cls = own) (hn : As.length = n) (hL : L.length = nL) (hst : st = As.reverse ++ rest) (hw : (rest.map fun v => v.category).sum ≤ 8) (hr : fr' + 1 ≤ fr ∧ 8 + (ml + 11) + lo' ≤ lo) (hd : decode cc pc = .ok (.invokestatic i, 3)) (hM : zC g y b ml ret fr' lo' As μ QQ)
    (kk : ∀ (v : Option Value) (μ' : zMem), QQ v μ' → PW g x μ' (pc + 3) L (v.toList ++ rest)) : PW g x μ pc L st := by
  obtain ⟨l, D, cs, sh⟩ := g
  obtain ⟨p, e, R, s, m, args, below, meth, c, cells, slots, Q, A⟩ := x
  intro H locs ls hP hS hz2
  have hts := F.2.2.2.2.1
  have hK := F.2.2.2.2.2.1
  obtain ⟨k1, k3, k4, hok⟩ := ok
  have hG : GoodIn tW (wsS own i y (Cond.code y b ml ret :: tW)) := by
    intro w hw
    rcases List.mem_append.mp hw with h | h
    · have h' : w ∈ tW := by
        simp only [List.mem_cons, List.not_mem_nil, or_false] at h
        rcases h with rfl | rfl | rfl
        · exact hl
        · exact k1
        · rw [← hown]; exact k3
      exact ⟨h', tW_good _ h'⟩
    · exact tW_in k4 w h
  have hfr : R.frames = fr := F.2.2.2.2.2.2.2.2.2.1
  have hlo : R.locals = lo := F.2.2.2.2.2.2.2.2.2.2.1
  have run := va_runS (H := H) (locs := locs) (cells := cells) (slots := slots) (below := below) (meth := meth) (e := e) (rest := rest) (g := F0 m pc ls st) ⟨F.1, F.2.1, F.2.2.1, F.2.2.2.1, hts⟩ hM (cwS n hts hG rfl rfl rfl ⟨hown, hok⟩ (by rw [hfr, hlo]; exact hr)) ⟨zPre, fun U hU hW => ⟨rfl, by rw [hU]; exact hP, va_K.moved hW.alike hK, F.2.2.2.2.2.2.1.warm hW⟩⟩ rfl hn (hz2.1.trans hL) hst (lv_room hw) hd ⟨F.2.2.2.2.2.2.2.2.2.2.2.1, F.2.2.2.2.2.2.2.2.2.2.2.2⟩
  intro T hT X
  obtain ⟨v, st₀, t, T', L', h0, X', hL', e1, e2, ⟨⟨v', μ', hv, hq, hP'⟩, hz, hk⟩, stp⟩ := run T hT X
  cases hv
  rw [h0] at hz hk
  have hA := F.2.2.2.2.2.2.2.1
  have hSn : va_S A s.heap T'.heap (locs ++ L') := ⟨Nat.le_trans hS.1 (by rw [e1]; exact hz), fun q h1 h2 => by rw [e1, hk q (Nat.lt_of_lt_of_le h1 hS.1) (fun z => h2 (hA q z))]; exact hS.2.1 q h1 h2, fun q hq => by
      rcases List.mem_append.mp hq with h | h
      · exact hS.2.2 q h
      · exact hA _ (hL' q h)⟩
  obtain ⟨t2, a1, b1⟩ := kk v μ' hq T'.heap (locs ++ L') ls (by rw [e1]; exact hP') hSn hz2 T' rfl X'
  exact ⟨t2, stp t2 a1, b1⟩
def mCI (μ : zMem) (a0 a n : Nat) : zMem := (va_up μ.1 a (va_cpy (μ.1 a0) (μ.1 a) 0 0 n), μ.2)
def mCL (μ : zMem) (a0 a n : Nat) : zMem := (μ.1, va_up μ.2.1 a (va_cpy (μ.2.1 a0) (μ.2.1 a) 0 0 n), μ.2.2)
theorem s_copyI (F : zF g x cc R_MS nL fr lo) {a0 a n0 n : Nat} (hs0 : gs g a0 = (1, n0)) (hs1 : gs g a = (1, n0)) (hn : n ≤ n0) (hn0 : n0 ≤ 2000) (hL : L.length = nL) (hw : (st.map fun v => v.category).sum + (nativeFrameWords "java/lang/System" "arraycopy" 5 + 11) ≤ lo) (hr : 1 ≤ fr) (hd : decode cc pc = .ok (.invokestatic 31, 3))
    (k : PW g x (mCI μ a0 a n) (pc + 3) L st) : PW g x μ pc L (.int (nI n) :: .int (nI 0) :: .ref a :: .int (nI 0) :: .ref a0 :: st) := by
  obtain ⟨l, D, cs, sh⟩ := g
  obtain ⟨p, e, R, s, m, args, below, meth, c, cells, slots, Q, A⟩ := x
  intro H locs ls hP hS hl
  have hts := F.2.2.2.2.1
  have hK := F.2.2.2.2.2.1
  have e0 : (nI 0).toNatClampNeg = 0 := nI_clamp (by omega)
  have en : (nI n).toNatClampNeg = n := nI_clamp (by omega)
  have p0 : ¬ nI 0 < 0 := nI_pos (by omega)
  have pn : ¬ nI n < 0 := nI_pos (by omega)
  have i0 : (nI 0).toInt = 0 := nI_toInt (by omega)
  have iN : (nI n).toInt = (n : Int) := nI_toInt (by omega)
  have hfr : R.frames = fr := F.2.2.2.2.2.2.2.2.2.1
  have hlo : R.locals = lo := F.2.2.2.2.2.2.2.2.2.2.1
  intro T hT X
  have hc0 : H[a0]? = some (vp_cell cs.1 (n0, .inl (μ.1 a0))) := hP.cell hs0 rfl
  have hc1 : H[a]? = some (vp_cell cs.1 (n0, .inl (μ.1 a))) := hP.cell hs1 rfl
  obtain ⟨-, k0, hk0, cm0, hkk0⟩ := (hK.2 0 _ rfl).1 n0 (fun j => .int (μ.1 a0 j))
  obtain ⟨-, k1, hk1, cm1, hkk1⟩ := (hK.2 0 _ rfl).1 n0 (fun j => .int (μ.1 a j))
  obtain ⟨vm', X', step⟩ := X.arraycopy F.1 F.2.2.2.1 (hts _ k_395) (hts _ k_397) (hts _ k_396) (hts _ k_5) (src := a0) (dst := a) (cs := vp_cell cs.1 (n0, .inl (μ.1 a0))) (cd := vp_cell cs.1 (n0, .inl (μ.1 a))) (srcPos := nI 0) (destPos := nI 0) (n := nI n) (by rw [hT]; exact hc0) (by rw [hT]; exact hc1)
    (fun _ h => by cases h) (fun _ h => by cases h) (fun h => by cases h) (fun h => by cases h) hk0 hk1 hkk0 hkk1 (by dsimp only; decide) p0 p0 pn
    (by rw [i0, iN]; show ¬ _ > ((arrV cs.1 n0 (fun j => .int (μ.1 a0 j))).slots.size : Int); rw [arrV_size]; omega)
    (by rw [i0, iN]; show ¬ _ > ((arrV cs.1 n0 (fun j => .int (μ.1 a j))).slots.size : Int); rw [arrV_size]; omega)
    (fun vm₁ _ i hi => by
      rw [e0, Nat.zero_add]
      have e : (vp_cell cs.1 (n0, .inl (μ.1 a0))).slots.getD i .null = .int (μ.1 a0 i) := by
        show (arrV cs.1 n0 (fun j => .int (μ.1 a0 j))).slots.getD _ _ = _
        rw [Array.getD_eq_getD_getElem?, arrV_read _ _ (by omega)]
        rfl
      refine ⟨?_, ?_⟩
      · rw [e]
        rfl
      · rw [e]
        exact trivial)
    (g := F0 m pc ls (.int (nI n) :: .int (nI 0) :: .ref a :: .int (nI 0) :: .ref a0 :: st)) rfl (by rw [show c.maxLocals = nL from F.2.2.1, ← hL]; exact hl.1) (rest := st) rfl (by rw [show c.code = cc from F.2.1]; exact hd) (by rw [hfr]; exact hr) (by rw [hlo]; show 2 * 0 + _ + _ ≤ _; omega)
  have e1 : copied (vp_cell cs.1 (n0, .inl (μ.1 a0))) (vp_cell cs.1 (n0, .inl (μ.1 a))) (nI 0) (nI 0) (nI n) = vp_cell cs.1 (n0, .inl (va_cpy (μ.1 a0) (μ.1 a) 0 0 n)) := by
    have h := va_copied (fun z => .int z) cs.1 cs.1 (n0 := n0) (n1 := n0) (sp := 0) (dp := 0) (n := n) (μ.1 a0) (μ.1 a) (by omega)
    unfold copied
    rw [e0, en]
    exact h
  rw [e1] at X' step
  have hlt : a < H.size := (Array.getElem?_eq_some_iff.mp hc1).1
  have hheap : ((T.setVm vm').setCell a (vp_cell cs.1 (n0, .inl (va_cpy (μ.1 a0) (μ.1 a) 0 0 n)))).heap = H.setIfInBounds a (vp_cell cs.1 (n0, .inl (va_cpy (μ.1 a0) (μ.1 a) 0 0 n))) := by rw [← hT]; rfl
  have oq : ∀ q : Nat, q ≠ a → (H.setIfInBounds a (vp_cell cs.1 (n0, .inl (va_cpy (μ.1 a0) (μ.1 a) 0 0 n))))[q]? = H[q]? := fun q hq => by simp [Array.getElem?_setIfInBounds, Ne.symm hq]
  have hA : A a := F.2.2.2.2.2.2.2.1 a (by rw [show sh a = (1, n0) from hs1]; intro h; cases h)
  obtain ⟨t, a1, b1⟩ := k _ _ ls (hP.upd (a := a) (fun b hb => va_up_ne _ _ hb) (fun b hb => rfl) (fun b hb => rfl) hs1 rfl (show (H.setIfInBounds a _)[a]? = some _ by simp [Array.getElem?_setIfInBounds, hlt, mCI, va_up_self]) oq) ⟨by simp; exact hS.1, fun q g1 g2 => by
      rw [oq q (fun e => g2 (by rw [e]; exact hA))]
      exact hS.2.1 q g1 g2, fun q hq => by
      rcases List.mem_append.mp hq with h | h
      · exact hS.2.2 q h
      · obtain ⟨z, -, hz⟩ := List.mem_map.mp h
        rw [← hz]
        exact hA⟩ hl _ hheap X'
  exact ⟨t, step t a1, b1⟩
theorem s_copyL (F : zF g x cc R_MS nL fr lo) {a0 a n0 n : Nat} (hs0 : gs g a0 = (3, n0)) (hs1 : gs g a = (3, n0)) (hn : n ≤ n0) (hn0 : n0 ≤ 2000) (hL : L.length = nL) (hw : (st.map fun v => v.category).sum + (nativeFrameWords "java/lang/System" "arraycopy" 5 + 11) ≤ lo) (hr : 1 ≤ fr) (hd : decode cc pc = .ok (.invokestatic 31, 3))
    (k : PW g x (mCL μ a0 a n) (pc + 3) L st) : PW g x μ pc L (.int (nI n) :: .int (nI 0) :: .ref a :: .int (nI 0) :: .ref a0 :: st) := by
  obtain ⟨l, D, cs, sh⟩ := g
  obtain ⟨p, e, R, s, m, args, below, meth, c, cells, slots, Q, A⟩ := x
  intro H locs ls hP hS hl
  have hts := F.2.2.2.2.1
  have hK := F.2.2.2.2.2.1
  have e0 : (nI 0).toNatClampNeg = 0 := nI_clamp (by omega)
  have en : (nI n).toNatClampNeg = n := nI_clamp (by omega)
  have p0 : ¬ nI 0 < 0 := nI_pos (by omega)
  have pn : ¬ nI n < 0 := nI_pos (by omega)
  have i0 : (nI 0).toInt = 0 := nI_toInt (by omega)
  have iN : (nI n).toInt = (n : Int) := nI_toInt (by omega)
  have hfr : R.frames = fr := F.2.2.2.2.2.2.2.2.2.1
  have hlo : R.locals = lo := F.2.2.2.2.2.2.2.2.2.2.1
  intro T hT X
  have hc0 : H[a0]? = some (vp_cell cs.2.2.1 (n0, .inr (.inl (μ.2.1 a0)))) := hP.cell hs0 rfl
  have hc1 : H[a]? = some (vp_cell cs.2.2.1 (n0, .inr (.inl (μ.2.1 a)))) := hP.cell hs1 rfl
  obtain ⟨-, k0, hk0, cm0, hkk0⟩ := (hK.2 2 _ rfl).1 n0 (fun j => .long (μ.2.1 a0 j))
  obtain ⟨-, k1, hk1, cm1, hkk1⟩ := (hK.2 2 _ rfl).1 n0 (fun j => .long (μ.2.1 a j))
  obtain ⟨vm', X', step⟩ := X.arraycopy F.1 F.2.2.2.1 (hts _ k_395) (hts _ k_397) (hts _ k_396) (hts _ k_5) (src := a0) (dst := a) (cs := vp_cell cs.2.2.1 (n0, .inr (.inl (μ.2.1 a0)))) (cd := vp_cell cs.2.2.1 (n0, .inr (.inl (μ.2.1 a)))) (srcPos := nI 0) (destPos := nI 0) (n := nI n) (by rw [hT]; exact hc0) (by rw [hT]; exact hc1)
    (fun _ h => by cases h) (fun _ h => by cases h) (fun h => by cases h) (fun h => by cases h) hk0 hk1 hkk0 hkk1 (by dsimp only; decide) p0 p0 pn
    (by rw [i0, iN]; show ¬ _ > ((arrV cs.2.2.1 n0 (fun j => .long (μ.2.1 a0 j))).slots.size : Int); rw [arrV_size]; omega)
    (by rw [i0, iN]; show ¬ _ > ((arrV cs.2.2.1 n0 (fun j => .long (μ.2.1 a j))).slots.size : Int); rw [arrV_size]; omega)
    (fun vm₁ _ i hi => by
      rw [e0, Nat.zero_add]
      have e : (vp_cell cs.2.2.1 (n0, .inr (.inl (μ.2.1 a0)))).slots.getD i .null = .long (μ.2.1 a0 i) := by
        show (arrV cs.2.2.1 n0 (fun j => .long (μ.2.1 a0 j))).slots.getD _ _ = _
        rw [Array.getD_eq_getD_getElem?, arrV_read _ _ (by omega)]
        rfl
      refine ⟨?_, ?_⟩
      · rw [e]
        rfl
      · rw [e]
        exact trivial)
    (g := F0 m pc ls (.int (nI n) :: .int (nI 0) :: .ref a :: .int (nI 0) :: .ref a0 :: st)) rfl (by rw [show c.maxLocals = nL from F.2.2.1, ← hL]; exact hl.1) (rest := st) rfl (by rw [show c.code = cc from F.2.1]; exact hd) (by rw [hfr]; exact hr) (by rw [hlo]; show 2 * 0 + _ + _ ≤ _; omega)
  have e1 : copied (vp_cell cs.2.2.1 (n0, .inr (.inl (μ.2.1 a0)))) (vp_cell cs.2.2.1 (n0, .inr (.inl (μ.2.1 a)))) (nI 0) (nI 0) (nI n) = vp_cell cs.2.2.1 (n0, .inr (.inl (va_cpy (μ.2.1 a0) (μ.2.1 a) 0 0 n))) := by
    have h := va_copied (fun z => .long z) cs.2.2.1 cs.2.2.1 (n0 := n0) (n1 := n0) (sp := 0) (dp := 0) (n := n) (μ.2.1 a0) (μ.2.1 a) (by omega)
    unfold copied
    rw [e0, en]
    exact h
  rw [e1] at X' step
  have hlt : a < H.size := (Array.getElem?_eq_some_iff.mp hc1).1
  have hheap : ((T.setVm vm').setCell a (vp_cell cs.2.2.1 (n0, .inr (.inl (va_cpy (μ.2.1 a0) (μ.2.1 a) 0 0 n))))).heap = H.setIfInBounds a (vp_cell cs.2.2.1 (n0, .inr (.inl (va_cpy (μ.2.1 a0) (μ.2.1 a) 0 0 n)))) := by rw [← hT]; rfl
  have oq : ∀ q : Nat, q ≠ a → (H.setIfInBounds a (vp_cell cs.2.2.1 (n0, .inr (.inl (va_cpy (μ.2.1 a0) (μ.2.1 a) 0 0 n)))))[q]? = H[q]? := fun q hq => by simp [Array.getElem?_setIfInBounds, Ne.symm hq]
  have hA : A a := F.2.2.2.2.2.2.2.1 a (by rw [show sh a = (3, n0) from hs1]; intro h; cases h)
  obtain ⟨t, a1, b1⟩ := k _ _ ls (hP.upd (a := a) (fun b hb => rfl) (fun b hb => va_up_ne _ _ hb) (fun b hb => rfl) hs1 rfl (show (H.setIfInBounds a _)[a]? = some _ by simp [Array.getElem?_setIfInBounds, hlt, mCL, va_up_self]) oq) ⟨by simp; exact hS.1, fun q g1 g2 => by
      rw [oq q (fun e => g2 (by rw [e]; exact hA))]
      exact hS.2.1 q g1 g2, fun q hq => by
      rcases List.mem_append.mp hq with h | h
      · exact hS.2.2 q h
      · obtain ⟨z, -, hz⟩ := List.mem_map.mp h
        rw [← hz]
        exact hA⟩ hl _ hheap X'
  exact ⟨t, step t a1, b1⟩
end ZC
theorem ok_K_make : okV "KeepHeap" y_K_make b_K_make 3 (some .int) 1 := ⟨k_90, k_91, k_1, k_92, rfl, ⟨by decide +kernel, by decide +kernel, by decide +kernel⟩⟩
theorem ok_KS_make : okV "KeepHeap$State" y_KS_make b_KS_make 3 (some .int) 1 := ⟨k_94, k_95, k_2, k_96, rfl, ⟨by decide +kernel, by decide +kernel, by decide +kernel⟩⟩
theorem ok_K_set : okV "KeepHeap" y_K_set b_K_set 5 (some .int) 4 := ⟨k_98, k_99, k_1, k_100, rfl, ⟨by decide +kernel, by decide +kernel, by decide +kernel⟩⟩
theorem ok_K_is : okV "KeepHeap" y_K_is b_K_is 3 (some .boolean) 2 := ⟨k_103, kp_0, k_1, k_104, rfl, ⟨by decide +kernel, by decide +kernel, by decide +kernel⟩⟩
theorem ok_K_isValue : okV "KeepHeap" y_K_isValue b_K_isValue 3 (some .boolean) 2 := ⟨k_107, kp_1, k_1, k_108, rfl, ⟨by decide +kernel, by decide +kernel, by decide +kernel⟩⟩
theorem ok_K_plain : okS y_K_plain b_K_plain 2 (some .int) 2 := ⟨k_110, k_1, k_111, ⟨by decide +kernel, by decide +kernel, by decide +kernel⟩⟩
theorem ok_KS_setField : okV "KeepHeap$State" y_KS_setField b_KS_setField 8 (some .boolean) 4 := ⟨k_113, k_114, k_2, k_115, rfl, ⟨by decide +kernel, by decide +kernel, by decide +kernel⟩⟩
theorem ok_KS_findField : okV "KeepHeap$State" y_KS_findField b_KS_findField 4 (some .int) 2 := ⟨k_117, k_118, k_2, k_119, rfl, ⟨by decide +kernel, by decide +kernel, by decide +kernel⟩⟩
theorem ok_KS_store : okV "KeepHeap$State" y_KS_store b_KS_store 5 none 4 := ⟨k_121, k_122, k_2, k_123, rfl, ⟨by decide +kernel, by decide +kernel, by decide +kernel⟩⟩
theorem ok_K_get : okV "KeepHeap" y_K_get b_K_get 4 (some .long) 2 := ⟨k_125, k_126, k_1, k_127, rfl, ⟨by decide +kernel, by decide +kernel, by decide +kernel⟩⟩
theorem ok_K_told : okS y_K_told b_K_told 2 (some .long) 2 := ⟨k_132, k_1, k_133, ⟨by decide +kernel, by decide +kernel, by decide +kernel⟩⟩
theorem ok_K_push : okV "KeepHeap" y_K_push b_K_push 4 (some .int) 3 := ⟨k_136, k_137, k_1, k_138, rfl, ⟨by decide +kernel, by decide +kernel, by decide +kernel⟩⟩
theorem ok_K_pop : okV "KeepHeap" y_K_pop b_K_pop 3 (some .long) 1 := ⟨k_141, k_142, k_1, k_143, rfl, ⟨by decide +kernel, by decide +kernel, by decide +kernel⟩⟩
theorem ok_K_put : okV "KeepHeap" y_K_put b_K_put 5 (some .int) 4 := ⟨k_145, k_146, k_1, k_147, rfl, ⟨by decide +kernel, by decide +kernel, by decide +kernel⟩⟩
theorem ok_K_isItem : okV "KeepHeap" y_K_isItem b_K_isItem 3 (some .boolean) 2 := ⟨k_150, kp_2, k_1, k_151, rfl, ⟨by decide +kernel, by decide +kernel, by decide +kernel⟩⟩
theorem ok_K_item : okV "KeepHeap" y_K_item b_K_item 4 (some .long) 2 := ⟨k_153, k_154, k_1, k_155, rfl, ⟨by decide +kernel, by decide +kernel, by decide +kernel⟩⟩
theorem ok_K_root : okV "KeepHeap" y_K_root b_K_root 4 (some .int) 3 := ⟨k_157, k_158, k_1, k_159, rfl, ⟨by decide +kernel, by decide +kernel, by decide +kernel⟩⟩
theorem ok_KS_setRoot : okV "KeepHeap$State" y_KS_setRoot b_KS_setRoot 5 (some .boolean) 3 := ⟨k_161, k_162, k_2, k_163, rfl, ⟨by decide +kernel, by decide +kernel, by decide +kernel⟩⟩
theorem ok_KS_findRoot : okV "KeepHeap$State" y_KS_findRoot b_KS_findRoot 3 (some .int) 1 := ⟨k_165, k_166, k_2, k_167, rfl, ⟨by decide +kernel, by decide +kernel, by decide +kernel⟩⟩
theorem ok_K_rooted : okV "KeepHeap" y_K_rooted b_K_rooted 3 (some .long) 1 := ⟨k_169, k_170, k_1, k_171, rfl, ⟨by decide +kernel, by decide +kernel, by decide +kernel⟩⟩
theorem ok_K_commit : okV "KeepHeap" y_K_commit b_K_commit 2 (some .int) 0 := ⟨k_174, k_175, k_1, k_176, rfl, ⟨by decide +kernel, by decide +kernel, by decide +kernel⟩⟩
theorem ok_KS_changes : okV "KeepHeap$State" y_KS_changes b_KS_changes 4 (some .int) 1 := ⟨k_178, k_179, k_2, k_180, rfl, ⟨by decide +kernel, by decide +kernel, by decide +kernel⟩⟩
theorem ok_KS_rootsChanged : okV "KeepHeap$State" y_KS_rootsChanged b_KS_rootsChanged 5 (some .int) 1 := ⟨k_183, kp_3, k_2, k_184, rfl, ⟨by decide +kernel, by decide +kernel, by decide +kernel⟩⟩
theorem ok_KS_sameObject : okV "KeepHeap$State" y_KS_sameObject b_KS_sameObject 4 (some .boolean) 2 := ⟨k_187, kp_4, k_2, k_188, rfl, ⟨by decide +kernel, by decide +kernel, by decide +kernel⟩⟩
theorem ok_K_write : okV "KeepHeap" y_K_write b_K_write 4 none 1 := ⟨k_191, kp_5, k_1, k_192, rfl, ⟨by decide +kernel, by decide +kernel, by decide +kernel⟩⟩
theorem ok_KS_copy : okV "KeepHeap$State" y_KS_copy b_KS_copy 4 none 1 := ⟨k_194, k_195, k_2, k_196, rfl, ⟨by decide +kernel, by decide +kernel, by decide +kernel⟩⟩
theorem ok_K_undo : okV "KeepHeap" y_K_undo b_K_undo 2 (some .int) 0 := ⟨k_198, k_199, k_1, k_200, rfl, ⟨by decide +kernel, by decide +kernel, by decide +kernel⟩⟩
theorem ok_K_sweep : okV "KeepHeap" y_K_sweep b_K_sweep 2 (some .int) 0 := ⟨k_202, k_203, k_1, k_204, rfl, ⟨by decide +kernel, by decide +kernel, by decide +kernel⟩⟩
theorem ok_KS_sweep : okV "KeepHeap$State" y_KS_sweep b_KS_sweep 3 (some .int) 0 := ⟨k_206, k_207, k_2, k_208, rfl, ⟨by decide +kernel, by decide +kernel, by decide +kernel⟩⟩
theorem ok_KS_reach : okV "KeepHeap$State" y_KS_reach b_KS_reach 3 none 2 := ⟨k_211, kp_6, k_2, k_212, rfl, ⟨by decide +kernel, by decide +kernel, by decide +kernel⟩⟩
theorem ok_K_sync : okV "KeepHeap" y_K_sync b_K_sync 2 (some .int) 0 := ⟨k_214, k_215, k_1, k_216, rfl, ⟨by decide +kernel, by decide +kernel, by decide +kernel⟩⟩
theorem ok_K_crash : okV "KeepHeap" y_K_crash b_K_crash 5 (some .int) 1 := ⟨k_218, k_219, k_1, k_220, rfl, ⟨by decide +kernel, by decide +kernel, by decide +kernel⟩⟩
theorem ok_K_kind : okV "KeepHeap" y_K_kind b_K_kind 2 (some .int) 1 := ⟨k_222, k_223, k_1, k_224, rfl, ⟨by decide +kernel, by decide +kernel, by decide +kernel⟩⟩
theorem ok_K_size : okV "KeepHeap" y_K_size b_K_size 2 (some .int) 1 := ⟨k_226, k_227, k_1, k_228, rfl, ⟨by decide +kernel, by decide +kernel, by decide +kernel⟩⟩
theorem ok_K_count : okV "KeepHeap" y_K_count b_K_count 2 (some .int) 1 := ⟨k_230, k_231, k_1, k_232, rfl, ⟨by decide +kernel, by decide +kernel, by decide +kernel⟩⟩
theorem ok_KS_objects : okV "KeepHeap$State" y_KS_objects b_KS_objects 3 (some .int) 0 := ⟨k_234, k_235, k_2, k_236, rfl, ⟨by decide +kernel, by decide +kernel, by decide +kernel⟩⟩
theorem ok_M_make : okV "KeepHeapModel" y_M_make b_M_make 3 (some .int) 1 := ⟨k_309, k_310, k_3, k_311, rfl, ⟨by decide +kernel, by decide +kernel, by decide +kernel⟩⟩
theorem ok_M_set : okV "KeepHeapModel" y_M_set b_M_set 9 (some .int) 4 := ⟨k_313, k_314, k_3, k_315, rfl, ⟨by decide +kernel, by decide +kernel, by decide +kernel⟩⟩
theorem ok_M_is : okV "KeepHeapModel" y_M_is b_M_is 3 (some .boolean) 2 := ⟨k_318, kp_7, k_3, k_319, rfl, ⟨by decide +kernel, by decide +kernel, by decide +kernel⟩⟩
theorem ok_M_in : okS y_M_in b_M_in 6 (some .boolean) 3 := ⟨k_322, k_3, k_323, ⟨by decide +kernel, by decide +kernel, by decide +kernel⟩⟩
theorem ok_M_isValue : okV "KeepHeapModel" y_M_isValue b_M_isValue 3 (some .boolean) 2 := ⟨k_326, kp_8, k_3, k_327, rfl, ⟨by decide +kernel, by decide +kernel, by decide +kernel⟩⟩
theorem ok_M_isThere : okV "KeepHeapModel" y_M_isThere b_M_isThere 2 (some .boolean) 1 := ⟨k_330, kp_9, k_3, k_331, rfl, ⟨by decide +kernel, by decide +kernel, by decide +kernel⟩⟩
theorem ok_MS_findField : okV "KeepHeapModel$State" y_MS_findField b_MS_findField 4 (some .int) 2 := ⟨k_333, k_334, k_4, k_335, rfl, ⟨by decide +kernel, by decide +kernel, by decide +kernel⟩⟩
theorem ok_M_value : okS y_M_value b_M_value 2 (some .long) 2 := ⟨k_337, k_3, k_338, ⟨by decide +kernel, by decide +kernel, by decide +kernel⟩⟩
theorem ok_M_get : okV "KeepHeapModel" y_M_get b_M_get 4 (some .long) 2 := ⟨k_342, k_343, k_3, k_344, rfl, ⟨by decide +kernel, by decide +kernel, by decide +kernel⟩⟩
theorem ok_M_push : okV "KeepHeapModel" y_M_push b_M_push 4 (some .int) 3 := ⟨k_347, k_348, k_3, k_349, rfl, ⟨by decide +kernel, by decide +kernel, by decide +kernel⟩⟩
theorem ok_M_pop : okV "KeepHeapModel" y_M_pop b_M_pop 2 (some .long) 1 := ⟨k_351, k_352, k_3, k_353, rfl, ⟨by decide +kernel, by decide +kernel, by decide +kernel⟩⟩
theorem ok_M_put : okV "KeepHeapModel" y_M_put b_M_put 5 (some .int) 4 := ⟨k_355, k_356, k_3, k_357, rfl, ⟨by decide +kernel, by decide +kernel, by decide +kernel⟩⟩
theorem ok_M_item : okV "KeepHeapModel" y_M_item b_M_item 3 (some .long) 2 := ⟨k_359, k_360, k_3, k_361, rfl, ⟨by decide +kernel, by decide +kernel, by decide +kernel⟩⟩
theorem ok_M_root : okV "KeepHeapModel" y_M_root b_M_root 5 (some .int) 3 := ⟨k_363, k_364, k_3, k_365, rfl, ⟨by decide +kernel, by decide +kernel, by decide +kernel⟩⟩
theorem ok_MS_findRoot : okV "KeepHeapModel$State" y_MS_findRoot b_MS_findRoot 3 (some .int) 1 := ⟨k_367, k_368, k_4, k_369, rfl, ⟨by decide +kernel, by decide +kernel, by decide +kernel⟩⟩
theorem ok_M_rooted : okV "KeepHeapModel" y_M_rooted b_M_rooted 3 (some .long) 1 := ⟨k_371, k_372, k_3, k_373, rfl, ⟨by decide +kernel, by decide +kernel, by decide +kernel⟩⟩
theorem ok_M_commit : okV "KeepHeapModel" y_M_commit b_M_commit 2 (some .int) 0 := ⟨k_375, k_376, k_3, k_377, rfl, ⟨by decide +kernel, by decide +kernel, by decide +kernel⟩⟩
theorem ok_MS_bytesBehind : okV "KeepHeapModel$State" y_MS_bytesBehind b_MS_bytesBehind 5 (some .int) 1 := ⟨k_379, k_380, k_4, k_381, rfl, ⟨by decide +kernel, by decide +kernel, by decide +kernel⟩⟩
theorem ok_MS_isSame : okV "KeepHeapModel$State" y_MS_isSame b_MS_isSame 4 (some .boolean) 2 := ⟨k_383, k_384, k_4, k_385, rfl, ⟨by decide +kernel, by decide +kernel, by decide +kernel⟩⟩
theorem ok_M_keep : okV "KeepHeapModel" y_M_keep b_M_keep 4 none 1 := ⟨k_389, kp_10, k_3, k_390, rfl, ⟨by decide +kernel, by decide +kernel, by decide +kernel⟩⟩
theorem ok_MS_copy : okV "KeepHeapModel$State" y_MS_copy b_MS_copy 2 none 1 := ⟨k_392, k_393, k_4, k_394, rfl, ⟨by decide +kernel, by decide +kernel, by decide +kernel⟩⟩
theorem ok_M_undo : okV "KeepHeapModel" y_M_undo b_M_undo 2 (some .int) 0 := ⟨k_399, k_400, k_3, k_401, rfl, ⟨by decide +kernel, by decide +kernel, by decide +kernel⟩⟩
theorem ok_M_sweep : okV "KeepHeapModel" y_M_sweep b_M_sweep 7 (some .int) 0 := ⟨k_403, k_404, k_3, k_405, rfl, ⟨by decide +kernel, by decide +kernel, by decide +kernel⟩⟩
theorem ok_M_reach : okV "KeepHeapModel" y_M_reach b_M_reach 4 (some .int) 2 := ⟨k_408, kp_11, k_3, k_409, rfl, ⟨by decide +kernel, by decide +kernel, by decide +kernel⟩⟩
theorem ok_M_sync : okV "KeepHeapModel" y_M_sync b_M_sync 2 (some .int) 0 := ⟨k_411, k_412, k_3, k_413, rfl, ⟨by decide +kernel, by decide +kernel, by decide +kernel⟩⟩
theorem ok_M_crash : okV "KeepHeapModel" y_M_crash b_M_crash 6 (some .int) 1 := ⟨k_415, k_416, k_3, k_417, rfl, ⟨by decide +kernel, by decide +kernel, by decide +kernel⟩⟩
theorem ok_M_kind : okV "KeepHeapModel" y_M_kind b_M_kind 2 (some .int) 1 := ⟨k_419, k_420, k_3, k_421, rfl, ⟨by decide +kernel, by decide +kernel, by decide +kernel⟩⟩
theorem ok_M_size : okV "KeepHeapModel" y_M_size b_M_size 2 (some .int) 1 := ⟨k_423, k_424, k_3, k_425, rfl, ⟨by decide +kernel, by decide +kernel, by decide +kernel⟩⟩
theorem ok_M_count : okV "KeepHeapModel" y_M_count b_M_count 7 (some .int) 1 := ⟨k_427, k_428, k_3, k_429, rfl, ⟨by decide +kernel, by decide +kernel, by decide +kernel⟩⟩
end
section
section ZR2
variable {g : zG} {x : zX} {cc : ByteArray} {own : String} {nL fr lo : Nat} {μ : zMem} {pc : Nat} {L : List (Option Value)} {st : List Value}
theorem nI_e0 {a : Nat} (ha : a < 2 ^ 31) : nI a = 0 ↔ a = 0 := by
  constructor
  · intro h
    by_cases h0 : a = 0
    · exact h0
    · exact absurd h (nI_ne0 (by omega) ha)
  · intro h; subst h; exact nI_0
theorem n_if_eq (F : zF g x cc own nL fr lo) {a : Nat} {off : Int} (t : Nat) (hd : decode cc pc = .ok (.ifCond .eq off, 3)) (ht : (pc : Int) + off = (t : Int)) (ha : a < 2 ^ 31)
    (kt : a = 0 → PW g x μ t L st) (kf : a ≠ 0 → PW g x μ (pc + 3) L st) : PW g x μ pc L (.int (nI a) :: st) := s_if_eq F t hd ht (fun h => kt ((nI_e0 ha).mp h)) (fun h => kf (fun q => h ((nI_e0 ha).mpr q)))
theorem n_if_ne (F : zF g x cc own nL fr lo) {a : Nat} {off : Int} (t : Nat) (hd : decode cc pc = .ok (.ifCond .ne off, 3)) (ht : (pc : Int) + off = (t : Int)) (ha : a < 2 ^ 31)
    (kt : a ≠ 0 → PW g x μ t L st) (kf : a = 0 → PW g x μ (pc + 3) L st) : PW g x μ pc L (.int (nI a) :: st) := s_if_ne F t hd ht (fun h => kt (fun q => h ((nI_e0 ha).mpr q))) (fun h => kf ((nI_e0 ha).mp h))
theorem n_if_le (F : zF g x cc own nL fr lo) {a : Nat} {off : Int} (t : Nat) (hd : decode cc pc = .ok (.ifCond .le off, 3)) (ht : (pc : Int) + off = (t : Int)) (ha : a < 2 ^ 31)
    (kt : a = 0 → PW g x μ t L st) (kf : 0 < a → PW g x μ (pc + 3) L st) : PW g x μ pc L (.int (nI a) :: st) := s_if_le F t hd ht (fun h => kt (by
      by_cases h0 : a = 0
      · exact h0
      · exact absurd h (nI_nle (by omega) ha))) (fun h => kf (by
      by_cases h0 : a = 0
      · subst h0; exact absurd (by rw [nI_0]; exact Int32.le_refl 0) h
      · omega))
/-- a number that is not below zero -/
theorem n_if_geT (F : zF g x cc own nL fr lo) {a : Nat} {off : Int} (t : Nat) (hd : decode cc pc = .ok (.ifCond .ge off, 3)) (ht : (pc : Int) + off = (t : Int)) (ha : a < 2 ^ 31) (kt : PW g x μ t L st) : PW g x μ pc L (.int (nI a) :: st) := s_if_ge F t hd ht (fun _ => kt) (fun h => absurd (nI_pos' ha) h)
theorem n_if_ltF (F : zF g x cc own nL fr lo) {a : Nat} {off : Int} (t : Nat) (hd : decode cc pc = .ok (.ifCond .lt off, 3)) (ht : (pc : Int) + off = (t : Int)) (ha : a < 2 ^ 31) (kf : PW g x μ (pc + 3) L st) : PW g x μ pc L (.int (nI a) :: st) := s_if_lt F t hd ht (fun h => absurd h (nI_pos ha)) (fun _ => kf)
/-- minus one -/
theorem m_if_ge (F : zF g x cc own nL fr lo) {off : Int} (t : Nat) (hd : decode cc pc = .ok (.ifCond .ge off, 3)) (ht : (pc : Int) + off = (t : Int)) (kf : PW g x μ (pc + 3) L st) : PW g x μ pc L (.int (-1) :: st) := s_if_ge F t hd ht (fun h => absurd h (by decide)) (fun _ => kf)
theorem m_if_lt (F : zF g x cc own nL fr lo) {off : Int} (t : Nat) (hd : decode cc pc = .ok (.ifCond .lt off, 3)) (ht : (pc : Int) + off = (t : Int)) (kt : PW g x μ t L st) : PW g x μ pc L (.int (-1) :: st) := s_if_lt F t hd ht (fun _ => kt) (fun h => absurd (by decide) h)
end ZR2
-- contracts by the kind of answer
abbrev zI (r : Int32) (P : zMem → Prop) : Option Value → zMem → Prop := fun v μ' => v = some (.int r) ∧ P μ'
abbrev zJ (r : Int64) (P : zMem → Prop) : Option Value → zMem → Prop := fun v μ' => v = some (.long r) ∧ P μ'
abbrev zV (P : zMem → Prop) : Option Value → zMem → Prop := fun v μ' => v = none ∧ P μ'
abbrev zS (μ : zMem) : zMem → Prop := fun μ' => μ' = μ
section ZC2
variable {g : zG} {x : zX} {cc : ByteArray} {own : String} {nL fr lo : Nat} {μ : zMem} {pc : Nat} {L : List (Option Value)} {st : List Value}
theorem c_Vi (F : zF g x cc own nL fr lo) {y : MethodName} {b : ByteArray} {ml : Nat} {ret : Option FieldType} {fr' lo' a ci n i : Nat} {C : String} {T : u_T} {N : Nat} {As rest : List Value} {P : zMem → Prop} {r : Int32} (hM : zC g y b ml ret fr' lo' (.ref a :: As) μ (zI r P)) (ok : okV C y b ml ret n) (hl : Cond.methodLink own i y ∈ tW) (hc : classes[ci]? = some (C, T, N)) (ho : zO g a ci) (hn : As.length = n) (hL : L.length = nL) (hst : st = As.reverse ++ .ref a :: rest) (hw : (rest.map fun v => v.category).sum ≤ 8) (hr : fr' + 1 ≤ fr ∧ 8 + (ml + 11) + lo' ≤ lo) (hd : decode cc pc = .ok (.invokevirtual i, 3)) (kk : ∀ μ' : zMem, P μ' → PW g x μ' (pc + 3) L (.int r :: rest)) : PW g x μ pc L st := s_callV F ok hl hc ho hn hL hst hw hr hd hM (fun v μ' h => by obtain ⟨rfl, h⟩ := h; exact kk μ' h)
theorem c_ViR (F : zF g x cc own nL fr lo) {y : MethodName} {b : ByteArray} {ml : Nat} {ret : Option FieldType} {fr' lo' a ci n i : Nat} {C : String} {T : u_T} {N : Nat} {As rest : List Value} {r : Int32} (hM : zC g y b ml ret fr' lo' (.ref a :: As) μ (zI r (zS μ))) (ok : okV C y b ml ret n) (hl : Cond.methodLink own i y ∈ tW) (hc : classes[ci]? = some (C, T, N)) (ho : zO g a ci) (hn : As.length = n) (hL : L.length = nL) (hst : st = As.reverse ++ .ref a :: rest) (hw : (rest.map fun v => v.category).sum ≤ 8) (hr : fr' + 1 ≤ fr ∧ 8 + (ml + 11) + lo' ≤ lo) (hd : decode cc pc = .ok (.invokevirtual i, 3)) (kk : PW g x μ (pc + 3) L (.int r :: rest)) : PW g x μ pc L st := c_Vi F hM ok hl hc ho hn hL hst hw hr hd (fun μ' h => by subst h; exact kk)
theorem c_Si (F : zF g x cc own nL fr lo) {y : MethodName} {b : ByteArray} {ml : Nat} {ret : Option FieldType} {fr' lo' n i : Nat} {As rest : List Value} {P : zMem → Prop} {r : Int32} (hM : zC g y b ml ret fr' lo' As μ (zI r P)) (ok : okS y b ml ret n) (hl : Cond.methodLink own i y ∈ tW) (hown : y.cls = own) (hn : As.length = n) (hL : L.length = nL) (hst : st = As.reverse ++ rest) (hw : (rest.map fun v => v.category).sum ≤ 8) (hr : fr' + 1 ≤ fr ∧ 8 + (ml + 11) + lo' ≤ lo) (hd : decode cc pc = .ok (.invokestatic i, 3)) (kk : ∀ μ' : zMem, P μ' → PW g x μ' (pc + 3) L (.int r :: rest)) : PW g x μ pc L st := s_callS F ok hl hown hn hL hst hw hr hd hM (fun v μ' h => by obtain ⟨rfl, h⟩ := h; exact kk μ' h)
theorem c_SiR (F : zF g x cc own nL fr lo) {y : MethodName} {b : ByteArray} {ml : Nat} {ret : Option FieldType} {fr' lo' n i : Nat} {As rest : List Value} {r : Int32} (hM : zC g y b ml ret fr' lo' As μ (zI r (zS μ))) (ok : okS y b ml ret n) (hl : Cond.methodLink own i y ∈ tW) (hown : y.cls = own) (hn : As.length = n) (hL : L.length = nL) (hst : st = As.reverse ++ rest) (hw : (rest.map fun v => v.category).sum ≤ 8) (hr : fr' + 1 ≤ fr ∧ 8 + (ml + 11) + lo' ≤ lo) (hd : decode cc pc = .ok (.invokestatic i, 3)) (kk : PW g x μ (pc + 3) L (.int r :: rest)) : PW g x μ pc L st := c_Si F hM ok hl hown hn hL hst hw hr hd (fun μ' h => by subst h; exact kk)
theorem c_Vl (F : zF g x cc own nL fr lo) {y : MethodName} {b : ByteArray} {ml : Nat} {ret : Option FieldType} {fr' lo' a ci n i : Nat} {C : String} {T : u_T} {N : Nat} {As rest : List Value} {P : zMem → Prop} {r : Int64} (hM : zC g y b ml ret fr' lo' (.ref a :: As) μ (zJ r P)) (ok : okV C y b ml ret n) (hl : Cond.methodLink own i y ∈ tW) (hc : classes[ci]? = some (C, T, N)) (ho : zO g a ci) (hn : As.length = n) (hL : L.length = nL) (hst : st = As.reverse ++ .ref a :: rest) (hw : (rest.map fun v => v.category).sum ≤ 8) (hr : fr' + 1 ≤ fr ∧ 8 + (ml + 11) + lo' ≤ lo) (hd : decode cc pc = .ok (.invokevirtual i, 3)) (kk : ∀ μ' : zMem, P μ' → PW g x μ' (pc + 3) L (.long r :: rest)) : PW g x μ pc L st := s_callV F ok hl hc ho hn hL hst hw hr hd hM (fun v μ' h => by obtain ⟨rfl, h⟩ := h; exact kk μ' h)
theorem c_VlR (F : zF g x cc own nL fr lo) {y : MethodName} {b : ByteArray} {ml : Nat} {ret : Option FieldType} {fr' lo' a ci n i : Nat} {C : String} {T : u_T} {N : Nat} {As rest : List Value} {r : Int64} (hM : zC g y b ml ret fr' lo' (.ref a :: As) μ (zJ r (zS μ))) (ok : okV C y b ml ret n) (hl : Cond.methodLink own i y ∈ tW) (hc : classes[ci]? = some (C, T, N)) (ho : zO g a ci) (hn : As.length = n) (hL : L.length = nL) (hst : st = As.reverse ++ .ref a :: rest) (hw : (rest.map fun v => v.category).sum ≤ 8) (hr : fr' + 1 ≤ fr ∧ 8 + (ml + 11) + lo' ≤ lo) (hd : decode cc pc = .ok (.invokevirtual i, 3)) (kk : PW g x μ (pc + 3) L (.long r :: rest)) : PW g x μ pc L st := c_Vl F hM ok hl hc ho hn hL hst hw hr hd (fun μ' h => by subst h; exact kk)
theorem c_Sl (F : zF g x cc own nL fr lo) {y : MethodName} {b : ByteArray} {ml : Nat} {ret : Option FieldType} {fr' lo' n i : Nat} {As rest : List Value} {P : zMem → Prop} {r : Int64} (hM : zC g y b ml ret fr' lo' As μ (zJ r P)) (ok : okS y b ml ret n) (hl : Cond.methodLink own i y ∈ tW) (hown : y.cls = own) (hn : As.length = n) (hL : L.length = nL) (hst : st = As.reverse ++ rest) (hw : (rest.map fun v => v.category).sum ≤ 8) (hr : fr' + 1 ≤ fr ∧ 8 + (ml + 11) + lo' ≤ lo) (hd : decode cc pc = .ok (.invokestatic i, 3)) (kk : ∀ μ' : zMem, P μ' → PW g x μ' (pc + 3) L (.long r :: rest)) : PW g x μ pc L st := s_callS F ok hl hown hn hL hst hw hr hd hM (fun v μ' h => by obtain ⟨rfl, h⟩ := h; exact kk μ' h)
theorem c_SlR (F : zF g x cc own nL fr lo) {y : MethodName} {b : ByteArray} {ml : Nat} {ret : Option FieldType} {fr' lo' n i : Nat} {As rest : List Value} {r : Int64} (hM : zC g y b ml ret fr' lo' As μ (zJ r (zS μ))) (ok : okS y b ml ret n) (hl : Cond.methodLink own i y ∈ tW) (hown : y.cls = own) (hn : As.length = n) (hL : L.length = nL) (hst : st = As.reverse ++ rest) (hw : (rest.map fun v => v.category).sum ≤ 8) (hr : fr' + 1 ≤ fr ∧ 8 + (ml + 11) + lo' ≤ lo) (hd : decode cc pc = .ok (.invokestatic i, 3)) (kk : PW g x μ (pc + 3) L (.long r :: rest)) : PW g x μ pc L st := c_Sl F hM ok hl hown hn hL hst hw hr hd (fun μ' h => by subst h; exact kk)
theorem c_Vv (F : zF g x cc own nL fr lo) {y : MethodName} {b : ByteArray} {ml : Nat} {ret : Option FieldType} {fr' lo' a ci n i : Nat} {C : String} {T : u_T} {N : Nat} {As rest : List Value} {P : zMem → Prop} (hM : zC g y b ml ret fr' lo' (.ref a :: As) μ (zV P)) (ok : okV C y b ml ret n) (hl : Cond.methodLink own i y ∈ tW) (hc : classes[ci]? = some (C, T, N)) (ho : zO g a ci) (hn : As.length = n) (hL : L.length = nL) (hst : st = As.reverse ++ .ref a :: rest) (hw : (rest.map fun v => v.category).sum ≤ 8) (hr : fr' + 1 ≤ fr ∧ 8 + (ml + 11) + lo' ≤ lo) (hd : decode cc pc = .ok (.invokevirtual i, 3)) (kk : ∀ μ' : zMem, P μ' → PW g x μ' (pc + 3) L rest) : PW g x μ pc L st := s_callV F ok hl hc ho hn hL hst hw hr hd hM (fun v μ' h => by obtain ⟨rfl, h⟩ := h; exact kk μ' h)
theorem c_VvR (F : zF g x cc own nL fr lo) {y : MethodName} {b : ByteArray} {ml : Nat} {ret : Option FieldType} {fr' lo' a ci n i : Nat} {C : String} {T : u_T} {N : Nat} {As rest : List Value} (hM : zC g y b ml ret fr' lo' (.ref a :: As) μ (zV (zS μ))) (ok : okV C y b ml ret n) (hl : Cond.methodLink own i y ∈ tW) (hc : classes[ci]? = some (C, T, N)) (ho : zO g a ci) (hn : As.length = n) (hL : L.length = nL) (hst : st = As.reverse ++ .ref a :: rest) (hw : (rest.map fun v => v.category).sum ≤ 8) (hr : fr' + 1 ≤ fr ∧ 8 + (ml + 11) + lo' ≤ lo) (hd : decode cc pc = .ok (.invokevirtual i, 3)) (kk : PW g x μ (pc + 3) L rest) : PW g x μ pc L st := c_Vv F hM ok hl hc ho hn hL hst hw hr hd (fun μ' h => by subst h; exact kk)
theorem c_Sv (F : zF g x cc own nL fr lo) {y : MethodName} {b : ByteArray} {ml : Nat} {ret : Option FieldType} {fr' lo' n i : Nat} {As rest : List Value} {P : zMem → Prop} (hM : zC g y b ml ret fr' lo' As μ (zV P)) (ok : okS y b ml ret n) (hl : Cond.methodLink own i y ∈ tW) (hown : y.cls = own) (hn : As.length = n) (hL : L.length = nL) (hst : st = As.reverse ++ rest) (hw : (rest.map fun v => v.category).sum ≤ 8) (hr : fr' + 1 ≤ fr ∧ 8 + (ml + 11) + lo' ≤ lo) (hd : decode cc pc = .ok (.invokestatic i, 3)) (kk : ∀ μ' : zMem, P μ' → PW g x μ' (pc + 3) L rest) : PW g x μ pc L st := s_callS F ok hl hown hn hL hst hw hr hd hM (fun v μ' h => by obtain ⟨rfl, h⟩ := h; exact kk μ' h)
theorem c_SvR (F : zF g x cc own nL fr lo) {y : MethodName} {b : ByteArray} {ml : Nat} {ret : Option FieldType} {fr' lo' n i : Nat} {As rest : List Value} (hM : zC g y b ml ret fr' lo' As μ (zV (zS μ))) (ok : okS y b ml ret n) (hl : Cond.methodLink own i y ∈ tW) (hown : y.cls = own) (hn : As.length = n) (hL : L.length = nL) (hst : st = As.reverse ++ rest) (hw : (rest.map fun v => v.category).sum ≤ 8) (hr : fr' + 1 ≤ fr ∧ 8 + (ml + 11) + lo' ≤ lo) (hd : decode cc pc = .ok (.invokestatic i, 3)) (kk : PW g x μ (pc + 3) L rest) : PW g x μ pc L st := c_Sv F hM ok hl hown hn hL hst hw hr hd (fun μ' h => by subst h; exact kk)
end ZC2
def KSb (g : zG) (b : Nat) : Prop := gs g b = (6, 0) ∧ gs g (b + 1) = (1, 100) ∧ gs g (b + 2) = (1, 100) ∧ gs g (b + 3) = (1, 2000) ∧ gs g (b + 4) = (1, 2000) ∧ gs g (b + 5) = (1, 2000) ∧ gs g (b + 6) = (1, 12) ∧ gs g (b + 7) = (1, 12) ∧ gs g (b + 8) = (1, 12) ∧ gs g (b + 9) = (2, 100) ∧ gs g (b + 10) = (1, 100)
def MSb (g : zG) (b : Nat) : Prop := gs g b = (7, 0) ∧ gs g (b + 1) = (1, 100) ∧ gs g (b + 2) = (1, 100) ∧ gs g (b + 3) = (1, 800) ∧ gs g (b + 4) = (1, 12) ∧ gs g (b + 5) = (3, 2000) ∧ gs g (b + 6) = (3, 12)
def KOb (g : zG) (z : Nat) : Prop := gs g z = (8, 0) ∧ KSb g (z + 1) ∧ KSb g (z + 12) ∧ KSb g (z + 23) ∧ gs g (z + 34) = (4, 8) ∧ gs g (z + 35) = (1, 8) ∧ ∀ k, k < 8 → KSb g (z + 36 + 11 * k)
def MOb (g : zG) (z : Nat) : Prop := gs g z = (9, 0) ∧ MSb g (z + 1) ∧ MSb g (z + 8) ∧ MSb g (z + 15) ∧ gs g (z + 22) = (5, 8) ∧ gs g (z + 23) = (2, 100) ∧ gs g (z + 24) = (1, 100) ∧ ∀ k, k < 8 → MSb g (z + 25 + 7 * k)
theorem ks_0 {g : zG} {b : Nat} (h : KSb g b) : gs g b = (6, 0) := h.1
theorem ks_1 {g : zG} {b : Nat} (h : KSb g b) : gs g (b + 1) = (1, 100) := h.2.1
theorem ks_2 {g : zG} {b : Nat} (h : KSb g b) : gs g (b + 2) = (1, 100) := h.2.2.1
theorem ks_3 {g : zG} {b : Nat} (h : KSb g b) : gs g (b + 3) = (1, 2000) := h.2.2.2.1
theorem ks_4 {g : zG} {b : Nat} (h : KSb g b) : gs g (b + 4) = (1, 2000) := h.2.2.2.2.1
theorem ks_5 {g : zG} {b : Nat} (h : KSb g b) : gs g (b + 5) = (1, 2000) := h.2.2.2.2.2.1
theorem ks_6 {g : zG} {b : Nat} (h : KSb g b) : gs g (b + 6) = (1, 12) := h.2.2.2.2.2.2.1
theorem ks_7 {g : zG} {b : Nat} (h : KSb g b) : gs g (b + 7) = (1, 12) := h.2.2.2.2.2.2.2.1
theorem ks_8 {g : zG} {b : Nat} (h : KSb g b) : gs g (b + 8) = (1, 12) := h.2.2.2.2.2.2.2.2.1
theorem ks_9 {g : zG} {b : Nat} (h : KSb g b) : gs g (b + 9) = (2, 100) := h.2.2.2.2.2.2.2.2.2.1
theorem ks_10 {g : zG} {b : Nat} (h : KSb g b) : gs g (b + 10) = (1, 100) := h.2.2.2.2.2.2.2.2.2.2
theorem ms_0 {g : zG} {b : Nat} (h : MSb g b) : gs g b = (7, 0) := h.1
theorem ms_1 {g : zG} {b : Nat} (h : MSb g b) : gs g (b + 1) = (1, 100) := h.2.1
theorem ms_2 {g : zG} {b : Nat} (h : MSb g b) : gs g (b + 2) = (1, 100) := h.2.2.1
theorem ms_3 {g : zG} {b : Nat} (h : MSb g b) : gs g (b + 3) = (1, 800) := h.2.2.2.1
theorem ms_4 {g : zG} {b : Nat} (h : MSb g b) : gs g (b + 4) = (1, 12) := h.2.2.2.2.1
theorem ms_5 {g : zG} {b : Nat} (h : MSb g b) : gs g (b + 5) = (3, 2000) := h.2.2.2.2.2.1
theorem ms_6 {g : zG} {b : Nat} (h : MSb g b) : gs g (b + 6) = (3, 12) := h.2.2.2.2.2.2
theorem kz_0 {g : zG} {z : Nat} (h : KOb g z) : gs g z = (8, 0) := h.1
theorem kz_1 {g : zG} {z : Nat} (h : KOb g z) : KSb g (z + 1) := h.2.1
theorem kz_12 {g : zG} {z : Nat} (h : KOb g z) : KSb g (z + 12) := h.2.2.1
theorem kz_23 {g : zG} {z : Nat} (h : KOb g z) : KSb g (z + 23) := h.2.2.2.1
theorem kz_34 {g : zG} {z : Nat} (h : KOb g z) : gs g (z + 34) = (4, 8) := h.2.2.2.2.1
theorem kz_35 {g : zG} {z : Nat} (h : KOb g z) : gs g (z + 35) = (1, 8) := h.2.2.2.2.2.1
theorem kz_a {g : zG} {z : Nat} (h : KOb g z) : ∀ k, k < 8 → KSb g (z + 36 + 11 * k) := h.2.2.2.2.2.2
theorem mz_0 {g : zG} {z : Nat} (h : MOb g z) : gs g z = (9, 0) := h.1
theorem mz_1 {g : zG} {z : Nat} (h : MOb g z) : MSb g (z + 1) := h.2.1
theorem mz_8 {g : zG} {z : Nat} (h : MOb g z) : MSb g (z + 8) := h.2.2.1
theorem mz_15 {g : zG} {z : Nat} (h : MOb g z) : MSb g (z + 15) := h.2.2.2.1
theorem mz_22 {g : zG} {z : Nat} (h : MOb g z) : gs g (z + 22) = (5, 8) := h.2.2.2.2.1
theorem mz_23 {g : zG} {z : Nat} (h : MOb g z) : gs g (z + 23) = (2, 100) := h.2.2.2.2.2.1
theorem mz_24 {g : zG} {z : Nat} (h : MOb g z) : gs g (z + 24) = (1, 100) := h.2.2.2.2.2.2.1
theorem mz_a {g : zG} {z : Nat} (h : MOb g z) : ∀ k, k < 8 → MSb g (z + 25 + 7 * k) := h.2.2.2.2.2.2.2
/-- a loop: by a measure that falls -/
theorem lpG {σ : Type} (G : σ → Prop) (I : σ → Prop) (m : σ → Nat) (body : ∀ s, I s → (∀ s', I s' → m s' < m s → G s') → G s) : ∀ s, I s → G s := by
  have h : ∀ (n : Nat) (s : σ), m s < n → I s → G s := by
    intro n
    induction n with
    | zero => intro s hs; omega
    | succ n ih => intro s hs hI; exact body s hI (fun s' hI' hm => ih s' (by omega) hI')
  exact fun s hI => h (m s + 1) s (by omega) hI
/-- a loop that counts up to N, with a memory -/
theorem lpU {σ : Type} (N : Nat) (G : Nat → σ → Prop) (I : Nat → σ → Prop) (body : ∀ k s, k ≤ N → I k s → (k < N → ∀ s', I (k + 1) s' → G (k + 1) s') → G k s) : ∀ k s, k ≤ N → I k s → G k s := by
  have h : ∀ (n k : Nat) (s : σ), N - k < n → k ≤ N → I k s → G k s := by
    intro n
    induction n with
    | zero => intro k s hs; omega
    | succ n ih => intro k s hs hk hI; exact body k s hk hI (fun hlt s' hI' => ih (k + 1) s' (by omega) (by omega) hI')
  exact fun k s hk hI => h (N - k + 1) k s (by omega) hk hI
end
section
-- the pure picture of one state: kinds, items (name, sort, value) of each object, roots
abbrev It : Type := Int32 × Int32 × Int32
abbrev St : Type := (Nat → Nat) × (Nat → List It) × List It
def vOk (kd : Nat → Nat) (p : It) : Prop := (p.2.1 = 0 ∧ p.2.2 = 0) ∨ p.2.1 = 1 ∨ (p.2.1 = 2 ∧ ∃ w, w < 100 ∧ kd w ≠ 0 ∧ p.2.2 = nI w)
def Inv (S : St) : Prop := (∀ o, o < 100 → S.1 o ≤ 2 ∧ (S.2.1 o).length ≤ 20 ∧ (S.1 o = 0 → S.2.1 o = []) ∧ (S.1 o = 1 → (S.2.1 o).length ≤ 8) ∧ (S.1 o = 2 → ∀ it ∈ S.2.1 o, it.1 = 0) ∧ ∀ it ∈ S.2.1 o, vOk S.1 it) ∧ S.2.2.length ≤ 12 ∧ ∀ it ∈ S.2.2, vOk S.1 it
theorem Inv.kd {S : St} (h : Inv S) {o : Nat} (ho : o < 100) : S.1 o ≤ 2 := (h.1 o ho).1
theorem Inv.ln {S : St} (h : Inv S) {o : Nat} (ho : o < 100) : (S.2.1 o).length ≤ 20 := (h.1 o ho).2.1
theorem Inv.l0 {S : St} (h : Inv S) {o : Nat} (ho : o < 100) (hk : S.1 o = 0) : S.2.1 o = [] := (h.1 o ho).2.2.1 hk
theorem Inv.l8 {S : St} (h : Inv S) {o : Nat} (ho : o < 100) (hk : S.1 o = 1) : (S.2.1 o).length ≤ 8 := (h.1 o ho).2.2.2.1 hk
theorem Inv.n0 {S : St} (h : Inv S) {o : Nat} (ho : o < 100) (hk : S.1 o = 2) {it : It} (hi : it ∈ S.2.1 o) : it.1 = 0 := (h.1 o ho).2.2.2.2.1 hk it hi
theorem Inv.ok {S : St} (h : Inv S) {o : Nat} (ho : o < 100) {it : It} (hi : it ∈ S.2.1 o) : vOk S.1 it := (h.1 o ho).2.2.2.2.2 it hi
theorem Inv.rl {S : St} (h : Inv S) : S.2.2.length ≤ 12 := h.2.1
theorem Inv.rok {S : St} (h : Inv S) {it : It} (hi : it ∈ S.2.2) : vOk S.1 it := h.2.2 it hi
-- the state's cells in the class' own form
def RepK (μ : zMem) (b : Nat) (S : St) : Prop :=
  (∀ o, o < 100 → μ.1 (b + 1) o = nI (S.1 o) ∧ μ.1 (b + 2) o = nI (S.2.1 o).length ∧ ∀ j it, (S.2.1 o)[j]? = some it → μ.1 (b + 3) (o * 20 + j) = it.1 ∧ μ.1 (b + 4) (o * 20 + j) = it.2.1 ∧ μ.1 (b + 5) (o * 20 + j) = it.2.2) ∧
  μ.1 b 0 = nI S.2.2.length ∧ ∀ j it, S.2.2[j]? = some it → μ.1 (b + 6) j = it.1 ∧ μ.1 (b + 7) j = it.2.1 ∧ μ.1 (b + 8) j = it.2.2
theorem RepK.kd {μ : zMem} {b : Nat} {S : St} (h : RepK μ b S) {o : Nat} (ho : o < 100) : μ.1 (b + 1) o = nI (S.1 o) := (h.1 o ho).1
theorem RepK.sz {μ : zMem} {b : Nat} {S : St} (h : RepK μ b S) {o : Nat} (ho : o < 100) : μ.1 (b + 2) o = nI (S.2.1 o).length := (h.1 o ho).2.1
theorem RepK.nm {μ : zMem} {b : Nat} {S : St} (h : RepK μ b S) {o j : Nat} {it : It} (ho : o < 100) (hi : (S.2.1 o)[j]? = some it) : μ.1 (b + 3) (o * 20 + j) = it.1 := ((h.1 o ho).2.2 j it hi).1
theorem RepK.so {μ : zMem} {b : Nat} {S : St} (h : RepK μ b S) {o j : Nat} {it : It} (ho : o < 100) (hi : (S.2.1 o)[j]? = some it) : μ.1 (b + 4) (o * 20 + j) = it.2.1 := ((h.1 o ho).2.2 j it hi).2.1
theorem RepK.va {μ : zMem} {b : Nat} {S : St} (h : RepK μ b S) {o j : Nat} {it : It} (ho : o < 100) (hi : (S.2.1 o)[j]? = some it) : μ.1 (b + 5) (o * 20 + j) = it.2.2 := ((h.1 o ho).2.2 j it hi).2.2
theorem RepK.rs {μ : zMem} {b : Nat} {S : St} (h : RepK μ b S) : μ.1 b 0 = nI S.2.2.length := h.2.1
theorem RepK.rn {μ : zMem} {b : Nat} {S : St} (h : RepK μ b S) {j : Nat} {it : It} (hi : S.2.2[j]? = some it) : μ.1 (b + 6) j = it.1 := (h.2.2 j it hi).1
theorem RepK.ro {μ : zMem} {b : Nat} {S : St} (h : RepK μ b S) {j : Nat} {it : It} (hi : S.2.2[j]? = some it) : μ.1 (b + 7) j = it.2.1 := (h.2.2 j it hi).2.1
theorem RepK.rv {μ : zMem} {b : Nat} {S : St} (h : RepK μ b S) {j : Nat} {it : It} (hi : S.2.2[j]? = some it) : μ.1 (b + 8) j = it.2.2 := (h.2.2 j it hi).2.2
/-- nothing but the addresses from lo on, n of them, has changed -/
def zOut (lo n : Nat) (μ μ' : zMem) : Prop := ∀ a, (a < lo ∨ lo + n ≤ a) → μ'.1 a = μ.1 a ∧ μ'.2.1 a = μ.2.1 a ∧ μ'.2.2 a = μ.2.2 a
theorem zOut.rf {lo n : Nat} {μ : zMem} : zOut lo n μ μ := fun _ _ => ⟨rfl, rfl, rfl⟩
theorem zOut.tr {lo n : Nat} {μ μ' μ'' : zMem} (h : zOut lo n μ μ') (h' : zOut lo n μ' μ'') : zOut lo n μ μ'' := fun a ha => ⟨(h' a ha).1.trans (h a ha).1, (h' a ha).2.1.trans (h a ha).2.1, (h' a ha).2.2.trans (h a ha).2.2⟩
theorem zOut.mono {lo n lo' n' : Nat} {μ μ' : zMem} (h : zOut lo n μ μ') (h1 : lo' ≤ lo) (h2 : lo + n ≤ lo' + n') : zOut lo' n' μ μ' := fun a ha => h a (by omega)
theorem zOut.mI {lo n a i : Nat} {v : Int32} {μ μ' : zMem} (h : zOut lo n μ μ') (h1 : lo ≤ a) (h2 : a < lo + n) : zOut lo n μ (mI μ' a i v) := fun q hq => ⟨(mI_o μ' i v (by omega)).trans (h q hq).1, (h q hq).2.1, (h q hq).2.2⟩
theorem zOut.mL {lo n a i : Nat} {v : Int64} {μ μ' : zMem} (h : zOut lo n μ μ') (h1 : lo ≤ a) (h2 : a < lo + n) : zOut lo n μ (mL μ' a i v) := fun q hq => ⟨(h q hq).1, (mL_o μ' i v (by omega)).trans (h q hq).2.1, (h q hq).2.2⟩
theorem zOut.mR {lo n a i : Nat} {v : Option Nat} {μ μ' : zMem} (h : zOut lo n μ μ') (h1 : lo ≤ a) (h2 : a < lo + n) : zOut lo n μ (mR μ' a i v) := fun q hq => ⟨(h q hq).1, (h q hq).2.1, (mR_o μ' i v (by omega)).trans (h q hq).2.2⟩
theorem RepK.cg {μ μ' : zMem} {b : Nat} {S : St} (h : RepK μ b S) (e0 : μ'.1 b 0 = μ.1 b 0) (e : ∀ a, b < a → a < b + 9 → μ'.1 a = μ.1 a) : RepK μ' b S := by
  unfold RepK
  rw [e0, e (b + 1) (by omega) (by omega), e (b + 2) (by omega) (by omega), e (b + 3) (by omega) (by omega), e (b + 4) (by omega) (by omega), e (b + 5) (by omega) (by omega), e (b + 6) (by omega) (by omega), e (b + 7) (by omega) (by omega), e (b + 8) (by omega) (by omega)]
  exact h
theorem RepK.out {μ μ' : zMem} {b lo n : Nat} {S : St} (h : RepK μ b S) (ho : zOut lo n μ μ') (hd : b + 11 ≤ lo ∨ lo + n ≤ b) : RepK μ' b S := h.cg (by rw [(ho b (by omega)).1]) (fun a h1 h2 => (ho a (by omega)).1)
-- finding by name
def fnd (l : List It) (n : Int32) : Option Nat := l.findIdx? (fun p => decide (p.1 = n))
def ixI : Option Nat → Int32
  | none => -1
  | some k => nI k
theorem fnd_none {l : List It} {n : Int32} (h : ∀ (j : Nat) (it : It), l[j]? = some it → it.1 ≠ n) : fnd l n = none := by
  unfold fnd
  rw [List.findIdx?_eq_none_iff]
  intro it hit
  obtain ⟨j, hj⟩ := List.getElem?_of_mem hit
  simpa using h j it hj
theorem fnd_some {l : List It} {n : Int32} {k : Nat} {it : It} (hk : l[k]? = some it) (hn : it.1 = n) (h : ∀ (j : Nat) (it : It), j < k → l[j]? = some it → it.1 ≠ n) : fnd l n = some k := by
  unfold fnd
  rw [List.findIdx?_eq_some_iff_getElem]
  obtain ⟨hlt, he⟩ := List.getElem?_eq_some_iff.mp hk
  refine ⟨hlt, by rw [he]; simpa using hn, fun j hj => ?_⟩
  have := h j l[j] hj (List.getElem?_eq_getElem (by omega))
  simpa using this
theorem fnd_spec {l : List It} {n : Int32} {k : Nat} (h : fnd l n = some k) : k < l.length ∧ ∃ it, l[k]? = some it ∧ it.1 = n := by
  unfold fnd at h
  rw [List.findIdx?_eq_some_iff_getElem] at h
  obtain ⟨hlt, he, -⟩ := h
  exact ⟨hlt, l[k], List.getElem?_eq_getElem hlt, by simpa using he⟩
theorem fnd_no {l : List It} {n : Int32} (h : fnd l n = none) : ∀ it ∈ l, it.1 ≠ n := by
  unfold fnd at h
  rw [List.findIdx?_eq_none_iff] at h
  intro it hit
  simpa using h it hit
theorem getIt {l : List It} {k : Nat} (h : k < l.length) : ∃ it, l[k]? = some it := ⟨l[k], List.getElem?_eq_getElem h⟩
def fxI (o : Nat) : Option Nat → Int32
  | none => -1
  | some k => nI (o * 20 + k)
def bI : Bool → Int32
  | true => nI 1
  | false => nI 0
-- counting
def cnt (p : Nat → Bool) : Nat → Nat
  | 0 => 0
  | k + 1 => cnt p k + (if p k then 1 else 0)
theorem cnt_le (p : Nat → Bool) : ∀ k, cnt p k ≤ k
  | 0 => Nat.le_refl _
  | k + 1 => by
    have := cnt_le p k
    unfold cnt
    split <;> omega
theorem cnt_t {p : Nat → Bool} {k : Nat} (h : p k = true) : cnt p (k + 1) = cnt p k + 1 := by simp [cnt, h]
theorem cnt_f {p : Nat → Bool} {k : Nat} (h : p k = false) : cnt p (k + 1) = cnt p k := by simp [cnt, h]
theorem cnt_cg {p q : Nat → Bool} : ∀ {k : Nat}, (∀ i, i < k → p i = q i) → cnt p k = cnt q k
  | 0, _ => rfl
  | k + 1, h => by
    rw [cnt, cnt, h k (by omega), cnt_cg (fun i hi => h i (by omega))]
def cl (p : It → Bool) (l : List It) (k : Nat) : Nat := (l.take k).countP p
theorem cl_0 (p : It → Bool) (l : List It) : cl p l 0 = 0 := by simp [cl]
theorem cl_succ {p : It → Bool} {l : List It} {k : Nat} {it : It} (h : l[k]? = some it) : cl p l (k + 1) = cl p l k + (if p it then 1 else 0) := by
  unfold cl
  rw [List.take_add_one, h]
  simp [List.countP_append, List.countP_cons]
theorem cl_t {p : It → Bool} {l : List It} {k : Nat} {it : It} (h : l[k]? = some it) (hp : p it = true) : cl p l (k + 1) = cl p l k + 1 := by rw [cl_succ h, hp]; rfl
theorem cl_f {p : It → Bool} {l : List It} {k : Nat} {it : It} (h : l[k]? = some it) (hp : p it = false) : cl p l (k + 1) = cl p l k := by rw [cl_succ h, hp]; rfl
theorem cl_le (p : It → Bool) (l : List It) (k : Nat) : cl p l k ≤ l.length := by
  unfold cl
  exact Nat.le_trans List.countP_le_length (by rw [List.length_take]; omega)
-- the first free object
def ffree (kd : Nat → Nat) : Nat → Nat → Option Nat
  | 0, _ => none
  | n + 1, k => if kd k = 0 then some k else ffree kd n (k + 1)
theorem ffree_lt {kd : Nat → Nat} : ∀ {n k o : Nat}, ffree kd n k = some o → o < k + n ∧ k ≤ o ∧ kd o = 0
  | 0, k, o, h => by simp [ffree] at h
  | n + 1, k, o, h => by
    unfold ffree at h
    split at h
    · cases h
      exact ⟨by omega, Nat.le_refl _, by assumption⟩
    · have := ffree_lt h
      exact ⟨by omega, by omega, this.2.2⟩
def mkS (S : St) (o k : Nat) : St := (va_up S.1 o k, va_up S.2.1 o [], S.2.2)
def mkR (S : St) (k : Nat) : St := match ffree S.1 100 0 with
  | none => S
  | some o => mkS S o k
theorem RepK.mk {μ : zMem} {b : Nat} {S : St} (h : RepK μ b S) (o k : Nat) : RepK (mI (mI μ (b + 1) o (nI k)) (b + 2) o (nI 0)) b (mkS S o k) := by
  refine ⟨fun q hq => ?_, ?_, fun j it hj => ?_⟩
  · by_cases e : q = o
    · subst e
      refine ⟨by simp [mI_1, mkS, va_up], by simp [mI_1, mkS, va_up], fun j it hj => ?_⟩
      simp [mkS, va_up] at hj
    · obtain ⟨h1, h2, h3⟩ := h.1 q hq
      refine ⟨by simp [mI_1, mkS, va_up, e, h1], by simp [mI_1, mkS, va_up, e, h2], fun j it hj => ?_⟩
      simp only [mkS, va_up, e, if_false] at hj
      simpa [mI_1] using h3 j it hj
  · simpa [mI_1, mkS] using h.2.1
  · simpa [mI_1, mkS] using h.2.2 j it hj
def sameO (S S' : St) (o : Nat) : Bool := decide (S.1 o = S'.1 o ∧ S.2.1 o = S'.2.1 o)
def rc1 (S' : St) (it : It) : Bool := match fnd S'.2.2 it.1 with
  | none => true
  | some i => decide ((S'.2.2.getD i (0, 0, 0)).2 ≠ it.2)
def rc2 (S : St) (it : It) : Bool := (fnd S.2.2 it.1).isNone
def rchg (S S' : St) : Nat := cl (rc1 S') S.2.2 S.2.2.length + cl (rc2 S) S'.2.2 S'.2.2.length
def ochg (S S' : St) (o : Nat) : Bool := decide (S.1 o ≠ 0) && !sameO S S' o
def chg (S S' : St) : Nat := 8 + 6 * rchg S S' + 16 * cnt (ochg S S') 100
theorem getD_of {l : List It} {k : Nat} {it d : It} (h : l[k]? = some it) : l.getD k d = it := by rw [List.getD_eq_getElem?_getD, h]; rfl
end
section
-- one item's three cells
def itm (μ : zMem) (b i : Nat) (it : It) : Prop := μ.1 (b + 3) i = it.1 ∧ μ.1 (b + 4) i = it.2.1 ∧ μ.1 (b + 5) i = it.2.2
def ritm (μ : zMem) (b i : Nat) (it : It) : Prop := μ.1 (b + 6) i = it.1 ∧ μ.1 (b + 7) i = it.2.1 ∧ μ.1 (b + 8) i = it.2.2
def set3 (μ : zMem) (b i : Nat) (it : It) : zMem := mI (mI (mI μ (b + 3) i it.1) (b + 4) i it.2.1) (b + 5) i it.2.2
def rset3 (μ : zMem) (b i : Nat) (it : It) : zMem := mI (mI (mI μ (b + 6) i it.1) (b + 7) i it.2.1) (b + 8) i it.2.2
theorem itm.at {μ : zMem} {b i : Nat} {it : It} : itm (set3 μ b i it) b i it := by simp [itm, set3, mI_1]
theorem itm.ne {μ : zMem} {b i j : Nat} {it it' : It} (h : itm μ b j it') (hj : j ≠ i) : itm (set3 μ b i it) b j it' := by
  obtain ⟨h1, h2, h3⟩ := h
  simp [itm, set3, mI_1, hj, h1, h2, h3]
theorem itm.cg {μ μ' : zMem} {b j : Nat} {it : It} (h : itm μ b j it) (e : ∀ a, b + 3 ≤ a → a < b + 6 → μ'.1 a = μ.1 a) : itm μ' b j it := by
  unfold itm
  rw [e (b + 3) (by omega) (by omega), e (b + 4) (by omega) (by omega), e (b + 5) (by omega) (by omega)]
  exact h
theorem ritm.at {μ : zMem} {b i : Nat} {it : It} : ritm (rset3 μ b i it) b i it := by simp [ritm, rset3, mI_1]
theorem ritm.ne {μ : zMem} {b i j : Nat} {it it' : It} (h : ritm μ b j it') (hj : j ≠ i) : ritm (rset3 μ b i it) b j it' := by
  obtain ⟨h1, h2, h3⟩ := h
  simp [ritm, rset3, mI_1, hj, h1, h2, h3]
theorem ritm.cg {μ μ' : zMem} {b j : Nat} {it : It} (h : ritm μ b j it) (e : ∀ a, b + 6 ≤ a → a < b + 9 → μ'.1 a = μ.1 a) : ritm μ' b j it := by
  unfold ritm
  rw [e (b + 6) (by omega) (by omega), e (b + 7) (by omega) (by omega), e (b + 8) (by omega) (by omega)]
  exact h
theorem set3_o {μ : zMem} {b i a : Nat} {it : It} (h : a < b + 3 ∨ b + 6 ≤ a) : (set3 μ b i it).1 a = μ.1 a := by
  unfold set3
  rw [mI_o _ _ _ (by omega), mI_o _ _ _ (by omega), mI_o _ _ _ (by omega)]
theorem rset3_o {μ : zMem} {b i a : Nat} {it : It} (h : a < b + 6 ∨ b + 9 ≤ a) : (rset3 μ b i it).1 a = μ.1 a := by
  unfold rset3
  rw [mI_o _ _ _ (by omega), mI_o _ _ _ (by omega), mI_o _ _ _ (by omega)]
theorem zOut.set3 {lo n b i : Nat} {it : It} {μ μ' : zMem} (h : zOut lo n μ μ') (h1 : lo ≤ b) (h2 : b + 6 ≤ lo + n) : zOut lo n μ (set3 μ' b i it) := ((h.mI (by omega) (by omega)).mI (by omega) (by omega)).mI (by omega) (by omega)
theorem zOut.rset3 {lo n b i : Nat} {it : It} {μ μ' : zMem} (h : zOut lo n μ μ') (h1 : lo ≤ b) (h2 : b + 9 ≤ lo + n) : zOut lo n μ (rset3 μ' b i it) := ((h.mI (by omega) (by omega)).mI (by omega) (by omega)).mI (by omega) (by omega)
-- copying, object by object
def cpO (μ : zMem) (b : Nat) (S : St) (q : Nat) : Prop := μ.1 (b + 1) q = nI (S.1 q) ∧ μ.1 (b + 2) q = nI (S.2.1 q).length ∧ ∀ j it, (S.2.1 q)[j]? = some it → itm μ b (q * 20 + j) it
theorem cpO.cg {μ μ' : zMem} {b : Nat} {S : St} {q : Nat} (h : cpO μ b S q) (e : ∀ a, b + 1 ≤ a → a < b + 6 → μ'.1 a = μ.1 a) : cpO μ' b S q := ⟨by rw [e _ (by omega) (by omega)]; exact h.1, by rw [e _ (by omega) (by omega)]; exact h.2.1, fun j it hj => (h.2.2 j it hj).cg (fun a h1 h2 => e a (by omega) (by omega))⟩
theorem cpO.ne {μ : zMem} {b : Nat} {S : St} {q o : Nat} {v : Int32} (h : cpO μ b S q) (hq : q ≠ o) (a : Nat) (ha : a = b + 1 ∨ a = b + 2) : cpO (mI μ a o v) b S q := by
  refine ⟨by rw [mI_ne _ _ (Or.inr hq)]; exact h.1, by rw [mI_ne _ _ (Or.inr hq)]; exact h.2.1, fun j it hj => (h.2.2 j it hj).cg (fun a h1 h2 => mI_o _ _ _ (by omega))⟩
theorem cpO.set3 {μ : zMem} {b : Nat} {S : St} {q o i : Nat} {it : It} (h : cpO μ b S q) (hl : (S.2.1 q).length ≤ 20) (hq : q < o) : cpO (set3 μ b (o * 20 + i) it) b S q := by
  refine ⟨by rw [set3_o (by omega)]; exact h.1, by rw [set3_o (by omega)]; exact h.2.1, fun j it hj => (h.2.2 j it hj).ne ?_⟩
  have := (List.getElem?_eq_some_iff.mp hj).1
  omega
theorem RepK.of {μ : zMem} {b : Nat} {S : St} (h1 : ∀ q, q < 100 → cpO μ b S q) (h2 : μ.1 b 0 = nI S.2.2.length) (h3 : ∀ j it, S.2.2[j]? = some it → ritm μ b j it) : RepK μ b S := ⟨h1, h2, h3⟩
theorem RepK.cp {μ : zMem} {b : Nat} {S : St} (h : RepK μ b S) {q : Nat} (hq : q < 100) : cpO μ b S q := h.1 q hq
theorem RepK.it {μ : zMem} {b : Nat} {S : St} (h : RepK μ b S) {q j : Nat} {it : It} (hq : q < 100) (hj : (S.2.1 q)[j]? = some it) : itm μ b (q * 20 + j) it := (h.1 q hq).2.2 j it hj
theorem RepK.ri {μ : zMem} {b : Nat} {S : St} (h : RepK μ b S) {j : Nat} {it : It} (hj : S.2.2[j]? = some it) : ritm μ b j it := h.2.2 j it hj
-- one object's items anew
def updI (S : St) (o : Nat) (l : List It) : St := (S.1, va_up S.2.1 o l, S.2.2)
def updR (S : St) (l : List It) : St := (S.1, S.2.1, l)
theorem RepK.upI {μ μ' : zMem} {b o : Nat} {S : St} {l : List It} (h : RepK μ b S) (hS : Inv S) (e0 : μ'.1 b 0 = μ.1 b 0) (e1 : μ'.1 (b + 1) = μ.1 (b + 1)) (e2 : μ'.1 (b + 2) o = nI l.length) (e3 : ∀ q, q ≠ o → μ'.1 (b + 2) q = μ.1 (b + 2) q)
    (e4 : ∀ j it, l[j]? = some it → itm μ' b (o * 20 + j) it) (e5 : ∀ i it, (i < o * 20 ∨ o * 20 + 20 ≤ i) → itm μ b i it → itm μ' b i it) (e6 : ∀ a, b + 6 ≤ a → a < b + 9 → μ'.1 a = μ.1 a) : RepK μ' b (updI S o l) := by
  refine RepK.of (fun q hq => ?_) (e0.trans h.2.1) (fun j it hj => (h.ri hj).cg e6)
  have hc := h.cp hq
  by_cases e : q = o
  · subst e
    refine ⟨by rw [e1]; exact hc.1, by rw [e2]; simp [updI, va_up], fun j it hj => e4 j it (by simpa [updI, va_up] using hj)⟩
  · refine ⟨by rw [e1]; exact hc.1, by rw [e3 q e, hc.2.1]; simp [updI, va_up, e], fun j it hj => ?_⟩
    have hj : (S.2.1 q)[j]? = some it := by simpa [updI, va_up, e] using hj
    have h1 := (List.getElem?_eq_some_iff.mp hj).1
    have h2 := hS.ln hq
    exact e5 _ it (by omega) (hc.2.2 j it hj)
theorem RepK.upR {μ μ' : zMem} {b : Nat} {S : St} {l : List It} (h : RepK μ b S) (e0 : μ'.1 b 0 = nI l.length) (e1 : ∀ a, b + 1 ≤ a → a < b + 6 → μ'.1 a = μ.1 a) (e4 : ∀ j it, l[j]? = some it → ritm μ' b j it) : RepK μ' b (updR S l) :=
  RepK.of (fun q hq => (h.cp hq).cg e1) e0 e4
def setF (S : St) (o : Nat) (n s v : Int32) : Bool × St := match fnd (S.2.1 o) n with
  | none => if s = 0 then (true, S) else if (S.2.1 o).length = 8 then (false, S) else (true, updI S o (S.2.1 o ++ [(n, s, v)]))
  | some k => if s = 0 then (true, updI S o ((S.2.1 o).eraseIdx k)) else (true, updI S o ((S.2.1 o).set k (n, s, v)))
def rootF (S : St) (n s v : Int32) : Bool × St := match fnd S.2.2 n with
  | none => if s = 0 then (true, S) else if S.2.2.length = 12 then (false, S) else (true, updR S (S.2.2 ++ [(n, s, v)]))
  | some k => if s = 0 then (true, updR S ((S.2.2.set k (S.2.2.getD (S.2.2.length - 1) (0, 0, 0))).dropLast)) else (true, updR S (S.2.2.set k (n, s, v)))
end
section
-- what is reached from the roots
def isRef (it : It) (w : Nat) : Prop := it.2.1 = 2 ∧ it.2.2 = nI w
def Reach (S : St) (o : Nat) : Prop := ∀ C : Nat → Prop, (∀ it w, it ∈ S.2.2 → w < 100 → isRef it w → C w) → (∀ q it w, C q → it ∈ S.2.1 q → w < 100 → isRef it w → C w) → C o
theorem Reach.root {S : St} {it : It} {w : Nat} (h : it ∈ S.2.2) (hw : w < 100) (hr : isRef it w) : Reach S w := fun _ c1 _ => c1 it w h hw hr
theorem Reach.step {S : St} {q : Nat} {it : It} {w : Nat} (hq : Reach S q) (h : it ∈ S.2.1 q) (hw : w < 100) (hr : isRef it w) : Reach S w := fun C c1 c2 => c2 q it w (hq C c1 c2) h hw hr
noncomputable def rb (S : St) (o : Nat) : Bool := @decide (Reach S o) (Classical.propDecidable _)
theorem rb_iff {S : St} {o : Nat} : rb S o = true ↔ Reach S o := by
  unfold rb
  exact @decide_eq_true_iff (Reach S o) (Classical.propDecidable _)
noncomputable def swS (S : St) : St := (fun o => if rb S o then S.1 o else 0, fun o => if rb S o then S.2.1 o else [], S.2.2)
noncomputable def swP (S : St) (o : Nat) : Bool := decide (S.1 o ≠ 0) && !rb S o
noncomputable def gon (S : St) : Nat := cnt (swP S) 100
-- the walk over the graph: marks se, those that wait sk
def swA (S : St) (se : Nat → Bool) (sk : List Nat) : Prop := (∀ q, se q = true → q < 100 ∧ Reach S q) ∧ sk.length ≤ cnt se 100 ∧ ∀ w ∈ sk, se w = true
def seenE (S : St) (se : Nat → Bool) (q : Nat) : Prop := ∀ it w, it ∈ S.2.1 q → w < 100 → isRef it w → se w = true
def swC (S : St) (se : Nat → Bool) (sk : List Nat) : Prop := ∀ q, se q = true → q ∈ sk ∨ seenE S se q
def rpR (it : It) (se : Nat → Bool) (sk : List Nat) (se' : Nat → Bool) (sk' : List Nat) : Prop := (se' = se ∧ sk' = sk ∧ ∀ w, w < 100 → isRef it w → se w = true) ∨ ∃ w, w < 100 ∧ isRef it w ∧ se w = false ∧ se' = va_up se w true ∧ sk' = sk ++ [w]
theorem nI_inj {a b : Nat} (ha : a < 2 ^ 31) (hb : b < 2 ^ 31) (h : nI a = nI b) : a = b := (nI_eq ha hb).mp h
theorem isRef.un {it : It} {w w' : Nat} (h : isRef it w) (h' : isRef it w') (hw : w < 100) (hw' : w' < 100) : w = w' := nI_inj (by omega) (by omega) (h.2.symm.trans h'.2)
theorem cnt_up {se : Nat → Bool} {w : Nat} (hs : se w = false) : ∀ {n : Nat}, w < n → cnt (va_up se w true) n = cnt se n + 1
  | 0, h => by omega
  | n + 1, h => by
    by_cases e : w = n
    · subst e
      rw [cnt_t (by simp [va_up]), cnt_f hs, cnt_cg (fun i hi => by rw [va_up_ne _ _ (by omega)])]
    · have ih := cnt_up hs (n := n) (by omega)
      rw [cnt, cnt, ih, va_up_ne _ _ (fun q => e q.symm)]
      omega
theorem cnt_room {se : Nat → Bool} {w n : Nat} (hs : se w = false) (hw : w < n) : cnt se n < n := by
  have h1 := cnt_up hs hw
  have h2 := cnt_le (va_up se w true) n
  omega
theorem rpR.mono {it : It} {se se' : Nat → Bool} {sk sk' : List Nat} (h : rpR it se sk se' sk') {q : Nat} (hq : se q = true) : se' q = true := by
  rcases h with ⟨rfl, -, -⟩ | ⟨w, -, -, -, rfl, -⟩
  · exact hq
  · by_cases e : q = w
    · subst e; exact va_up_self _ _ _
    · rw [va_up_ne _ _ e]; exact hq
theorem rpR.sub {it : It} {se se' : Nat → Bool} {sk sk' : List Nat} (h : rpR it se sk se' sk') {q : Nat} (hq : q ∈ sk) : q ∈ sk' := by
  rcases h with ⟨-, rfl, -⟩ | ⟨w, -, -, -, -, rfl⟩
  · exact hq
  · exact List.mem_append_left _ hq
theorem rpR.hit {it : It} {se se' : Nat → Bool} {sk sk' : List Nat} (h : rpR it se sk se' sk') {w : Nat} (hw : w < 100) (hr : isRef it w) : se' w = true := by
  rcases h with ⟨rfl, -, h⟩ | ⟨w', hw', hr', -, rfl, -⟩
  · exact h w hw hr
  · rw [hr.un hr' hw hw']; exact va_up_self _ _ _
theorem rpR.m {it : It} {se se' : Nat → Bool} {sk sk' : List Nat} (h : rpR it se sk se' sk') : 2 * (100 - cnt se' 100) + sk'.length ≤ 2 * (100 - cnt se 100) + sk.length := by
  rcases h with ⟨rfl, rfl, -⟩ | ⟨w, hw, -, hs, rfl, rfl⟩
  · exact Nat.le_refl _
  · have h1 := cnt_up hs hw
    have h2 := cnt_room hs hw
    rw [h1, List.length_append, List.length_cons, List.length_nil]
    omega
theorem rpR.A {S : St} {it : It} {se se' : Nat → Bool} {sk sk' : List Nat} (h : rpR it se sk se' sk') (hA : swA S se sk) (hit : ∀ w, w < 100 → isRef it w → Reach S w) : swA S se' sk' := by
  obtain ⟨h1, h2, h3⟩ := hA
  rcases h with ⟨rfl, rfl, -⟩ | ⟨w, hw, hr, hs, rfl, rfl⟩
  · exact ⟨h1, h2, h3⟩
  · refine ⟨fun q hq => ?_, ?_, fun q hq => ?_⟩
    · by_cases e : q = w
      · subst e; exact ⟨hw, hit q hw hr⟩
      · rw [va_up_ne _ _ e] at hq; exact h1 q hq
    · rw [cnt_up hs hw, List.length_append, List.length_cons, List.length_nil]; omega
    · rcases List.mem_append.mp hq with h | h
      · by_cases e : q = w
        · subst e; exact va_up_self _ _ _
        · rw [va_up_ne _ _ e]; exact h3 q h
      · rw [List.mem_singleton.mp h]; exact va_up_self _ _ _
theorem seenE.mono {S : St} {se se' : Nat → Bool} {q : Nat} (h : seenE S se q) (hm : ∀ w, se w = true → se' w = true) : seenE S se' q := fun it w h1 h2 h3 => hm w (h it w h1 h2 h3)
/-- all marked ones but q0 wait or have their references marked -/
def swX (S : St) (se : Nat → Bool) (sk : List Nat) (q0 : Nat) : Prop := ∀ q, se q = true → q ≠ q0 → q ∈ sk ∨ seenE S se q
theorem rpR.X {S : St} {it : It} {se se' : Nat → Bool} {sk sk' : List Nat} {q0 : Nat} (h : rpR it se sk se' sk') (hX : swX S se sk q0) : swX S se' sk' q0 := by
  intro q hq hne
  have old : se q = true → q ∈ sk' ∨ seenE S se' q := fun hs => by
    rcases hX q hs hne with h1 | h1
    · exact Or.inl (h.sub h1)
    · exact Or.inr (h1.mono (fun w hw => h.mono hw))
  rcases h with ⟨rfl, rfl, hh⟩ | ⟨w, hw, hr, hs, rfl, rfl⟩
  · exact old hq
  · by_cases e : q = w
    · subst e; exact Or.inl (List.mem_append_right _ (List.mem_singleton.mpr rfl))
    · rw [va_up_ne _ _ e] at hq; exact old hq
theorem rpR.C {S : St} {it : It} {se se' : Nat → Bool} {sk sk' : List Nat} (h : rpR it se sk se' sk') (hC : swC S se sk) : swC S se' sk' := by
  intro q hq
  by_cases e : q = 100
  · subst e
    exact (h.X (q0 := 101) (fun q hs _ => hC q hs)) 100 hq (by decide)
  · exact (h.X (q0 := 100) (fun q hs _ => hC q hs)) q hq e
theorem sw_end {S : St} {se : Nat → Bool} (hA : swA S se []) (hC : swC S se []) (hR : ∀ it w, it ∈ S.2.2 → w < 100 → isRef it w → se w = true) (q : Nat) : se q = rb S q := by
  have h : se q = true ↔ rb S q = true := by
    rw [rb_iff]
    constructor
    · exact fun h => (hA.1 q h).2
    · intro h
      refine h (fun q => se q = true) hR (fun q it w hq hit hw hr => ?_)
      rcases hC q hq with h1 | h1
      · simp at h1
      · exact h1 it w hit hw hr
  cases h1 : se q <;> cases h2 : rb S q <;> simp_all
-- the marks and the stack in the class' cells
def swK (μ : zMem) (b : Nat) (se : Nat → Bool) (sk : List Nat) : Prop := (∀ o, o < 100 → μ.1 (b + 9) o = bI (se o)) ∧ μ.1 b 1 = nI sk.length ∧ ∀ j w, sk[j]? = some w → μ.1 (b + 10) j = nI w
theorem bI_t : bI true = nI 1 := rfl
theorem bI_f : bI false = nI 0 := rfl
end
section
-- the answers, as functions of the pure picture
noncomputable def cif {α : Type} (P : Prop) (a b : α) : α := @ite α P (Classical.propDecidable P) a b
theorem cif_t {α : Type} {P : Prop} {a b : α} (h : P) : cif P a b = a := by unfold cif; exact if_pos h
theorem cif_f {α : Type} {P : Prop} {a b : α} (h : ¬ P) : cif P a b = b := by unfold cif; exact if_neg h
noncomputable def pb (P : Prop) : Bool := @decide P (Classical.propDecidable _)
theorem pb_t {P : Prop} (h : P) : pb P = true := @decide_eq_true P (Classical.propDecidable _) h
theorem pb_f {P : Prop} (h : ¬ P) : pb P = false := @decide_eq_false P (Classical.propDecidable _) h
def pIs (S : St) (o : Int32) (k : Nat) : Prop := ∃ j, j < 100 ∧ o = nI j ∧ S.1 j = k
def pTh (S : St) (o : Int32) : Prop := ∃ j, j < 100 ∧ o = nI j ∧ S.1 j ≠ 0
def pVal (S : St) (s v : Int32) : Prop := s = 0 ∨ s = 1 ∨ (s = 2 ∧ pTh S v)
def pItem (S : St) (o k : Int32) : Prop := ∃ j i, j < 100 ∧ o = nI j ∧ S.1 j = 2 ∧ i < (S.2.1 j).length ∧ k = nI i
def pln (s v : Int32) : Int32 := if s = 0 then 0 else v
def told (s v : Int32) : Int64 := if s = 0 then 1099511627776 else if s = 1 then v.toInt64 else 1099511627777 + v.toInt64
def tl (it : It) : Int64 := told it.2.1 it.2.2
def gt (l : List It) (n : Int32) : Int64 := match fnd l n with
  | none => 1099511627776
  | some k => tl (l.getD k (0, 0, 0))
def fMake (S : St) (r : Int32) : Int32 × St := match ffree S.1 100 0 with
  | none => (-3, S)
  | some o => (nI o, mkS S o (if r = 0 then 1 else 2))
def aSet (S : St) (j : Nat) (n s v : Int32) : Int32 × St := (cond (setF S j n s v).1 (nI ((setF S j n s v).2.2.1 j).length) (-3), (setF S j n s v).2)
noncomputable def fSet (S : St) (o n s v : Int32) : Int32 × St := cif (pIs S o 1 ∧ pVal S s v) (aSet S o.toNatClampNeg n s (pln s v)) (-1, S)
noncomputable def fGet (S : St) (o n : Int32) : Int64 := cif (pIs S o 1) (gt (S.2.1 o.toNatClampNeg) n) (-1099511627776)
def aPush (S : St) (j : Nat) (s v : Int32) : Int32 × St := if (S.2.1 j).length = 20 then (-3, S) else (nI ((S.2.1 j).length + 1), updI S j (S.2.1 j ++ [(0, s, v)]))
noncomputable def fPush (S : St) (o s v : Int32) : Int32 × St := cif (pIs S o 2 ∧ pVal S s v) (aPush S o.toNatClampNeg s (pln s v)) (-1, S)
def aPop (S : St) (j : Nat) : Int64 × St := (tl ((S.2.1 j).getD ((S.2.1 j).length - 1) (0, 0, 0)), updI S j (S.2.1 j).dropLast)
noncomputable def fPop (S : St) (o : Int32) : Int64 × St := cif (pIs S o 2 ∧ (S.2.1 o.toNatClampNeg).length ≠ 0) (aPop S o.toNatClampNeg) (-1099511627776, S)
noncomputable def fPut (S : St) (o k s v : Int32) : Int32 × St := cif (pItem S o k ∧ pVal S s v) (nI 0, updI S o.toNatClampNeg ((S.2.1 o.toNatClampNeg).set k.toNatClampNeg (0, s, pln s v))) (-1, S)
noncomputable def fItem (S : St) (o k : Int32) : Int64 := cif (pItem S o k) (tl ((S.2.1 o.toNatClampNeg).getD k.toNatClampNeg (0, 0, 0))) (-1099511627776)
def aRoot (S : St) (n s v : Int32) : Int32 × St := (cond (rootF S n s v).1 (nI (rootF S n s v).2.2.2.length) (-3), (rootF S n s v).2)
noncomputable def fRoot (S : St) (n s v : Int32) : Int32 × St := cif (pVal S s v) (aRoot S n s (pln s v)) (-1, S)
noncomputable def fKind (S : St) (o : Int32) : Int32 := cif (∃ j, j < 100 ∧ o = nI j) (nI (S.1 o.toNatClampNeg)) (-1)
noncomputable def fSize (S : St) (o : Int32) : Int32 := cif (pTh S o) (nI (S.2.1 o.toNatClampNeg).length) (-1)
theorem clampJ {j : Nat} (h : j < 100) : (nI j).toNatClampNeg = j := nI_clamp (by omega)
theorem pIs.no1 {S : St} {o : Int32} {k : Nat} (h : o < 0) : ¬ pIs S o k := by
  rintro ⟨j, hj, rfl, -⟩
  exact nI_pos (by omega) h
theorem pIs.no2 {S : St} {o : Int32} {k : Nat} (h : nI 100 ≤ o) : ¬ pIs S o k := by
  rintro ⟨j, hj, rfl, -⟩
  exact nI_ge hj (by decide) h
theorem pIs.iff {S : St} {j k : Nat} (hj : j < 100) : pIs S (nI j) k ↔ S.1 j = k := by
  constructor
  · rintro ⟨i, hi, e, h⟩
    rw [nI_inj (by omega) (by omega) e]
    exact h
  · exact fun h => ⟨j, hj, rfl, h⟩
theorem pTh.no1 {S : St} {o : Int32} (h : o < 0) : ¬ pTh S o := by
  rintro ⟨j, hj, rfl, -⟩
  exact nI_pos (by omega) h
theorem pTh.no2 {S : St} {o : Int32} (h : nI 100 ≤ o) : ¬ pTh S o := by
  rintro ⟨j, hj, rfl, -⟩
  exact nI_ge hj (by decide) h
theorem pTh.iff {S : St} {j : Nat} (hj : j < 100) : pTh S (nI j) ↔ S.1 j ≠ 0 := by
  constructor
  · rintro ⟨i, hi, e, h⟩
    rw [nI_inj (by omega) (by omega) e]
    exact h
  · exact fun h => ⟨j, hj, rfl, h⟩
theorem pTh.of {S : St} (hS : Inv S) {o : Int32} : pTh S o ↔ pIs S o 1 ∨ pIs S o 2 := by
  constructor
  · rintro ⟨j, hj, e, h⟩
    have := hS.kd hj
    by_cases h1 : S.1 j = 1
    · exact Or.inl ⟨j, hj, e, h1⟩
    · exact Or.inr ⟨j, hj, e, by omega⟩
  · rintro (⟨j, hj, e, h⟩ | ⟨j, hj, e, h⟩)
    · exact ⟨j, hj, e, by omega⟩
    · exact ⟨j, hj, e, by omega⟩
theorem vOk.of {S : St} {s v : Int32} (n : Int32) (h : pVal S s v) : vOk S.1 (n, s, pln s v) := by
  rcases h with h | h | ⟨h, j, hj, e, hk⟩
  · exact Or.inl ⟨h, by simp [pln, h]⟩
  · exact Or.inr (Or.inl h)
  · refine Or.inr (Or.inr ⟨h, j, hj, hk, ?_⟩)
    have : ¬ s = 0 := by rw [h]; decide
    simp [pln, this, e]
end
section
-- the whole: what is there, what was kept, what is safe, those that wait (with their bytes), the log
abbrev Ts : Type := St × St × St × List (St × Nat) × Int64
def InvT (T : Ts) : Prop := Inv T.1 ∧ Inv T.2.1 ∧ Inv T.2.2.1 ∧ T.2.2.2.1.length ≤ 8 ∧ ∀ e ∈ T.2.2.2.1, Inv e.1 ∧ e.2 ≤ 2000
theorem RepK.cgA {μ μ' : zMem} {b : Nat} {S : St} (h : RepK μ b S) (e : ∀ a, b ≤ a → a < b + 9 → μ'.1 a = μ.1 a) : RepK μ' b S := h.cg (by rw [e b (by omega) (by omega)]) (fun a h1 h2 => e a (by omega) h2)
def aPi (μ : zMem) (z : Nat) (π : Nat → Nat) : Prop := (∀ k, k < 8 → π k < 8 ∧ μ.2.2 (z + 34) k = some (z + 36 + 11 * π k)) ∧ ∀ i j, i < 8 → j < 8 → π i = π j → i = j
def RepKH (μ : zMem) (z : Nat) (T : Ts) : Prop := RepK μ (z + 1) T.1 ∧ RepK μ (z + 12) T.2.1 ∧ RepK μ (z + 23) T.2.2.1 ∧ μ.1 z 0 = nI T.2.2.2.1.length ∧ μ.2.1 z 0 = T.2.2.2.2 ∧ ∃ π : Nat → Nat, aPi μ z π ∧ ∀ k e, T.2.2.2.1[k]? = some e → RepK μ (z + 36 + 11 * π k) e.1 ∧ μ.1 (z + 35) k = nI e.2
/-- only the state that is there changes -/
theorem RepKH.now {μ μ' : zMem} {z : Nat} {T : Ts} {S' : St} (h : RepKH μ z T) (ho : zOut (z + 1) 11 μ μ') (hS : RepK μ' (z + 1) S') : RepKH μ' z (S', T.2) := by
  obtain ⟨-, h2, h3, h4, h5, π, h6, h7⟩ := h
  refine ⟨hS, h2.out ho (by omega), h3.out ho (by omega), by rw [(ho z (by omega)).1]; exact h4, by rw [(ho z (by omega)).2.1]; exact h5, π, ⟨fun k hk => ⟨(h6.1 k hk).1, by rw [(ho (z + 34) (by omega)).2.2]; exact (h6.1 k hk).2⟩, h6.2⟩, fun k e he => ⟨(h7 k e he).1.out ho (by omega), by rw [(ho (z + 35) (by omega)).1]; exact (h7 k e he).2⟩⟩
def wrF (T : Ts) (n : Nat) : Ts := match T.2.2.2.1 with
  | [] => (T.1, T.1, T.2.2.1, [(T.1, n)], T.2.2.2.2 + (nI n).toInt64)
  | e :: r => if r.length = 7 then (T.1, T.1, e.1, r ++ [(T.1, n)], T.2.2.2.2 + (nI n).toInt64) else (T.1, T.1, T.2.2.1, (e :: r) ++ [(T.1, n)], T.2.2.2.2 + (nI n).toInt64)
def cr : List (St × Nat) → Nat → Nat
  | [], _ => 0
  | e :: r, m => if e.2 ≤ m then 1 + cr r (m - e.2) else 0
theorem cr_le : ∀ (l : List (St × Nat)) (m : Nat), cr l m ≤ l.length
  | [], _ => Nat.le_refl _
  | e :: r, m => by
    unfold cr
    split
    · have := cr_le r (m - e.2)
      simp only [List.length_cons]
      omega
    · exact Nat.zero_le _
def lsub : Int64 → List (St × Nat) → Int64
  | g, [] => g
  | g, e :: r => lsub (g - (nI e.2).toInt64) r
theorem drop_cons {α : Type} {l : List α} {k : Nat} {e : α} (h : l[k]? = some e) : l.drop k = e :: l.drop (k + 1) := by
  obtain ⟨hk, he⟩ := List.getElem?_eq_some_iff.mp h
  rw [← he]
  exact List.drop_eq_getElem_cons hk
def sfF (T : Ts) (k : Nat) : St := match k with
  | 0 => T.2.2.1
  | i + 1 => ((T.2.2.2.1[i]?).map Prod.fst).getD T.2.2.1
def crT (T : Ts) (k : Nat) : Ts := (sfF T k, sfF T k, sfF T k, [], lsub T.2.2.2.2 (T.2.2.2.1.drop k))
def fCrash (T : Ts) (n : Int32) : Int32 × Ts := if n < 0 then (-1, T) else (nI (cr T.2.2.2.1 n.toNatClampNeg), crT T (cr T.2.2.2.1 n.toNatClampNeg))
def fCommit (T : Ts) : Int32 × Ts := (nI (chg T.1 T.2.1), wrF T (chg T.1 T.2.1))
def fUndo (T : Ts) : Int32 × Ts := (nI (chg T.1 T.2.1 - 8), (T.2.1, T.2))
noncomputable def fSweep (T : Ts) : Int32 × Ts := (nI (gon T.2.1), if gon T.2.1 = 0 then (swS T.2.1, T.2) else wrF (swS T.2.1, T.2) 8)
def fSync (T : Ts) : Int32 × Ts := (nI T.2.2.2.1.length, (T.1, T.2.1, T.2.1, [], T.2.2.2.2))
def fCount (T : Ts) (w : Int32) : Int32 := if w = 0 then nI (cnt (fun o => decide (T.1.1 o ≠ 0)) 100) else if w = 1 then nI T.1.2.2.length else if w = 2 then nI T.2.2.2.1.length else if w = 3 then T.2.2.2.2.toInt32 else -1
theorem sw4 (a : Int32) : a = 0 ∨ a = 1 ∨ a = 2 ∨ a = 3 ∨ (a.toInt < 0 ∨ 3 < a.toInt) := by
  by_cases h : a.toInt < 0 ∨ 3 < a.toInt
  · exact Or.inr (Or.inr (Or.inr (Or.inr h)))
  · have h0 : a.toInt = 0 ∨ a.toInt = 1 ∨ a.toInt = 2 ∨ a.toInt = 3 := by omega
    rcases h0 with h | h | h | h
    · exact Or.inl (Int32.toInt_inj.mp h)
    · exact Or.inr (Or.inl (Int32.toInt_inj.mp h))
    · exact Or.inr (Or.inr (Or.inl (Int32.toInt_inj.mp h)))
    · exact Or.inr (Or.inr (Or.inr (Or.inl (Int32.toInt_inj.mp h))))
theorem rchg_le {S S' : St} (hS : Inv S) (hS' : Inv S') : rchg S S' ≤ 24 := by
  have h1 := cl_le (rc1 S') S.2.2 S.2.2.length
  have h2 := cl_le (rc2 S) S'.2.2 S'.2.2.length
  have h3 := hS.rl
  have h4 := hS'.rl
  unfold rchg
  omega
theorem chg_le {S S' : St} (hS : Inv S) (hS' : Inv S') : chg S S' ≤ 2000 := by
  have h1 := rchg_le hS hS'
  have h2 := cnt_le (ochg S S') 100
  unfold chg
  omega
end
section
set_option maxRecDepth 4000 in
theorem c_KS_findRoot {g : zG} {b : Nat} {μ : zMem} {S : St} (hb : KSb g b) (hS : Inv S) (hK : RepK μ b S) (n : Int32) : zC g y_KS_findRoot b_KS_findRoot 3 (some .int) 0 0 [.ref b, .int n] μ (zI (ixI (fnd S.2.2 n)) (zS μ)) := by
  refine zC.of (by decide) (Nat.le_of_ble_eq_true rfl) [some (.ref b), some (.int n), none] rfl rfl (fun x F hR => ?_)
  have F : zF g x b_KS_findRoot R_KS 3 0 0 := F
  have hrl := hS.rl
  refine n_iconst F (n := 0) d_KS_findRoot_0 ?_
  refine s_istore_n F d_KS_findRoot_1 (Nat.le_of_ble_eq_true rfl) rfl rfl ?_
  refine lpU S.2.2.length (fun k (_ : Unit) => PW g x μ 2 [some (.ref b), some (.int n), some (.int (nI k))] []) (fun k _ => ∀ j it, j < k → S.2.2[j]? = some it → it.1 ≠ n) (fun k _ hk hI ih => ?_) 0 () (Nat.zero_le _) (fun j it h => absurd h (Nat.not_lt_zero j))
  refine s_iload_n F d_KS_findRoot_2 rfl ?_
  refine s_aload_n F d_KS_findRoot_3 rfl ?_
  refine g_KS_43 F d_KS_findRoot_4 (ks_0 hb) (hK.rs) ?_
  refine n_icmp_ge F 28 d_KS_findRoot_7 (by decide) (by omega) (by omega) (fun h1 => ?_) (fun h2 => ?_)
  · refine n_iconst_m1 F d_KS_findRoot_28 ?_
    have e : fnd S.2.2 n = none := fnd_none (fun j it hj => hI j it (by have := (List.getElem?_eq_some_iff.mp hj).1; omega) hj)
    exact s_iret F hR d_KS_findRoot_29 (⟨by rw [e]; rfl, rfl⟩)
  · obtain ⟨it, hit⟩ := getIt h2
    refine s_aload_n F d_KS_findRoot_10 rfl ?_
    refine g_KS_27 F d_KS_findRoot_11 (ks_0 hb) ?_
    refine s_iload_n F d_KS_findRoot_14 rfl ?_
    refine s_iald F d_KS_findRoot_15 (ks_6 hb) (by omega) (by decide) (hK.rn hit) ?_
    refine s_iload_n F d_KS_findRoot_16 rfl ?_
    refine s_icmp_ne F 22 d_KS_findRoot_17 (by decide) (fun h3 => ?_) (fun h4 => ?_)
    · refine n_iinc F (n := 1) d_KS_findRoot_22 rfl rfl rfl ?_
      refine s_goto F 2 d_KS_findRoot_25 (by decide) ?_
      exact ih h2 () (fun j it' hj hit' => by
        by_cases e : j = k
        · subst e
          rw [hit] at hit'
          cases hit'
          exact h3
        · exact hI j it' (by omega) hit')
    · refine s_iload_n F d_KS_findRoot_20 rfl ?_
      exact s_iret F hR d_KS_findRoot_21 (⟨by rw [fnd_some hit h4 hI]; rfl, rfl⟩)
set_option maxRecDepth 4000 in
theorem c_KS_findField {g : zG} {b : Nat} {μ : zMem} {S : St} (hb : KSb g b) (hS : Inv S) (hK : RepK μ b S) {o : Nat} (ho : o < 100) (n : Int32) : zC g y_KS_findField b_KS_findField 4 (some .int) 0 0 [.ref b, .int (nI o), .int n] μ (zI (fxI o (fnd (S.2.1 o) n)) (zS μ)) := by
  refine zC.of (by decide) (Nat.le_of_ble_eq_true rfl) [some (.ref b), some (.int (nI o)), some (.int n), none] rfl rfl (fun x F hR => ?_)
  have F : zF g x b_KS_findField R_KS 4 0 0 := F
  have hln := hS.ln ho
  refine s_iload_n F d_KS_findField_0 rfl ?_
  refine n_bipush F (n := 20) d_KS_findField_1 rfl ?_
  refine n_imul F d_KS_findField_3 ?_
  refine s_istore_n F d_KS_findField_4 (Nat.le_of_ble_eq_true rfl) rfl rfl ?_
  refine lpU (S.2.1 o).length (fun k (_ : Unit) => PW g x μ 5 [some (.ref b), some (.int (nI o)), some (.int n), some (.int (nI (o * 20 + k)))] []) (fun k _ => ∀ (j : Nat) (it : It), j < k → (S.2.1 o)[j]? = some it → it.1 ≠ n) (fun k _ hk hI ih => ?_) 0 () (Nat.zero_le _) (fun j it h => absurd h (Nat.not_lt_zero j))
  refine s_iload_n F d_KS_findField_5 rfl ?_
  refine s_iload_n F d_KS_findField_6 rfl ?_
  refine n_bipush F (n := 20) d_KS_findField_7 rfl ?_
  refine n_imul F d_KS_findField_9 ?_
  refine s_aload_n F d_KS_findField_10 rfl ?_
  refine g_KS_15 F d_KS_findField_11 (ks_0 hb) ?_
  refine s_iload_n F d_KS_findField_14 rfl ?_
  refine s_iald F d_KS_findField_15 (ks_2 hb) (by omega) (by decide) (hK.sz ho) ?_
  refine n_iadd F d_KS_findField_16 ?_
  refine n_icmp_ge F 38 d_KS_findField_17 (by decide) (by omega) (by omega) (fun h1 => ?_) (fun h2 => ?_)
  · refine n_iconst_m1 F d_KS_findField_38 ?_
    have e : fnd (S.2.1 o) n = none := fnd_none (fun j it hj => hI j it (by have := (List.getElem?_eq_some_iff.mp hj).1; omega) hj)
    exact s_iret F hR d_KS_findField_39 (⟨by rw [e]; rfl, rfl⟩)
  · have h2 : k < (S.2.1 o).length := by omega
    obtain ⟨it, hit⟩ := getIt h2
    refine s_aload_n F d_KS_findField_20 rfl ?_
    refine g_KS_18 F d_KS_findField_21 (ks_0 hb) ?_
    refine s_iload_n F d_KS_findField_24 rfl ?_
    refine s_iald F d_KS_findField_25 (ks_3 hb) (by omega) (by decide) (hK.nm ho hit) ?_
    refine s_iload_n F d_KS_findField_26 rfl ?_
    refine s_icmp_ne F 32 d_KS_findField_27 (by decide) (fun h3 => ?_) (fun h4 => ?_)
    · refine n_iinc F (n := 1) d_KS_findField_32 rfl rfl rfl ?_
      refine s_goto F 5 d_KS_findField_35 (by decide) ?_
      exact ih h2 () (fun j it' hj hit' => by
        by_cases e : j = k
        · subst e
          rw [hit] at hit'
          cases hit'
          exact h3
        · exact hI j it' (by omega) hit')
    · refine s_iload_n F d_KS_findField_30 rfl ?_
      exact s_iret F hR d_KS_findField_31 (⟨by rw [fnd_some hit h4 hI]; rfl, rfl⟩)
set_option maxRecDepth 4000 in
theorem c_KS_objects {g : zG} {b : Nat} {μ : zMem} {S : St} (hb : KSb g b) (hS : Inv S) (hK : RepK μ b S) : zC g y_KS_objects b_KS_objects 3 (some .int) 0 0 [.ref b] μ (zI (nI (cnt (fun o => decide (S.1 o ≠ 0)) 100)) (zS μ)) := by
  refine zC.of (by decide) (Nat.le_of_ble_eq_true rfl) [some (.ref b), none, none] rfl rfl (fun x F hR => ?_)
  have F : zF g x b_KS_objects R_KS 3 0 0 := F
  refine n_iconst F (n := 0) d_KS_objects_0 ?_
  refine s_istore_n F d_KS_objects_1 (Nat.le_of_ble_eq_true rfl) rfl rfl ?_
  refine n_iconst F (n := 0) d_KS_objects_2 ?_
  refine s_istore_n F d_KS_objects_3 (Nat.le_of_ble_eq_true rfl) rfl rfl ?_
  refine lpU 100 (fun k (_ : Unit) => PW g x μ 4 [some (.ref b), some (.int (nI (cnt (fun o => decide (S.1 o ≠ 0)) k))), some (.int (nI k))] []) (fun k _ => True) (fun k _ hk hI ih => ?_) 0 () (Nat.zero_le _) trivial
  refine s_iload_n F d_KS_objects_4 rfl ?_
  refine n_bipush F (n := 100) d_KS_objects_5 rfl ?_
  refine n_icmp_ge F 33 d_KS_objects_7 (by decide) (by omega) (by omega) (fun h1 => ?_) (fun h2 => ?_)
  · have e : k = 100 := by omega
    subst e
    refine s_iload_n F d_KS_objects_33 rfl ?_
    exact s_iret F hR d_KS_objects_34 (⟨rfl, rfl⟩)
  · have hkd := hS.kd h2
    refine s_iload_n F d_KS_objects_10 rfl ?_
    refine s_aload_n F d_KS_objects_11 rfl ?_
    refine g_KS_11 F d_KS_objects_12 (ks_0 hb) ?_
    refine s_iload_n F d_KS_objects_15 rfl ?_
    refine s_iald F d_KS_objects_16 (ks_1 hb) (by omega) (by decide) (hK.kd h2) ?_
    refine n_if_eq F 24 d_KS_objects_17 (by decide) (by omega) (fun h3 => ?_) (fun h4 => ?_)
    · refine n_iconst F (n := 0) d_KS_objects_24 ?_
      refine n_iadd F d_KS_objects_25 ?_
      refine s_istore_n F d_KS_objects_26 (Nat.le_of_ble_eq_true rfl) rfl rfl ?_
      refine n_iinc F (n := 1) d_KS_objects_27 rfl rfl rfl ?_
      refine s_goto F 4 d_KS_objects_30 (by decide) ?_
      have e : cnt (fun o => decide (S.1 o ≠ 0)) (k + 1) = cnt (fun o => decide (S.1 o ≠ 0)) k := cnt_f (by simp [h3])
      have := ih h2 () trivial
      rw [e] at this
      exact this
    · refine n_iconst F (n := 1) d_KS_objects_20 ?_
      refine s_goto F 25 d_KS_objects_21 (by decide) ?_
      refine n_iadd F d_KS_objects_25 ?_
      refine s_istore_n F d_KS_objects_26 (Nat.le_of_ble_eq_true rfl) rfl rfl ?_
      refine n_iinc F (n := 1) d_KS_objects_27 rfl rfl rfl ?_
      refine s_goto F 4 d_KS_objects_30 (by decide) ?_
      have e : cnt (fun o => decide (S.1 o ≠ 0)) (k + 1) = cnt (fun o => decide (S.1 o ≠ 0)) k + 1 := cnt_t (by simp [h4])
      have := ih h2 () trivial
      rw [e] at this
      exact this
set_option maxRecDepth 4000 in
theorem c_KS_make {g : zG} {b : Nat} {μ : zMem} {S : St} (hb : KSb g b) (hS : Inv S) (hK : RepK μ b S) (kk : Nat) : zC g y_KS_make b_KS_make 3 (some .int) 0 0 [.ref b, .int (nI kk)] μ (zI (ixI (ffree S.1 100 0)) (fun μ' => RepK μ' b (mkR S kk) ∧ zOut b 11 μ μ')) := by
  refine zC.of (by decide) (Nat.le_of_ble_eq_true rfl) [some (.ref b), some (.int (nI kk)), none] rfl rfl (fun x F hR => ?_)
  have F : zF g x b_KS_make R_KS 3 0 0 := F
  refine n_iconst F (n := 0) d_KS_make_0 ?_
  refine s_istore_n F d_KS_make_1 (Nat.le_of_ble_eq_true rfl) rfl rfl ?_
  refine lpU 100 (fun k (_ : Unit) => PW g x μ 2 [some (.ref b), some (.int (nI kk)), some (.int (nI k))] []) (fun k _ => ffree S.1 100 0 = ffree S.1 (100 - k) k) (fun k _ hk hI ih => ?_) 0 () (Nat.zero_le _) rfl
  refine s_iload_n F d_KS_make_2 rfl ?_
  refine n_bipush F (n := 100) d_KS_make_3 rfl ?_
  refine n_icmp_ge F 42 d_KS_make_5 (by decide) (by omega) (by omega) (fun h1 => ?_) (fun h2 => ?_)
  · have e : k = 100 := by omega
    subst e
    have e : ffree S.1 100 0 = none := hI
    refine n_iconst_m1 F d_KS_make_42 ?_
    exact s_iret F hR d_KS_make_43 (⟨by rw [e]; rfl, by unfold mkR; rw [e]; exact hK, zOut.rf⟩)
  · have hkd := hS.kd h2
    have hI := hI.trans (show ffree S.1 (100 - k) k = (if S.1 k = 0 then some k else ffree S.1 (99 - k) (k + 1)) by rw [show 100 - k = (99 - k) + 1 by omega]; rfl)
    refine s_aload_n F d_KS_make_8 rfl ?_
    refine g_KS_11 F d_KS_make_9 (ks_0 hb) ?_
    refine s_iload_n F d_KS_make_12 rfl ?_
    refine s_iald F d_KS_make_13 (ks_1 hb) (by omega) (by decide) (hK.kd h2) ?_
    refine n_if_eq F 20 d_KS_make_14 (by decide) (by omega) (fun h3 => ?_) (fun h4 => ?_)
    · rw [if_pos h3] at hI
      refine s_aload_n F d_KS_make_20 rfl ?_
      refine g_KS_11 F d_KS_make_21 (ks_0 hb) ?_
      refine s_iload_n F d_KS_make_24 rfl ?_
      refine s_iload_n F d_KS_make_25 rfl ?_
      refine s_iast F d_KS_make_26 (ks_1 hb) (by omega) (by decide) ?_
      refine s_aload_n F d_KS_make_27 rfl ?_
      refine g_KS_15 F d_KS_make_28 (ks_0 hb) ?_
      refine s_iload_n F d_KS_make_31 rfl ?_
      refine n_iconst F (n := 0) d_KS_make_32 ?_
      refine s_iast F d_KS_make_33 (ks_2 hb) (by omega) (by decide) ?_
      refine s_iload_n F d_KS_make_34 rfl ?_
      exact s_iret F hR d_KS_make_35 (⟨by rw [hI]; rfl, by unfold mkR; rw [hI]; exact hK.mk k kk, (zOut.rf.mI (by omega) (by omega)).mI (by omega) (by omega)⟩)
    · rw [if_neg h4] at hI
      refine s_goto F 36 d_KS_make_17 (by decide) ?_
      refine n_iinc F (n := 1) d_KS_make_36 rfl rfl rfl ?_
      refine s_goto F 2 d_KS_make_39 (by decide) ?_
      exact ih h2 () (by rw [hI, show 99 - k = 100 - (k + 1) by omega])
set_option maxRecDepth 4000 in
theorem c_KS_store {g : zG} {b : Nat} {μ : zMem} (hb : KSb g b) {i : Nat} (hi : i < 2000) (n s v : Int32) : zC g y_KS_store b_KS_store 5 none 0 0 [.ref b, .int (nI i), .int n, .int s, .int v] μ (zV (zS (mI (mI (mI μ (b + 3) i n) (b + 4) i s) (b + 5) i v))) := by
  refine zC.of (by decide) (Nat.le_of_ble_eq_true rfl) [some (.ref b), some (.int (nI i)), some (.int n), some (.int s), some (.int v)] rfl rfl (fun x F hR => ?_)
  have F : zF g x b_KS_store R_KS 5 0 0 := F
  refine s_aload_n F d_KS_store_0 rfl ?_
  refine g_KS_18 F d_KS_store_1 (ks_0 hb) ?_
  refine s_iload_n F d_KS_store_4 rfl ?_
  refine s_iload_n F d_KS_store_5 rfl ?_
  refine s_iast F d_KS_store_6 (ks_3 hb) (by omega) (by decide) ?_
  refine s_aload_n F d_KS_store_7 rfl ?_
  refine g_KS_21 F d_KS_store_8 (ks_0 hb) ?_
  refine s_iload_n F d_KS_store_11 rfl ?_
  refine s_iload_n F d_KS_store_12 rfl ?_
  refine s_iast F d_KS_store_13 (ks_4 hb) (by omega) (by decide) ?_
  refine s_aload_n F d_KS_store_14 rfl ?_
  refine g_KS_24 F d_KS_store_15 (ks_0 hb) ?_
  refine s_iload_n F d_KS_store_18 rfl ?_
  refine s_iload F d_KS_store_19 rfl ?_
  refine s_iast F d_KS_store_21 (ks_5 hb) (by omega) (by decide) ?_
  exact s_vret F hR d_KS_store_22 (⟨rfl, rfl⟩)
set_option maxRecDepth 4000 in
theorem c_KS_sameObject {g : zG} {b c : Nat} {μ : zMem} {S S' : St} (hb : KSb g b) (hc : KSb g c) (hS : Inv S) (hS' : Inv S') (hK : RepK μ b S) (hK' : RepK μ c S') {o : Nat} (ho : o < 100) : zC g y_KS_sameObject b_KS_sameObject 4 (some .boolean) 0 0 [.ref b, .ref c, .int (nI o)] μ (zI (bI (sameO S S' o)) (zS μ)) := by
  refine zC.of (by decide) (Nat.le_of_ble_eq_true rfl) [some (.ref b), some (.ref c), some (.int (nI o)), none] rfl rfl (fun x F hR => ?_)
  have F : zF g x b_KS_sameObject R_KS 4 0 0 := F
  have hln := hS.ln ho
  have hln' := hS'.ln ho
  have hkd := hS.kd ho
  have hkd' := hS'.kd ho
  refine s_aload_n F d_KS_sameObject_0 rfl ?_
  refine g_KS_11 F d_KS_sameObject_1 (ks_0 hb) ?_
  refine s_iload_n F d_KS_sameObject_4 rfl ?_
  refine s_iald F d_KS_sameObject_5 (ks_1 hb) (by omega) (by decide) (hK.kd ho) ?_
  refine s_aload_n F d_KS_sameObject_6 rfl ?_
  refine g_KS_11 F d_KS_sameObject_7 (ks_0 hc) ?_
  refine s_iload_n F d_KS_sameObject_10 rfl ?_
  refine s_iald F d_KS_sameObject_11 (ks_1 hc) (by omega) (by decide) (hK'.kd ho) ?_
  refine n_icmp_ne F 30 d_KS_sameObject_12 (by decide) (by omega) (by omega) (fun h1 => ?_) (fun h1 => ?_)
  · refine n_iconst F (n := 0) d_KS_sameObject_30 ?_
    have e : sameO S S' o = false := by simp [sameO, h1]
    exact s_zret F hR d_KS_sameObject_31 (by decide) (⟨by rw [e]; rfl, rfl⟩)
  refine s_aload_n F d_KS_sameObject_15 rfl ?_
  refine g_KS_15 F d_KS_sameObject_16 (ks_0 hb) ?_
  refine s_iload_n F d_KS_sameObject_19 rfl ?_
  refine s_iald F d_KS_sameObject_20 (ks_2 hb) (by omega) (by decide) (hK.sz ho) ?_
  refine s_aload_n F d_KS_sameObject_21 rfl ?_
  refine g_KS_15 F d_KS_sameObject_22 (ks_0 hc) ?_
  refine s_iload_n F d_KS_sameObject_25 rfl ?_
  refine s_iald F d_KS_sameObject_26 (ks_2 hc) (by omega) (by decide) (hK'.sz ho) ?_
  refine n_icmp_eq F 32 d_KS_sameObject_27 (by decide) (by omega) (by omega) (fun h2 => ?_) (fun h2 => ?_)
  case refine_2.refine_2 =>
    refine n_iconst F (n := 0) d_KS_sameObject_30 ?_
    have e : sameO S S' o = false := by
      simp only [sameO, decide_eq_false_iff_not]
      rintro ⟨-, q⟩
      exact h2 (by rw [q])
    exact s_zret F hR d_KS_sameObject_31 (by decide) (⟨by rw [e]; rfl, rfl⟩)
  refine s_iload_n F d_KS_sameObject_32 rfl ?_
  refine n_bipush F (n := 20) d_KS_sameObject_33 rfl ?_
  refine n_imul F d_KS_sameObject_35 ?_
  refine s_istore_n F d_KS_sameObject_36 (Nat.le_of_ble_eq_true rfl) rfl rfl ?_
  refine lpU (S.2.1 o).length (fun k (_ : Unit) => PW g x μ 37 [some (.ref b), some (.ref c), some (.int (nI o)), some (.int (nI (o * 20 + k)))] []) (fun k _ => ∀ j, j < k → (S.2.1 o)[j]? = (S'.2.1 o)[j]?) (fun k _ hk hI ih => ?_) 0 () (Nat.zero_le _) (fun j h => absurd h (Nat.not_lt_zero j))
  refine s_iload_n F d_KS_sameObject_37 rfl ?_
  refine s_iload_n F d_KS_sameObject_38 rfl ?_
  refine n_bipush F (n := 20) d_KS_sameObject_39 rfl ?_
  refine n_imul F d_KS_sameObject_41 ?_
  refine s_aload_n F d_KS_sameObject_42 rfl ?_
  refine g_KS_15 F d_KS_sameObject_43 (ks_0 hb) ?_
  refine s_iload_n F d_KS_sameObject_46 rfl ?_
  refine s_iald F d_KS_sameObject_47 (ks_2 hb) (by omega) (by decide) (hK.sz ho) ?_
  refine n_iadd F d_KS_sameObject_48 ?_
  refine n_icmp_ge F 105 d_KS_sameObject_49 (by decide) (by omega) (by omega) (fun h3 => ?_) (fun h4 => ?_)
  · refine n_iconst F (n := 1) d_KS_sameObject_105 ?_
    have e : sameO S S' o = true := by
      simp only [sameO, decide_eq_true_eq]
      refine ⟨h1, List.ext_getElem? (fun j => ?_)⟩
      by_cases hj : j < k
      · exact hI j hj
      · rw [List.getElem?_eq_none (by omega), List.getElem?_eq_none (by omega)]
    exact s_zret F hR d_KS_sameObject_106 (by decide) (⟨by rw [e]; rfl, rfl⟩)
  · have h4 : k < (S.2.1 o).length := by omega
    obtain ⟨it, hit⟩ := getIt h4
    obtain ⟨it', hit'⟩ := getIt (l := S'.2.1 o) (k := k) (by omega)
    have no : it ≠ it' → sameO S S' o = false := fun hne => by
      simp only [sameO, decide_eq_false_iff_not]
      rintro ⟨-, q⟩
      rw [q] at hit
      rw [hit] at hit'
      exact hne (Option.some.inj hit')
    refine s_aload_n F d_KS_sameObject_52 rfl ?_
    refine g_KS_18 F d_KS_sameObject_53 (ks_0 hb) ?_
    refine s_iload_n F d_KS_sameObject_56 rfl ?_
    refine s_iald F d_KS_sameObject_57 (ks_3 hb) (by omega) (by decide) (hK.nm ho hit) ?_
    refine s_aload_n F d_KS_sameObject_58 rfl ?_
    refine g_KS_18 F d_KS_sameObject_59 (ks_0 hc) ?_
    refine s_iload_n F d_KS_sameObject_62 rfl ?_
    refine s_iald F d_KS_sameObject_63 (ks_3 hc) (by omega) (by decide) (hK'.nm ho hit') ?_
    refine s_icmp_ne F 97 d_KS_sameObject_64 (by decide) (fun h5 => ?_) (fun h5 => ?_)
    · refine n_iconst F (n := 0) d_KS_sameObject_97 ?_
      exact s_zret F hR d_KS_sameObject_98 (by decide) (⟨by rw [no (fun q => h5 (by rw [q]))]; rfl, rfl⟩)
    refine s_aload_n F d_KS_sameObject_67 rfl ?_
    refine g_KS_21 F d_KS_sameObject_68 (ks_0 hb) ?_
    refine s_iload_n F d_KS_sameObject_71 rfl ?_
    refine s_iald F d_KS_sameObject_72 (ks_4 hb) (by omega) (by decide) (hK.so ho hit) ?_
    refine s_aload_n F d_KS_sameObject_73 rfl ?_
    refine g_KS_21 F d_KS_sameObject_74 (ks_0 hc) ?_
    refine s_iload_n F d_KS_sameObject_77 rfl ?_
    refine s_iald F d_KS_sameObject_78 (ks_4 hc) (by omega) (by decide) (hK'.so ho hit') ?_
    refine s_icmp_ne F 97 d_KS_sameObject_79 (by decide) (fun h6 => ?_) (fun h6 => ?_)
    · refine n_iconst F (n := 0) d_KS_sameObject_97 ?_
      exact s_zret F hR d_KS_sameObject_98 (by decide) (⟨by rw [no (fun q => h6 (by rw [q]))]; rfl, rfl⟩)
    refine s_aload_n F d_KS_sameObject_82 rfl ?_
    refine g_KS_24 F d_KS_sameObject_83 (ks_0 hb) ?_
    refine s_iload_n F d_KS_sameObject_86 rfl ?_
    refine s_iald F d_KS_sameObject_87 (ks_5 hb) (by omega) (by decide) (hK.va ho hit) ?_
    refine s_aload_n F d_KS_sameObject_88 rfl ?_
    refine g_KS_24 F d_KS_sameObject_89 (ks_0 hc) ?_
    refine s_iload_n F d_KS_sameObject_92 rfl ?_
    refine s_iald F d_KS_sameObject_93 (ks_5 hc) (by omega) (by decide) (hK'.va ho hit') ?_
    refine s_icmp_eq F 99 d_KS_sameObject_94 (by decide) (fun h7 => ?_) (fun h7 => ?_)
    · have eq : it = it' := Prod.ext h5 (Prod.ext h6 h7)
      refine n_iinc F (n := 1) d_KS_sameObject_99 rfl rfl rfl ?_
      refine s_goto F 37 d_KS_sameObject_102 (by decide) ?_
      exact ih h4 () (fun j hj => by
        by_cases e : j = k
        · subst e
          rw [hit, hit', eq]
        · exact hI j (by omega))
    · refine n_iconst F (n := 0) d_KS_sameObject_97 ?_
      exact s_zret F hR d_KS_sameObject_98 (by decide) (⟨by rw [no (fun q => h7 (by rw [q]))]; rfl, rfl⟩)
set_option maxRecDepth 4000 in
theorem c_KS_rootsChanged {g : zG} {b c : Nat} {μ : zMem} {S S' : St} (hb : KSb g b) (hc : KSb g c) (hS : Inv S) (hS' : Inv S') (hK : RepK μ b S) (hK' : RepK μ c S') : zC g y_KS_rootsChanged b_KS_rootsChanged 5 (some .int) 1 22 [.ref b, .ref c] μ (zI (nI (rchg S S')) (zS μ)) := by
  refine zC.of (by decide) (Nat.le_of_ble_eq_true rfl) [some (.ref b), some (.ref c), none, none, none] rfl rfl (fun x F hR => ?_)
  have F : zF g x b_KS_rootsChanged R_KS 5 1 22 := F
  have hrl := hS.rl
  have hrl' := hS'.rl
  refine n_iconst F (n := 0) d_KS_rootsChanged_0 ?_
  refine s_istore_n F d_KS_rootsChanged_1 (Nat.le_of_ble_eq_true rfl) rfl rfl ?_
  refine n_iconst F (n := 0) d_KS_rootsChanged_2 ?_
  refine s_istore_n F d_KS_rootsChanged_3 (Nat.le_of_ble_eq_true rfl) rfl rfl ?_
  refine lpU (σ := Option Value) S.2.2.length (fun k v => PW g x μ 4 [some (.ref b), some (.ref c), some (.int (nI (cl (rc1 S') S.2.2 k))), some (.int (nI k)), v] []) (fun k _ => True) (fun k v hk hI ih => ?_) 0 none (Nat.zero_le _) trivial
  have hc1 := cl_le (rc1 S') S.2.2 k
  refine s_iload_n F d_KS_rootsChanged_4 rfl ?_
  refine s_aload_n F d_KS_rootsChanged_5 rfl ?_
  refine g_KS_43 F d_KS_rootsChanged_6 (ks_0 hb) (hK.rs) ?_
  refine n_icmp_ge F 70 d_KS_rootsChanged_9 (by decide) (by omega) (by omega) (fun h1 => ?_) (fun h2 => ?_)
  · have e : k = S.2.2.length := by omega
    subst e
    refine n_iconst F (n := 0) d_KS_rootsChanged_70 ?_
    refine s_istore_n F d_KS_rootsChanged_71 (Nat.le_of_ble_eq_true rfl) rfl rfl ?_
    refine lpU S'.2.2.length (fun k (_ : Unit) => PW g x μ 72 [some (.ref b), some (.ref c), some (.int (nI (cl (rc1 S') S.2.2 S.2.2.length + cl (rc2 S) S'.2.2 k))), some (.int (nI k)), v] []) (fun k _ => True) (fun k _ hk hI ih => ?_) 0 () (Nat.zero_le _) trivial
    have hc2 := cl_le (rc2 S) S'.2.2 k
    refine s_iload_n F d_KS_rootsChanged_72 rfl ?_
    refine s_aload_n F d_KS_rootsChanged_73 rfl ?_
    refine g_KS_43 F d_KS_rootsChanged_74 (ks_0 hc) (hK'.rs) ?_
    refine n_icmp_ge F 102 d_KS_rootsChanged_77 (by decide) (by omega) (by omega) (fun h1 => ?_) (fun h2 => ?_)
    · have e : k = S'.2.2.length := by omega
      subst e
      refine s_iload_n F d_KS_rootsChanged_102 rfl ?_
      exact s_iret F hR d_KS_rootsChanged_103 (⟨rfl, rfl⟩)
    · obtain ⟨it, hit⟩ := getIt h2
      refine s_aload_n F d_KS_rootsChanged_80 rfl ?_
      refine s_aload_n F d_KS_rootsChanged_81 rfl ?_
      refine g_KS_27 F d_KS_rootsChanged_82 (ks_0 hc) ?_
      refine s_iload_n F d_KS_rootsChanged_85 rfl ?_
      refine s_iald F d_KS_rootsChanged_86 (ks_6 hc) (by omega) (by decide) (hK'.rn hit) ?_
      refine c_ViR F (c_KS_findRoot hb hS hK it.1) ok_KS_findRoot k_164 (ci := 0) rfl (oKS (ks_0 hb)) rfl rfl rfl (Nat.le_of_ble_eq_true rfl) (by decide) d_KS_rootsChanged_87 ?_
      have ih := ih h2 () trivial
      cases hf : fnd S.2.2 it.1 with
      | none =>
        rw [cl_t hit (by simp [rc2, hf])] at ih
        refine m_if_ge F 96 d_KS_rootsChanged_90 (by decide) ?_
        refine n_iinc F (n := 1) d_KS_rootsChanged_93 rfl rfl rfl ?_
        refine n_iinc F (n := 1) d_KS_rootsChanged_96 rfl rfl rfl ?_
        refine s_goto F 72 d_KS_rootsChanged_99 (by decide) ?_
        exact ih
      | some i =>
        rw [cl_f hit (by simp [rc2, hf])] at ih
        have hlt := (fnd_spec hf).1
        refine n_if_geT F 96 d_KS_rootsChanged_90 (by decide) (by omega) ?_
        refine n_iinc F (n := 1) d_KS_rootsChanged_96 rfl rfl rfl ?_
        refine s_goto F 72 d_KS_rootsChanged_99 (by decide) ?_
        exact ih
  · obtain ⟨it, hit⟩ := getIt h2
    refine s_aload_n F d_KS_rootsChanged_12 rfl ?_
    refine s_aload_n F d_KS_rootsChanged_13 rfl ?_
    refine g_KS_27 F d_KS_rootsChanged_14 (ks_0 hb) ?_
    refine s_iload_n F d_KS_rootsChanged_17 rfl ?_
    refine s_iald F d_KS_rootsChanged_18 (ks_6 hb) (by omega) (by decide) (hK.rn hit) ?_
    refine c_ViR F (c_KS_findRoot hc hS' hK' it.1) ok_KS_findRoot k_164 (ci := 0) rfl (oKS (ks_0 hc)) rfl rfl rfl (Nat.le_of_ble_eq_true rfl) (by decide) d_KS_rootsChanged_19 ?_
    refine s_istore F d_KS_rootsChanged_22 (Nat.le_of_ble_eq_true rfl) rfl rfl ?_
    refine s_iload F d_KS_rootsChanged_24 rfl ?_
    cases hf : fnd S'.2.2 it.1 with
    | none =>
      have ih := ih h2 (some (.int (-1))) trivial
      rw [cl_t hit (by simp [rc1, hf])] at ih
      refine m_if_lt F 61 d_KS_rootsChanged_26 (by decide) ?_
      refine n_iinc F (n := 1) d_KS_rootsChanged_61 rfl rfl rfl ?_
      refine n_iinc F (n := 1) d_KS_rootsChanged_64 rfl rfl rfl ?_
      refine s_goto F 4 d_KS_rootsChanged_67 (by decide) ?_
      exact ih
    | some i =>
      obtain ⟨hlt, it', hit', -⟩ := fnd_spec hf
      have ih := ih h2 (some (.int (nI i))) trivial
      have ht : it'.2 ≠ it.2 → rc1 S' it = true := fun q => by simp only [rc1, hf, getD_of hit']; simpa using q
      refine n_if_ltF F 61 d_KS_rootsChanged_26 (by decide) (by omega) ?_
      refine s_aload_n F d_KS_rootsChanged_29 rfl ?_
      refine g_KS_30 F d_KS_rootsChanged_30 (ks_0 hc) ?_
      refine s_iload F d_KS_rootsChanged_33 rfl ?_
      refine s_iald F d_KS_rootsChanged_35 (ks_7 hc) (by omega) (by decide) (hK'.ro hit') ?_
      refine s_aload_n F d_KS_rootsChanged_36 rfl ?_
      refine g_KS_30 F d_KS_rootsChanged_37 (ks_0 hb) ?_
      refine s_iload_n F d_KS_rootsChanged_40 rfl ?_
      refine s_iald F d_KS_rootsChanged_41 (ks_7 hb) (by omega) (by decide) (hK.ro hit) ?_
      refine s_icmp_ne F 61 d_KS_rootsChanged_42 (by decide) (fun h5 => ?_) (fun h5 => ?_)
      · rw [cl_t hit (ht (fun q => h5 (by rw [q])))] at ih
        refine n_iinc F (n := 1) d_KS_rootsChanged_61 rfl rfl rfl ?_
        refine n_iinc F (n := 1) d_KS_rootsChanged_64 rfl rfl rfl ?_
        refine s_goto F 4 d_KS_rootsChanged_67 (by decide) ?_
        exact ih
      refine s_aload_n F d_KS_rootsChanged_45 rfl ?_
      refine g_KS_33 F d_KS_rootsChanged_46 (ks_0 hc) ?_
      refine s_iload F d_KS_rootsChanged_49 rfl ?_
      refine s_iald F d_KS_rootsChanged_51 (ks_8 hc) (by omega) (by decide) (hK'.rv hit') ?_
      refine s_aload_n F d_KS_rootsChanged_52 rfl ?_
      refine g_KS_33 F d_KS_rootsChanged_53 (ks_0 hb) ?_
      refine s_iload_n F d_KS_rootsChanged_56 rfl ?_
      refine s_iald F d_KS_rootsChanged_57 (ks_8 hb) (by omega) (by decide) (hK.rv hit) ?_
      refine s_icmp_eq F 64 d_KS_rootsChanged_58 (by decide) (fun h6 => ?_) (fun h6 => ?_)
      · rw [cl_f hit (by simp only [rc1, hf, getD_of hit']; simpa using Prod.ext h5 h6)] at ih
        refine n_iinc F (n := 1) d_KS_rootsChanged_64 rfl rfl rfl ?_
        refine s_goto F 4 d_KS_rootsChanged_67 (by decide) ?_
        exact ih
      · rw [cl_t hit (ht (fun q => h6 (by rw [q])))] at ih
        refine n_iinc F (n := 1) d_KS_rootsChanged_61 rfl rfl rfl ?_
        refine n_iinc F (n := 1) d_KS_rootsChanged_64 rfl rfl rfl ?_
        refine s_goto F 4 d_KS_rootsChanged_67 (by decide) ?_
        exact ih
set_option maxRecDepth 4000 in
theorem c_KS_changes {g : zG} {b c : Nat} {μ : zMem} {S S' : St} (hb : KSb g b) (hc : KSb g c) (hS : Inv S) (hS' : Inv S') (hK : RepK μ b S) (hK' : RepK μ c S') : zC g y_KS_changes b_KS_changes 4 (some .int) 2 46 [.ref b, .ref c] μ (zI (nI (chg S S')) (zS μ)) := by
  refine zC.of (by decide) (Nat.le_of_ble_eq_true rfl) [some (.ref b), some (.ref c), none, none] rfl rfl (fun x F hR => ?_)
  have F : zF g x b_KS_changes R_KS 4 2 46 := F
  have hrc : rchg S S' ≤ 24 := by
    have h1 := cl_le (rc1 S') S.2.2 S.2.2.length
    have h2 := cl_le (rc2 S) S'.2.2 S'.2.2.length
    have h3 := hS.rl
    have h4 := hS'.rl
    unfold rchg
    omega
  refine n_bipush F (n := 8) d_KS_changes_0 rfl ?_
  refine n_bipush F (n := 6) d_KS_changes_2 rfl ?_
  refine s_aload_n F d_KS_changes_4 rfl ?_
  refine s_aload_n F d_KS_changes_5 rfl ?_
  refine c_ViR F (c_KS_rootsChanged hb hc hS hS' hK hK') ok_KS_rootsChanged k_181 (ci := 0) rfl (oKS (ks_0 hb)) rfl rfl rfl (Nat.le_of_ble_eq_true rfl) (by decide) d_KS_changes_6 ?_
  refine n_imul F d_KS_changes_9 ?_
  refine n_iadd F d_KS_changes_10 ?_
  refine s_istore_n F d_KS_changes_11 (Nat.le_of_ble_eq_true rfl) rfl rfl ?_
  refine n_iconst F (n := 0) d_KS_changes_12 ?_
  refine s_istore_n F d_KS_changes_13 (Nat.le_of_ble_eq_true rfl) rfl rfl ?_
  refine lpU 100 (fun k (_ : Unit) => PW g x μ 14 [some (.ref b), some (.ref c), some (.int (nI (8 + 6 * rchg S S' + 16 * cnt (ochg S S') k))), some (.int (nI k))] []) (fun k _ => True) (fun k _ hk hI ih => ?_) 0 () (Nat.zero_le _) trivial
  have hcn := cnt_le (ochg S S') k
  refine s_iload_n F d_KS_changes_14 rfl ?_
  refine n_bipush F (n := 100) d_KS_changes_15 rfl ?_
  refine n_icmp_ge F 47 d_KS_changes_17 (by decide) (by omega) (by omega) (fun h1 => ?_) (fun h2 => ?_)
  · have e : k = 100 := by omega
    subst e
    refine s_iload_n F d_KS_changes_47 rfl ?_
    exact s_iret F hR d_KS_changes_48 (⟨rfl, rfl⟩)
  have hkd := hS.kd h2
  have ih := ih h2 () trivial
  refine s_aload_n F d_KS_changes_20 rfl ?_
  refine g_KS_11 F d_KS_changes_21 (ks_0 hb) ?_
  refine s_iload_n F d_KS_changes_24 rfl ?_
  refine s_iald F d_KS_changes_25 (ks_1 hb) (by omega) (by decide) (hK.kd h2) ?_
  refine n_if_eq F 41 d_KS_changes_26 (by decide) (by omega) (fun h3 => ?_) (fun h3 => ?_)
  · rw [cnt_f (by simp [ochg, h3])] at ih
    refine n_iinc F (n := 1) d_KS_changes_41 rfl rfl rfl ?_
    refine s_goto F 14 d_KS_changes_44 (by decide) ?_
    exact ih
  refine s_aload_n F d_KS_changes_29 rfl ?_
  refine s_aload_n F d_KS_changes_30 rfl ?_
  refine s_iload_n F d_KS_changes_31 rfl ?_
  refine c_ViR F (c_KS_sameObject hb hc hS hS' hK hK' h2) ok_KS_sameObject k_185 (ci := 0) rfl (oKS (ks_0 hb)) rfl rfl rfl (Nat.le_of_ble_eq_true rfl) (by decide) d_KS_changes_32 ?_
  cases hs : sameO S S' k with
  | true =>
    rw [cnt_f (by simp [ochg, hs])] at ih
    refine n_if_ne F 41 d_KS_changes_35 (a := 1) (by decide) (by omega) (fun _ => ?_) (fun q => by omega)
    refine n_iinc F (n := 1) d_KS_changes_41 rfl rfl rfl ?_
    refine s_goto F 14 d_KS_changes_44 (by decide) ?_
    exact ih
  | false =>
    rw [cnt_t (by simp [ochg, hs, h3])] at ih
    refine n_if_ne F 41 d_KS_changes_35 (a := 0) (by decide) (by omega) (fun q => absurd rfl q) (fun _ => ?_)
    refine n_iinc F (n := 16) d_KS_changes_38 rfl rfl rfl ?_
    refine n_iinc F (n := 1) d_KS_changes_41 rfl rfl rfl ?_
    refine s_goto F 14 d_KS_changes_44 (by decide) ?_
    exact ih
end
section
set_option maxRecDepth 4000 in
theorem c_KS_copy {g : zG} {b c : Nat} {μ : zMem} {S : St} (hb : KSb g b) (hc : KSb g c) (hd : b + 11 ≤ c ∨ c + 11 ≤ b) (hS : Inv S) (hK : RepK μ c S) : zC g y_KS_copy b_KS_copy 4 none 0 0 [.ref b, .ref c] μ (zV (fun μ' => RepK μ' b S ∧ zOut b 11 μ μ')) := by
  refine zC.of (by decide) (Nat.le_of_ble_eq_true rfl) [some (.ref b), some (.ref c), none, none] rfl rfl (fun x F hR => ?_)
  have F : zF g x b_KS_copy R_KS 4 0 0 := F
  have hrl := hS.rl
  refine n_iconst F (n := 0) d_KS_copy_0 ?_
  refine s_istore_n F d_KS_copy_1 (Nat.le_of_ble_eq_true rfl) rfl rfl ?_
  refine lpU (σ := zMem × Option Value) 100 (fun o s => PW g x s.1 2 [some (.ref b), some (.ref c), some (.int (nI o)), s.2] []) (fun o s => zOut b 11 μ s.1 ∧ ∀ q, q < o → cpO s.1 b S q) (fun o s ho hI ih => ?_) 0 (μ, none) (Nat.zero_le _) ⟨zOut.rf, fun q h => absurd h (Nat.not_lt_zero q)⟩
  obtain ⟨μ1, v3⟩ := s
  obtain ⟨hO, hC⟩ := hI
  dsimp only at hO hC ⊢
  have hK1 := hK.out hO (by omega)
  refine s_iload_n F d_KS_copy_2 rfl ?_
  refine n_bipush F (n := 100) d_KS_copy_3 rfl ?_
  refine n_icmp_ge F 100 d_KS_copy_5 (by decide) (by omega) (by omega) (fun h1 => ?_) (fun h2 => ?_)
  · have e : o = 100 := by omega
    subst e
    refine s_aload_n F d_KS_copy_100 rfl ?_
    refine s_aload_n F d_KS_copy_101 rfl ?_
    refine g_KS_43 F d_KS_copy_102 (ks_0 hc) (hK1.rs) ?_
    refine p_KS_43 F d_KS_copy_105 (ks_0 hb) ?_
    refine n_iconst F (n := 0) d_KS_copy_108 ?_
    refine s_istore_n F d_KS_copy_109 (Nat.le_of_ble_eq_true rfl) rfl rfl ?_
    have hO2 : zOut b 11 μ (mI μ1 b 0 (nI S.2.2.length)) := hO.mI (by omega) (by omega)
    refine lpU (σ := zMem) S.2.2.length (fun k s => PW g x s 110 [some (.ref b), some (.ref c), some (.int (nI k)), v3] []) (fun k s => zOut b 11 μ s ∧ (∀ q, q < 100 → cpO s b S q) ∧ s.1 b 0 = nI S.2.2.length ∧ ∀ (j : Nat) (it : It), j < k → S.2.2[j]? = some it → ritm s b j it) (fun k s hk hI ih => ?_) 0 _ (Nat.zero_le _) ⟨hO2, fun q hq => (hC q hq).cg (fun a h1 h2 => mI_o _ _ _ (by omega)), mI_eq _ _ _ _, fun j it h => absurd h (Nat.not_lt_zero j)⟩
    obtain ⟨hO3, hC3, hr3, hi3⟩ := hI
    have hK3 := hK.out hO3 (by omega)
    refine s_iload_n F d_KS_copy_110 rfl ?_
    refine s_aload_n F d_KS_copy_111 rfl ?_
    refine g_KS_43 F d_KS_copy_112 (ks_0 hb) (hr3) ?_
    refine n_icmp_ge F 160 d_KS_copy_115 (by decide) (by omega) (by omega) (fun h3 => ?_) (fun h4 => ?_)
    · exact s_vret F hR d_KS_copy_160 (⟨rfl, RepK.of hC3 hr3 (fun j it hj => hi3 j it (by have := (List.getElem?_eq_some_iff.mp hj).1; omega) hj), hO3⟩)
    · obtain ⟨it, hit⟩ := getIt h4
      have e1 := hK3.rn hit
      have e2 := hK3.ro hit
      have e3 := hK3.rv hit
      refine s_aload_n F d_KS_copy_118 rfl ?_
      refine g_KS_27 F d_KS_copy_119 (ks_0 hb) ?_
      refine s_iload_n F d_KS_copy_122 rfl ?_
      refine s_aload_n F d_KS_copy_123 rfl ?_
      refine g_KS_27 F d_KS_copy_124 (ks_0 hc) ?_
      refine s_iload_n F d_KS_copy_127 rfl ?_
      refine s_iald F d_KS_copy_128 (ks_6 hc) (by omega) (by decide) (e1) ?_
      refine s_iast F d_KS_copy_129 (ks_6 hb) (by omega) (by decide) ?_
      refine s_aload_n F d_KS_copy_130 rfl ?_
      refine g_KS_30 F d_KS_copy_131 (ks_0 hb) ?_
      refine s_iload_n F d_KS_copy_134 rfl ?_
      refine s_aload_n F d_KS_copy_135 rfl ?_
      refine g_KS_30 F d_KS_copy_136 (ks_0 hc) ?_
      refine s_iload_n F d_KS_copy_139 rfl ?_
      refine s_iald F d_KS_copy_140 (ks_7 hc) (by omega) (by decide) ((mI_ne _ _ (Or.inl (by omega))).trans e2) ?_
      refine s_iast F d_KS_copy_141 (ks_7 hb) (by omega) (by decide) ?_
      refine s_aload_n F d_KS_copy_142 rfl ?_
      refine g_KS_33 F d_KS_copy_143 (ks_0 hb) ?_
      refine s_iload_n F d_KS_copy_146 rfl ?_
      refine s_aload_n F d_KS_copy_147 rfl ?_
      refine g_KS_33 F d_KS_copy_148 (ks_0 hc) ?_
      refine s_iload_n F d_KS_copy_151 rfl ?_
      refine s_iald F d_KS_copy_152 (ks_8 hc) (by omega) (by decide) (((mI_ne _ _ (Or.inl (by omega))).trans (mI_ne _ _ (Or.inl (by omega)))).trans e3) ?_
      refine s_iast F d_KS_copy_153 (ks_8 hb) (by omega) (by decide) ?_
      refine n_iinc F (n := 1) d_KS_copy_154 rfl rfl rfl ?_
      refine s_goto F 110 d_KS_copy_157 (by decide) ?_
      refine ih h4 (rset3 s b k it) ⟨hO3.rset3 (by omega) (by omega), fun q hq => (hC3 q hq).cg (fun a h1 h2 => rset3_o (by omega)), by rw [rset3_o (by omega)]; exact hr3, fun j it' hj hj' => ?_⟩
      by_cases e : j = k
      · subst e
        rw [hit] at hj'
        cases hj'
        exact ritm.at
      · exact (hi3 j it' (by omega) hj').ne e
  · have hln := hS.ln h2
    refine s_aload_n F d_KS_copy_8 rfl ?_
    refine g_KS_11 F d_KS_copy_9 (ks_0 hb) ?_
    refine s_iload_n F d_KS_copy_12 rfl ?_
    refine s_aload_n F d_KS_copy_13 rfl ?_
    refine g_KS_11 F d_KS_copy_14 (ks_0 hc) ?_
    refine s_iload_n F d_KS_copy_17 rfl ?_
    refine s_iald F d_KS_copy_18 (ks_1 hc) (by omega) (by decide) (hK1.kd h2) ?_
    refine s_iast F d_KS_copy_19 (ks_1 hb) (by omega) (by decide) ?_
    refine s_aload_n F d_KS_copy_20 rfl ?_
    refine g_KS_15 F d_KS_copy_21 (ks_0 hb) ?_
    refine s_iload_n F d_KS_copy_24 rfl ?_
    refine s_aload_n F d_KS_copy_25 rfl ?_
    refine g_KS_15 F d_KS_copy_26 (ks_0 hc) ?_
    refine s_iload_n F d_KS_copy_29 rfl ?_
    refine s_iald F d_KS_copy_30 (ks_2 hc) (by omega) (by decide) ((mI_ne _ _ (Or.inl (by omega))).trans (hK1.sz h2)) ?_
    refine s_iast F d_KS_copy_31 (ks_2 hb) (by omega) (by decide) ?_
    refine s_iload_n F d_KS_copy_32 rfl ?_
    refine n_bipush F (n := 20) d_KS_copy_33 rfl ?_
    refine n_imul F d_KS_copy_35 ?_
    refine s_istore_n F d_KS_copy_36 (Nat.le_of_ble_eq_true rfl) rfl rfl ?_
    have hO2 : zOut b 11 μ (mI (mI μ1 (b + 1) o (nI (S.1 o))) (b + 2) o (nI (S.2.1 o).length)) := (hO.mI (by omega) (by omega)).mI (by omega) (by omega)
    refine lpU (σ := zMem) (S.2.1 o).length (fun j s => PW g x s 37 [some (.ref b), some (.ref c), some (.int (nI o)), some (.int (nI (o * 20 + j)))] []) (fun j s => zOut b 11 μ s ∧ (∀ q, q < o → cpO s b S q) ∧ s.1 (b + 1) o = nI (S.1 o) ∧ s.1 (b + 2) o = nI (S.2.1 o).length ∧ ∀ (i : Nat) (it : It), i < j → (S.2.1 o)[i]? = some it → itm s b (o * 20 + i) it) (fun j s hj hI jh => ?_) 0 _ (Nat.zero_le _) ⟨hO2, fun q hq => ((hC q hq).ne (by omega) _ (Or.inl rfl)).ne (by omega) _ (Or.inr rfl), by rw [mI_ne _ _ (Or.inl (by omega))]; exact mI_eq _ _ _ _, mI_eq _ _ _ _, fun j it h => absurd h (Nat.not_lt_zero j)⟩
    obtain ⟨hO3, hC3, hk3, hs3, hi3⟩ := hI
    have hK3 := hK.out hO3 (by omega)
    refine s_iload_n F d_KS_copy_37 rfl ?_
    refine s_iload_n F d_KS_copy_38 rfl ?_
    refine n_bipush F (n := 20) d_KS_copy_39 rfl ?_
    refine n_imul F d_KS_copy_41 ?_
    refine s_aload_n F d_KS_copy_42 rfl ?_
    refine g_KS_15 F d_KS_copy_43 (ks_0 hb) ?_
    refine s_iload_n F d_KS_copy_46 rfl ?_
    refine s_iald F d_KS_copy_47 (ks_2 hb) (by omega) (by decide) (hs3) ?_
    refine n_iadd F d_KS_copy_48 ?_
    refine n_icmp_ge F 94 d_KS_copy_49 (by decide) (by omega) (by omega) (fun h3 => ?_) (fun h4 => ?_)
    · refine n_iinc F (n := 1) d_KS_copy_94 rfl rfl rfl ?_
      refine s_goto F 2 d_KS_copy_97 (by decide) ?_
      refine ih h2 (s, some (.int (nI (o * 20 + j)))) ⟨hO3, fun q hq => ?_⟩
      by_cases e : q = o
      · subst e
        exact ⟨hk3, hs3, fun i it hi => hi3 i it (by have := (List.getElem?_eq_some_iff.mp hi).1; omega) hi⟩
      · exact hC3 q (by omega)
    · have h4 : j < (S.2.1 o).length := by omega
      obtain ⟨it, hit⟩ := getIt h4
      refine s_aload_n F d_KS_copy_52 rfl ?_
      refine g_KS_18 F d_KS_copy_53 (ks_0 hb) ?_
      refine s_iload_n F d_KS_copy_56 rfl ?_
      refine s_aload_n F d_KS_copy_57 rfl ?_
      refine g_KS_18 F d_KS_copy_58 (ks_0 hc) ?_
      refine s_iload_n F d_KS_copy_61 rfl ?_
      refine s_iald F d_KS_copy_62 (ks_3 hc) (by omega) (by decide) (hK3.nm h2 hit) ?_
      refine s_iast F d_KS_copy_63 (ks_3 hb) (by omega) (by decide) ?_
      refine s_aload_n F d_KS_copy_64 rfl ?_
      refine g_KS_21 F d_KS_copy_65 (ks_0 hb) ?_
      refine s_iload_n F d_KS_copy_68 rfl ?_
      refine s_aload_n F d_KS_copy_69 rfl ?_
      refine g_KS_21 F d_KS_copy_70 (ks_0 hc) ?_
      refine s_iload_n F d_KS_copy_73 rfl ?_
      refine s_iald F d_KS_copy_74 (ks_4 hc) (by omega) (by decide) ((mI_ne _ _ (Or.inl (by omega))).trans (hK3.so h2 hit)) ?_
      refine s_iast F d_KS_copy_75 (ks_4 hb) (by omega) (by decide) ?_
      refine s_aload_n F d_KS_copy_76 rfl ?_
      refine g_KS_24 F d_KS_copy_77 (ks_0 hb) ?_
      refine s_iload_n F d_KS_copy_80 rfl ?_
      refine s_aload_n F d_KS_copy_81 rfl ?_
      refine g_KS_24 F d_KS_copy_82 (ks_0 hc) ?_
      refine s_iload_n F d_KS_copy_85 rfl ?_
      refine s_iald F d_KS_copy_86 (ks_5 hc) (by omega) (by decide) (((mI_ne _ _ (Or.inl (by omega))).trans (mI_ne _ _ (Or.inl (by omega)))).trans (hK3.va h2 hit)) ?_
      refine s_iast F d_KS_copy_87 (ks_5 hb) (by omega) (by decide) ?_
      refine n_iinc F (n := 1) d_KS_copy_88 rfl rfl rfl ?_
      refine s_goto F 37 d_KS_copy_91 (by decide) ?_
      refine jh h4 (set3 s b (o * 20 + j) it) ⟨hO3.set3 (by omega) (by omega), fun q hq => (hC3 q hq).set3 (hS.ln (by omega)) hq, by rw [set3_o (by omega)]; exact hk3, by rw [set3_o (by omega)]; exact hs3, fun i it' hi hi' => ?_⟩
      by_cases e : i = j
      · subst e
        rw [hit] at hi'
        cases hi'
        exact itm.at
      · exact (hi3 i it' (by omega) hi').ne (by omega)
set_option maxRecDepth 4000 in
theorem c_KS_setField {g : zG} {b : Nat} {μ : zMem} {S : St} (hb : KSb g b) (hS : Inv S) (hK : RepK μ b S) {o : Nat} (ho : o < 100) (hk : S.1 o = 1) (n s v : Int32) : zC g y_KS_setField b_KS_setField 8 (some .boolean) 1 24 [.ref b, .int (nI o), .int n, .int s, .int v] μ (zI (bI (setF S o n s v).1) (fun μ' => RepK μ' b (setF S o n s v).2 ∧ zOut b 11 μ μ')) := by
  have hln := hS.l8 ho hk
  cases hf : fnd (S.2.1 o) n with
  | none =>
    refine zC.of (by decide) (Nat.le_of_ble_eq_true rfl) [some (.ref b), some (.int (nI o)), some (.int n), some (.int s), some (.int v), none, none, none] rfl rfl (fun x F hR => ?_)
    have F : zF g x b_KS_setField R_KS 8 1 24 := F
    refine s_aload_n F d_KS_setField_0 rfl ?_
    refine s_iload_n F d_KS_setField_1 rfl ?_
    refine s_iload_n F d_KS_setField_2 rfl ?_
    refine c_ViR F (c_KS_findField hb hS hK ho n) ok_KS_findField k_116 (ci := 0) rfl (oKS (ks_0 hb)) rfl rfl rfl (Nat.le_of_ble_eq_true rfl) (by decide) d_KS_setField_3 ?_
    rw [hf]
    refine s_istore F d_KS_setField_6 (Nat.le_of_ble_eq_true rfl) rfl rfl ?_
    refine s_iload_n F d_KS_setField_8 rfl ?_
    refine n_bipush F (n := 20) d_KS_setField_9 rfl ?_
    refine n_imul F d_KS_setField_11 ?_
    refine s_aload_n F d_KS_setField_12 rfl ?_
    refine g_KS_15 F d_KS_setField_13 (ks_0 hb) ?_
    refine s_iload_n F d_KS_setField_16 rfl ?_
    refine s_iald F d_KS_setField_17 (ks_2 hb) (by omega) (by decide) (hK.sz ho) ?_
    refine n_iadd F d_KS_setField_18 ?_
    refine s_istore F d_KS_setField_19 (Nat.le_of_ble_eq_true rfl) rfl rfl ?_
    refine s_iload_n F d_KS_setField_21 rfl ?_
    refine s_if_eq F 80 d_KS_setField_22 (by decide) (fun h1 => ?_) (fun h1 => ?_)
    · refine s_iload F d_KS_setField_80 rfl ?_
      refine m_if_ge F 87 d_KS_setField_82 (by decide) ?_
      refine n_iconst F (n := 1) d_KS_setField_85 ?_
      have e : setF S o n s v = (true, S) := by simp [setF, hf, h1]
      exact s_zret F hR d_KS_setField_86 (by decide) (⟨by rw [e]; rfl, by rw [e]; exact hK, zOut.rf⟩)
    refine s_iload F d_KS_setField_25 rfl ?_
    refine m_if_ge F 43 d_KS_setField_27 (by decide) ?_
    refine s_aload_n F d_KS_setField_30 rfl ?_
    refine g_KS_15 F d_KS_setField_31 (ks_0 hb) ?_
    refine s_iload_n F d_KS_setField_34 rfl ?_
    refine s_iald F d_KS_setField_35 (ks_2 hb) (by omega) (by decide) (hK.sz ho) ?_
    refine n_bipush F (n := 8) d_KS_setField_36 rfl ?_
    refine n_icmp_ne F 43 d_KS_setField_38 (by decide) (by omega) (by omega) (fun h2 => ?_) (fun h2 => ?_)
    · have e : setF S o n s v = (true, updI S o (S.2.1 o ++ [(n, s, v)])) := by simp [setF, hf, h1, h2]
      refine s_iload F d_KS_setField_43 rfl ?_
      refine m_if_ge F 58 d_KS_setField_45 (by decide) ?_
      refine s_aload_n F d_KS_setField_48 rfl ?_
      refine g_KS_15 F d_KS_setField_49 (ks_0 hb) ?_
      refine s_iload_n F d_KS_setField_52 rfl ?_
      refine s_dup2 F d_KS_setField_53 rfl rfl ?_
      refine s_iald F d_KS_setField_54 (ks_2 hb) (by omega) (by decide) (hK.sz ho) ?_
      refine n_iconst F (n := 1) d_KS_setField_55 ?_
      refine n_iadd F d_KS_setField_56 ?_
      refine s_iast F d_KS_setField_57 (ks_2 hb) (by omega) (by decide) ?_
      refine s_aload_n F d_KS_setField_58 rfl ?_
      refine s_iload F d_KS_setField_59 rfl ?_
      refine m_if_ge F 69 d_KS_setField_61 (by decide) ?_
      refine s_iload F d_KS_setField_64 rfl ?_
      refine s_goto F 71 d_KS_setField_66 (by decide) ?_
      refine s_iload_n F d_KS_setField_71 rfl ?_
      refine s_iload_n F d_KS_setField_72 rfl ?_
      refine s_iload F d_KS_setField_73 rfl ?_
      refine c_Vv F (c_KS_store hb (i := o * 20 + (S.2.1 o).length) (by omega) n s v) ok_KS_store k_120 (ci := 0) rfl (oKS (ks_0 hb)) rfl rfl rfl (Nat.le_of_ble_eq_true rfl) (by decide) d_KS_setField_75 (fun μ' hq => ?_)
      subst hq
      refine n_iconst F (n := 1) d_KS_setField_78 ?_
      have e2 : (mI (mI (mI (mI μ (b + 2) o (nI ((S.2.1 o).length + 1))) (b + 3) (o * 20 + (S.2.1 o).length) n) (b + 4) (o * 20 + (S.2.1 o).length) s) (b + 5) (o * 20 + (S.2.1 o).length) v) = set3 (mI μ (b + 2) o (nI ((S.2.1 o).length + 1))) b (o * 20 + (S.2.1 o).length) (n, s, v) := rfl
      rw [e2]
      refine s_zret F hR d_KS_setField_79 (by decide) ?_
      exact ⟨by rw [e]; rfl, by
        rw [e]
        refine hK.upI hS (by rw [set3_o (by omega), mI_o _ _ _ (by omega)]) (by rw [set3_o (by omega), mI_o _ _ _ (by omega)]) (by rw [set3_o (by omega), mI_eq]; simp) (fun q hq => by rw [set3_o (by omega), mI_ne _ _ (Or.inr hq)]) (fun j it hj => ?_) (fun i it hi h => ?_) (fun a h1 h2 => by rw [set3_o (by omega), mI_o _ _ _ (by omega)])
        · by_cases hjl : j < (S.2.1 o).length
          · rw [List.getElem?_append_left hjl] at hj
            exact ((hK.it ho hj).cg (fun a h1 h2 => mI_o _ _ _ (by omega))).ne (by omega)
          · have hj1 := (List.getElem?_eq_some_iff.mp hj).1
            simp only [List.length_append, List.length_cons, List.length_nil] at hj1
            have : j = (S.2.1 o).length := by omega
            subst this
            simp at hj
            subst hj
            exact itm.at
        · exact (h.cg (fun a h1 h2 => mI_o _ _ _ (by omega))).ne (by omega), (zOut.rf.mI (by omega) (by omega)).set3 (by omega) (by omega)⟩
    · have e : setF S o n s v = (false, S) := by simp [setF, hf, h1, h2]
      refine n_iconst F (n := 0) d_KS_setField_41 ?_
      exact s_zret F hR d_KS_setField_42 (by decide) (⟨by rw [e]; rfl, by rw [e]; exact hK, zOut.rf⟩)
  | some k =>
    obtain ⟨hkl, -⟩ := fnd_spec hf
    refine zC.of (by decide) (Nat.le_of_ble_eq_true rfl) [some (.ref b), some (.int (nI o)), some (.int n), some (.int s), some (.int v), none, none, none] rfl rfl (fun x F hR => ?_)
    have F : zF g x b_KS_setField R_KS 8 1 24 := F
    refine s_aload_n F d_KS_setField_0 rfl ?_
    refine s_iload_n F d_KS_setField_1 rfl ?_
    refine s_iload_n F d_KS_setField_2 rfl ?_
    refine c_ViR F (c_KS_findField hb hS hK ho n) ok_KS_findField k_116 (ci := 0) rfl (oKS (ks_0 hb)) rfl rfl rfl (Nat.le_of_ble_eq_true rfl) (by decide) d_KS_setField_3 ?_
    rw [hf]
    refine s_istore F d_KS_setField_6 (Nat.le_of_ble_eq_true rfl) rfl rfl ?_
    refine s_iload_n F d_KS_setField_8 rfl ?_
    refine n_bipush F (n := 20) d_KS_setField_9 rfl ?_
    refine n_imul F d_KS_setField_11 ?_
    refine s_aload_n F d_KS_setField_12 rfl ?_
    refine g_KS_15 F d_KS_setField_13 (ks_0 hb) ?_
    refine s_iload_n F d_KS_setField_16 rfl ?_
    refine s_iald F d_KS_setField_17 (ks_2 hb) (by omega) (by decide) (hK.sz ho) ?_
    refine n_iadd F d_KS_setField_18 ?_
    refine s_istore F d_KS_setField_19 (Nat.le_of_ble_eq_true rfl) rfl rfl ?_
    refine s_iload_n F d_KS_setField_21 rfl ?_
    refine s_if_eq F 80 d_KS_setField_22 (by decide) (fun h1 => ?_) (fun h1 => ?_)
    · have e : setF S o n s v = (true, updI S o ((S.2.1 o).eraseIdx k)) := by simp [setF, hf, h1]
      refine s_iload F d_KS_setField_80 rfl ?_
      refine n_if_geT F 87 d_KS_setField_82 (by decide) (by omega) ?_
      refine s_aload_n F d_KS_setField_87 rfl ?_
      refine g_KS_15 F d_KS_setField_88 (ks_0 hb) ?_
      refine s_iload_n F d_KS_setField_91 rfl ?_
      refine s_dup2 F d_KS_setField_92 rfl rfl ?_
      refine s_iald F d_KS_setField_93 (ks_2 hb) (by omega) (by decide) (hK.sz ho) ?_
      refine n_iconst F (n := 1) d_KS_setField_94 ?_
      refine n_isub F d_KS_setField_95 (by omega) ?_
      refine s_iast F d_KS_setField_96 (ks_2 hb) (by omega) (by decide) ?_
      refine s_iload F d_KS_setField_97 rfl ?_
      refine s_istore F d_KS_setField_99 (Nat.le_of_ble_eq_true rfl) rfl rfl ?_
      refine lpG (σ := Nat × zMem) (fun q => PW g x q.2 101 [some (.ref b), some (.int (nI o)), some (.int n), some (.int s), some (.int v), some (.int (nI (o * 20 + k))), some (.int (nI (o * 20 + (S.2.1 o).length))), some (.int (nI (o * 20 + q.1)))] []) (fun q => k ≤ q.1 ∧ q.1 < (S.2.1 o).length ∧ zOut b 11 μ q.2 ∧ q.2.1 (b + 2) o = nI ((S.2.1 o).length - 1) ∧ (∀ i, i ≠ o → q.2.1 (b + 2) i = μ.1 (b + 2) i) ∧ (∀ a, a ≤ b + 1 ∨ b + 6 ≤ a → q.2.1 a = μ.1 a) ∧ (∀ i it, (i < o * 20 ∨ o * 20 + 20 ≤ i) → itm μ b i it → itm q.2 b i it) ∧ (∀ (j : Nat) (it : It), j < q.1 → ((S.2.1 o).eraseIdx k)[j]? = some it → itm q.2 b (o * 20 + j) it) ∧ (∀ (j : Nat) (it : It), q.1 ≤ j → (S.2.1 o)[j]? = some it → itm q.2 b (o * 20 + j) it)) (fun q => (S.2.1 o).length - q.1) (fun q hI ih => ?_) (k, mI μ (b + 2) o (nI ((S.2.1 o).length - 1))) ⟨Nat.le_refl _, hkl, zOut.rf.mI (by omega) (by omega), mI_eq _ _ _ _, fun i hi => mI_ne _ _ (Or.inr hi), fun a ha => mI_o _ _ _ (by omega), fun i it hi h => h.cg (fun a h1 h2 => mI_o _ _ _ (by omega)), fun j it hj hj' => ?_, fun j it hj hj' => (hK.it ho hj').cg (fun a h1 h2 => mI_o _ _ _ (by omega))⟩
      case refine_2 =>
        rw [List.getElem?_eraseIdx, if_pos hj] at hj'
        exact (hK.it ho hj').cg (fun a h1 h2 => mI_o _ _ _ (by omega))
      obtain ⟨jj, μ1⟩ := q
      obtain ⟨g1, g2, g3, g4, g5, g6, g7, g8, g9⟩ := hI
      dsimp only at g1 g2 g3 g4 g5 g6 g7 g8 g9 ⊢
      refine s_iload F d_KS_setField_101 rfl ?_
      refine s_iload F d_KS_setField_103 rfl ?_
      refine n_iconst F (n := 1) d_KS_setField_105 ?_
      refine n_isub F d_KS_setField_106 (by omega) ?_
      refine n_icmp_ge F 149 d_KS_setField_107 (by decide) (by omega) (by omega) (fun h2 => ?_) (fun h2 => ?_)
      · have hj : jj = (S.2.1 o).length - 1 := by omega
        have hel : ((S.2.1 o).eraseIdx k).length = (S.2.1 o).length - 1 := by rw [List.length_eraseIdx, if_pos hkl]
        refine n_iconst F (n := 1) d_KS_setField_149 ?_
        refine s_zret F hR d_KS_setField_150 (by decide) ?_
        exact ⟨by rw [e]; rfl, by
          rw [e]
          refine hK.upI hS (by rw [g6 b (by omega)]) (g6 _ (by omega)) (by rw [g4, hel]) (fun q hq => g5 q hq) (fun j it hj2 => g8 j it (by have := (List.getElem?_eq_some_iff.mp hj2).1; omega) hj2) (fun i it hi h => g7 i it hi h) (fun a h1 h2 => g6 a (by omega)), g3⟩
      · obtain ⟨it, hit⟩ := getIt (l := S.2.1 o) (k := jj + 1) (by omega)
        obtain ⟨r1, r2, r3⟩ := g9 (jj + 1) it (by omega) hit
        refine s_aload_n F d_KS_setField_110 rfl ?_
        refine s_iload F d_KS_setField_111 rfl ?_
        refine s_aload_n F d_KS_setField_113 rfl ?_
        refine g_KS_18 F d_KS_setField_114 (ks_0 hb) ?_
        refine s_iload F d_KS_setField_117 rfl ?_
        refine n_iconst F (n := 1) d_KS_setField_119 ?_
        refine n_iadd F d_KS_setField_120 ?_
        refine s_iald F d_KS_setField_121 (ks_3 hb) (by omega) (by decide) (r1) ?_
        refine s_aload_n F d_KS_setField_122 rfl ?_
        refine g_KS_21 F d_KS_setField_123 (ks_0 hb) ?_
        refine s_iload F d_KS_setField_126 rfl ?_
        refine n_iconst F (n := 1) d_KS_setField_128 ?_
        refine n_iadd F d_KS_setField_129 ?_
        refine s_iald F d_KS_setField_130 (ks_4 hb) (by omega) (by decide) (r2) ?_
        refine s_aload_n F d_KS_setField_131 rfl ?_
        refine g_KS_24 F d_KS_setField_132 (ks_0 hb) ?_
        refine s_iload F d_KS_setField_135 rfl ?_
        refine n_iconst F (n := 1) d_KS_setField_137 ?_
        refine n_iadd F d_KS_setField_138 ?_
        refine s_iald F d_KS_setField_139 (ks_5 hb) (by omega) (by decide) (r3) ?_
        refine c_Vv F (c_KS_store hb (i := o * 20 + jj) (by omega) it.1 it.2.1 it.2.2) ok_KS_store k_120 (ci := 0) rfl (oKS (ks_0 hb)) rfl rfl rfl (Nat.le_of_ble_eq_true rfl) (by decide) d_KS_setField_140 (fun μ' hq => ?_)
        subst hq
        refine n_iinc F (n := 1) d_KS_setField_143 rfl rfl rfl ?_
        refine s_goto F 101 d_KS_setField_146 (by decide) ?_
        have e2 : (mI (mI (mI μ1 (b + 3) (o * 20 + jj) it.1) (b + 4) (o * 20 + jj) it.2.1) (b + 5) (o * 20 + jj) it.2.2) = set3 μ1 b (o * 20 + jj) it := rfl
        rw [e2]
        refine ih (jj + 1, set3 μ1 b (o * 20 + jj) it) ⟨by omega, by dsimp only; omega, g3.set3 (by omega) (by omega), by rw [set3_o (by omega)]; exact g4, fun i hi => by rw [set3_o (by omega)]; exact g5 i hi, fun a ha => by rw [set3_o (by omega)]; exact g6 a ha, fun i it' hi h => (g7 i it' hi h).ne (by omega), fun j it' hj hj' => ?_, fun j it' hj hj' => ?_⟩ (by dsimp only; omega)
        · dsimp only at hj hj' ⊢
          by_cases ej : j = jj
          · subst ej
            rw [List.getElem?_eraseIdx, if_neg (by omega), hit] at hj'
            cases hj'
            exact itm.at
          · exact (g8 j it' (by omega) hj').ne (by omega)
        · dsimp only at hj hj' ⊢
          exact (g9 j it' (by omega) hj').ne (by omega)
    · have e : setF S o n s v = (true, updI S o ((S.2.1 o).set k (n, s, v))) := by simp [setF, hf, h1]
      refine s_iload F d_KS_setField_25 rfl ?_
      refine n_if_geT F 43 d_KS_setField_27 (by decide) (by omega) ?_
      refine s_iload F d_KS_setField_43 rfl ?_
      refine n_if_geT F 58 d_KS_setField_45 (by decide) (by omega) ?_
      refine s_aload_n F d_KS_setField_58 rfl ?_
      refine s_iload F d_KS_setField_59 rfl ?_
      refine n_if_geT F 69 d_KS_setField_61 (by decide) (by omega) ?_
      refine s_iload F d_KS_setField_69 rfl ?_
      refine s_iload_n F d_KS_setField_71 rfl ?_
      refine s_iload_n F d_KS_setField_72 rfl ?_
      refine s_iload F d_KS_setField_73 rfl ?_
      refine c_Vv F (c_KS_store hb (i := o * 20 + k) (by omega) n s v) ok_KS_store k_120 (ci := 0) rfl (oKS (ks_0 hb)) rfl rfl rfl (Nat.le_of_ble_eq_true rfl) (by decide) d_KS_setField_75 (fun μ' hq => ?_)
      subst hq
      refine n_iconst F (n := 1) d_KS_setField_78 ?_
      have e2 : (mI (mI (mI μ (b + 3) (o * 20 + k) n) (b + 4) (o * 20 + k) s) (b + 5) (o * 20 + k) v) = set3 μ b (o * 20 + k) (n, s, v) := rfl
      rw [e2]
      refine s_zret F hR d_KS_setField_79 (by decide) ?_
      exact ⟨by rw [e]; rfl, by
        rw [e]
        refine hK.upI hS (by rw [set3_o (by omega)]) (by rw [set3_o (by omega)]) (by rw [set3_o (by omega), hK.sz ho]; simp) (fun q hq => by rw [set3_o (by omega)]) (fun j it hj => ?_) (fun i it hi h => h.ne (by omega)) (fun a h1 h2 => set3_o (by omega))
        by_cases ej : j = k
        · subst ej
          rw [List.getElem?_set_self hkl] at hj
          cases hj
          exact itm.at
        · rw [List.getElem?_set_ne (Ne.symm ej)] at hj
          exact (hK.it ho hj).ne (by omega), zOut.rf.set3 (by omega) (by omega)⟩
set_option maxRecDepth 4000 in
theorem c_KS_setRoot {g : zG} {b : Nat} {μ : zMem} {S : St} (hb : KSb g b) (hS : Inv S) (hK : RepK μ b S) (n s v : Int32) : zC g y_KS_setRoot b_KS_setRoot 5 (some .boolean) 1 22 [.ref b, .int n, .int s, .int v] μ (zI (bI (rootF S n s v).1) (fun μ' => RepK μ' b (rootF S n s v).2 ∧ zOut b 11 μ μ')) := by
  have hrl := hS.rl
  cases hf : fnd S.2.2 n with
  | none =>
    refine zC.of (by decide) (Nat.le_of_ble_eq_true rfl) [some (.ref b), some (.int n), some (.int s), some (.int v), none] rfl rfl (fun x F hR => ?_)
    have F : zF g x b_KS_setRoot R_KS 5 1 22 := F
    refine s_aload_n F d_KS_setRoot_0 rfl ?_
    refine s_iload_n F d_KS_setRoot_1 rfl ?_
    refine c_ViR F (c_KS_findRoot hb hS hK n) ok_KS_findRoot k_164 (ci := 0) rfl (oKS (ks_0 hb)) rfl rfl rfl (Nat.le_of_ble_eq_true rfl) (by decide) d_KS_setRoot_2 ?_
    rw [hf]
    refine s_istore F d_KS_setRoot_5 (Nat.le_of_ble_eq_true rfl) rfl rfl ?_
    refine s_iload_n F d_KS_setRoot_7 rfl ?_
    refine s_if_ne F 78 d_KS_setRoot_8 (by decide) (fun h1 => ?_) (fun h1 => ?_)
    · refine s_iload F d_KS_setRoot_78 rfl ?_
      refine m_if_ge F 94 d_KS_setRoot_80 (by decide) ?_
      refine s_aload_n F d_KS_setRoot_83 rfl ?_
      refine g_KS_43 F d_KS_setRoot_84 (ks_0 hb) (hK.rs) ?_
      refine n_bipush F (n := 12) d_KS_setRoot_87 rfl ?_
      refine n_icmp_ne F 94 d_KS_setRoot_89 (by decide) (by omega) (by omega) (fun h2 => ?_) (fun h2 => ?_)
      · have e : rootF S n s v = (true, updR S (S.2.2 ++ [(n, s, v)])) := by simp [rootF, hf, h1, h2]
        refine s_iload F d_KS_setRoot_94 rfl ?_
        refine m_if_ge F 115 d_KS_setRoot_96 (by decide) ?_
        refine s_aload_n F d_KS_setRoot_99 rfl ?_
        refine g_KS_43 F d_KS_setRoot_100 (ks_0 hb) (hK.rs) ?_
        refine s_istore F d_KS_setRoot_103 (Nat.le_of_ble_eq_true rfl) rfl rfl ?_
        refine s_aload_n F d_KS_setRoot_105 rfl ?_
        refine s_dup F d_KS_setRoot_106 rfl ?_
        refine g_KS_43 F d_KS_setRoot_107 (ks_0 hb) (hK.rs) ?_
        refine n_iconst F (n := 1) d_KS_setRoot_110 ?_
        refine n_iadd F d_KS_setRoot_111 ?_
        refine p_KS_43 F d_KS_setRoot_112 (ks_0 hb) ?_
        refine s_aload_n F d_KS_setRoot_115 rfl ?_
        refine g_KS_27 F d_KS_setRoot_116 (ks_0 hb) ?_
        refine s_iload F d_KS_setRoot_119 rfl ?_
        refine s_iload_n F d_KS_setRoot_121 rfl ?_
        refine s_iast F d_KS_setRoot_122 (ks_6 hb) (by omega) (by decide) ?_
        refine s_aload_n F d_KS_setRoot_123 rfl ?_
        refine g_KS_30 F d_KS_setRoot_124 (ks_0 hb) ?_
        refine s_iload F d_KS_setRoot_127 rfl ?_
        refine s_iload_n F d_KS_setRoot_129 rfl ?_
        refine s_iast F d_KS_setRoot_130 (ks_7 hb) (by omega) (by decide) ?_
        refine s_aload_n F d_KS_setRoot_131 rfl ?_
        refine g_KS_33 F d_KS_setRoot_132 (ks_0 hb) ?_
        refine s_iload F d_KS_setRoot_135 rfl ?_
        refine s_iload_n F d_KS_setRoot_137 rfl ?_
        refine s_iast F d_KS_setRoot_138 (ks_8 hb) (by omega) (by decide) ?_
        refine n_iconst F (n := 1) d_KS_setRoot_139 ?_
        have e2 : (mI (mI (mI (mI μ b 0 (nI (S.2.2.length + 1))) (b + 6) S.2.2.length n) (b + 7) S.2.2.length s) (b + 8) S.2.2.length v) = rset3 (mI μ b 0 (nI (S.2.2.length + 1))) b S.2.2.length (n, s, v) := rfl
        rw [e2]
        refine s_zret F hR d_KS_setRoot_140 (by decide) ?_
        exact ⟨by rw [e]; rfl, by
          rw [e]
          refine hK.upR (by rw [rset3_o (by omega), mI_eq]; simp) (fun a h1 h2 => by rw [rset3_o (by omega), mI_o _ _ _ (by omega)]) (fun j it hj => ?_)
          by_cases hjl : j < S.2.2.length
          · rw [List.getElem?_append_left hjl] at hj
            exact ((hK.ri hj).cg (fun a h1 h2 => mI_o _ _ _ (by omega))).ne (by omega)
          · have hj1 := (List.getElem?_eq_some_iff.mp hj).1
            simp only [List.length_append, List.length_cons, List.length_nil] at hj1
            have : j = S.2.2.length := by omega
            subst this
            simp at hj
            subst hj
            exact ritm.at, (zOut.rf.mI (by omega) (by omega)).rset3 (by omega) (by omega)⟩
      · have e : rootF S n s v = (false, S) := by simp [rootF, hf, h1, h2]
        refine n_iconst F (n := 0) d_KS_setRoot_92 ?_
        exact s_zret F hR d_KS_setRoot_93 (by decide) (⟨by rw [e]; rfl, by rw [e]; exact hK, zOut.rf⟩)
    · have e : rootF S n s v = (true, S) := by simp [rootF, hf, h1]
      refine s_iload F d_KS_setRoot_11 rfl ?_
      refine m_if_ge F 18 d_KS_setRoot_13 (by decide) ?_
      refine n_iconst F (n := 1) d_KS_setRoot_16 ?_
      exact s_zret F hR d_KS_setRoot_17 (by decide) (⟨by rw [e]; rfl, by rw [e]; exact hK, zOut.rf⟩)
  | some k =>
    obtain ⟨hkl, -⟩ := fnd_spec hf
    refine zC.of (by decide) (Nat.le_of_ble_eq_true rfl) [some (.ref b), some (.int n), some (.int s), some (.int v), none] rfl rfl (fun x F hR => ?_)
    have F : zF g x b_KS_setRoot R_KS 5 1 22 := F
    refine s_aload_n F d_KS_setRoot_0 rfl ?_
    refine s_iload_n F d_KS_setRoot_1 rfl ?_
    refine c_ViR F (c_KS_findRoot hb hS hK n) ok_KS_findRoot k_164 (ci := 0) rfl (oKS (ks_0 hb)) rfl rfl rfl (Nat.le_of_ble_eq_true rfl) (by decide) d_KS_setRoot_2 ?_
    rw [hf]
    refine s_istore F d_KS_setRoot_5 (Nat.le_of_ble_eq_true rfl) rfl rfl ?_
    refine s_iload_n F d_KS_setRoot_7 rfl ?_
    refine s_if_ne F 78 d_KS_setRoot_8 (by decide) (fun h1 => ?_) (fun h1 => ?_)
    · have e : rootF S n s v = (true, updR S (S.2.2.set k (n, s, v))) := by simp [rootF, hf, h1]
      refine s_iload F d_KS_setRoot_78 rfl ?_
      refine n_if_geT F 94 d_KS_setRoot_80 (by decide) (by omega) ?_
      refine s_iload F d_KS_setRoot_94 rfl ?_
      refine n_if_geT F 115 d_KS_setRoot_96 (by decide) (by omega) ?_
      refine s_aload_n F d_KS_setRoot_115 rfl ?_
      refine g_KS_27 F d_KS_setRoot_116 (ks_0 hb) ?_
      refine s_iload F d_KS_setRoot_119 rfl ?_
      refine s_iload_n F d_KS_setRoot_121 rfl ?_
      refine s_iast F d_KS_setRoot_122 (ks_6 hb) (by omega) (by decide) ?_
      refine s_aload_n F d_KS_setRoot_123 rfl ?_
      refine g_KS_30 F d_KS_setRoot_124 (ks_0 hb) ?_
      refine s_iload F d_KS_setRoot_127 rfl ?_
      refine s_iload_n F d_KS_setRoot_129 rfl ?_
      refine s_iast F d_KS_setRoot_130 (ks_7 hb) (by omega) (by decide) ?_
      refine s_aload_n F d_KS_setRoot_131 rfl ?_
      refine g_KS_33 F d_KS_setRoot_132 (ks_0 hb) ?_
      refine s_iload F d_KS_setRoot_135 rfl ?_
      refine s_iload_n F d_KS_setRoot_137 rfl ?_
      refine s_iast F d_KS_setRoot_138 (ks_8 hb) (by omega) (by decide) ?_
      refine n_iconst F (n := 1) d_KS_setRoot_139 ?_
      have e2 : (mI (mI (mI μ (b + 6) k n) (b + 7) k s) (b + 8) k v) = rset3 μ b k (n, s, v) := rfl
      rw [e2]
      refine s_zret F hR d_KS_setRoot_140 (by decide) ?_
      exact ⟨by rw [e]; rfl, by
        rw [e]
        refine hK.upR (by rw [rset3_o (by omega), hK.rs]; simp) (fun a h1 h2 => by rw [rset3_o (by omega)]) (fun j it hj => ?_)
        by_cases ej : j = k
        · subst ej
          rw [List.getElem?_set_self hkl] at hj
          cases hj
          exact ritm.at
        · rw [List.getElem?_set_ne (Ne.symm ej)] at hj
          exact (hK.ri hj).ne ej, zOut.rf.rset3 (by omega) (by omega)⟩
    · obtain ⟨la, hla⟩ := getIt (l := S.2.2) (k := S.2.2.length - 1) (by omega)
      have e : rootF S n s v = (true, updR S ((S.2.2.set k la).dropLast)) := by simp only [rootF, hf, h1, if_true, getD_of hla]
      refine s_iload F d_KS_setRoot_11 rfl ?_
      refine n_if_geT F 18 d_KS_setRoot_13 (by decide) (by omega) ?_
      refine s_aload_n F d_KS_setRoot_18 rfl ?_
      refine s_dup F d_KS_setRoot_19 rfl ?_
      refine g_KS_43 F d_KS_setRoot_20 (ks_0 hb) (hK.rs) ?_
      refine n_iconst F (n := 1) d_KS_setRoot_23 ?_
      refine n_isub F d_KS_setRoot_24 (by omega) ?_
      refine p_KS_43 F d_KS_setRoot_25 (ks_0 hb) ?_
      refine s_aload_n F d_KS_setRoot_28 rfl ?_
      refine g_KS_27 F d_KS_setRoot_29 (ks_0 hb) ?_
      refine s_iload F d_KS_setRoot_32 rfl ?_
      refine s_aload_n F d_KS_setRoot_34 rfl ?_
      refine g_KS_27 F d_KS_setRoot_35 (ks_0 hb) ?_
      refine s_aload_n F d_KS_setRoot_38 rfl ?_
      refine g_KS_43 F d_KS_setRoot_39 (ks_0 hb) (mI_eq _ _ _ _) ?_
      refine s_iald F d_KS_setRoot_42 (ks_6 hb) (by omega) (by decide) ((mI_ne _ _ (Or.inl (by omega))).trans (hK.rn hla)) ?_
      refine s_iast F d_KS_setRoot_43 (ks_6 hb) (by omega) (by decide) ?_
      refine s_aload_n F d_KS_setRoot_44 rfl ?_
      refine g_KS_30 F d_KS_setRoot_45 (ks_0 hb) ?_
      refine s_iload F d_KS_setRoot_48 rfl ?_
      refine s_aload_n F d_KS_setRoot_50 rfl ?_
      refine g_KS_30 F d_KS_setRoot_51 (ks_0 hb) ?_
      refine s_aload_n F d_KS_setRoot_54 rfl ?_
      refine g_KS_43 F d_KS_setRoot_55 (ks_0 hb) ((mI_ne _ _ (Or.inl (by omega))).trans (mI_eq _ _ _ _)) ?_
      refine s_iald F d_KS_setRoot_58 (ks_7 hb) (by omega) (by decide) (((mI_ne _ _ (Or.inl (by omega))).trans (mI_ne _ _ (Or.inl (by omega)))).trans (hK.ro hla)) ?_
      refine s_iast F d_KS_setRoot_59 (ks_7 hb) (by omega) (by decide) ?_
      refine s_aload_n F d_KS_setRoot_60 rfl ?_
      refine g_KS_33 F d_KS_setRoot_61 (ks_0 hb) ?_
      refine s_iload F d_KS_setRoot_64 rfl ?_
      refine s_aload_n F d_KS_setRoot_66 rfl ?_
      refine g_KS_33 F d_KS_setRoot_67 (ks_0 hb) ?_
      refine s_aload_n F d_KS_setRoot_70 rfl ?_
      refine g_KS_43 F d_KS_setRoot_71 (ks_0 hb) (((mI_ne _ _ (Or.inl (by omega))).trans (mI_ne _ _ (Or.inl (by omega)))).trans (mI_eq _ _ _ _)) ?_
      refine s_iald F d_KS_setRoot_74 (ks_8 hb) (by omega) (by decide) ((((mI_ne _ _ (Or.inl (by omega))).trans (mI_ne _ _ (Or.inl (by omega)))).trans (mI_ne _ _ (Or.inl (by omega)))).trans (hK.rv hla)) ?_
      refine s_iast F d_KS_setRoot_75 (ks_8 hb) (by omega) (by decide) ?_
      refine n_iconst F (n := 1) d_KS_setRoot_76 ?_
      have e2 : (mI (mI (mI (mI μ b 0 (nI (S.2.2.length - 1))) (b + 6) k la.1) (b + 7) k la.2.1) (b + 8) k la.2.2) = rset3 (mI μ b 0 (nI (S.2.2.length - 1))) b k la := rfl
      rw [e2]
      refine s_zret F hR d_KS_setRoot_77 (by decide) ?_
      exact ⟨by rw [e]; rfl, by
        rw [e]
        refine hK.upR (by rw [rset3_o (by omega), mI_eq]; simp) (fun a h1 h2 => by rw [rset3_o (by omega), mI_o _ _ _ (by omega)]) (fun j it hj => ?_)
        have hjl := (List.getElem?_eq_some_iff.mp hj).1
        simp only [List.length_dropLast, List.length_set] at hjl
        rw [List.getElem?_dropLast, if_pos (by simp; omega)] at hj
        by_cases ej : j = k
        · subst ej
          rw [List.getElem?_set_self hkl] at hj
          cases hj
          exact ritm.at
        · rw [List.getElem?_set_ne (Ne.symm ej)] at hj
          exact ((hK.ri hj).cg (fun a h1 h2 => mI_o _ _ _ (by omega))).ne ej, (zOut.rf.mI (by omega) (by omega)).rset3 (by omega) (by omega)⟩
end
section
set_option maxRecDepth 4000 in
theorem c_KS_reach {g : zG} {b : Nat} {μ : zMem} {S : St} {se : Nat → Bool} {sk : List Nat} (hb : KSb g b) (hK : RepK μ b S) (hW : swK μ b se sk) (hl : sk.length ≤ cnt se 100) {it : It} (hv : vOk S.1 it) : zC g y_KS_reach b_KS_reach 3 none 0 0 [.ref b, .int it.2.1, .int it.2.2] μ (zV (fun μ' => RepK μ' b S ∧ zOut b 11 μ μ' ∧ ∃ se' sk', swK μ' b se' sk' ∧ rpR it se sk se' sk')) := by
  obtain ⟨w1, w2, w3⟩ := hW
  by_cases hs : it.2.1 = 2
  · have hv2 : ∃ w, w < 100 ∧ S.1 w ≠ 0 ∧ it.2.2 = nI w := by
      rcases hv with h | h | h
      · rw [hs] at h; exact absurd h.1 (by decide)
      · rw [hs] at h; exact absurd h (by decide)
      · exact h.2
    obtain ⟨w, hw, -, he⟩ := hv2
    rw [hs, he]
    have hr : isRef it w := ⟨hs, he⟩
    refine zC.of (by decide) (Nat.le_of_ble_eq_true rfl) [some (.ref b), some (.int 2), some (.int (nI w))] rfl rfl (fun x F hR => ?_)
    have F : zF g x b_KS_reach R_KS 3 0 0 := F
    refine s_iload_n F d_KS_reach_0 rfl ?_
    refine s_iconst F (v := 2) d_KS_reach_1 (by decide) ?_
    refine s_icmp_ne F 14 d_KS_reach_2 (by decide) (fun h => absurd rfl h) (fun _ => ?_)
    refine s_aload_n F d_KS_reach_5 rfl ?_
    refine g_KS_36 F d_KS_reach_6 (ks_0 hb) ?_
    refine s_iload_n F d_KS_reach_9 rfl ?_
    refine s_zald F d_KS_reach_10 (ks_9 hb) (by omega) (by decide) (w1 w hw) ?_
    cases hse : se w with
    | true =>
      refine n_if_eq F 15 d_KS_reach_11 (a := 1) (by decide) (by omega) (fun h => by omega) (fun _ => ?_)
      exact s_vret F hR d_KS_reach_14 (⟨rfl, hK, zOut.rf, se, sk, ⟨w1, w2, w3⟩, Or.inl ⟨rfl, rfl, fun q hq hrq => by rw [hrq.un hr hq hw]; exact hse⟩⟩)
    | false =>
      refine n_if_eq F 15 d_KS_reach_11 (a := 0) (by decide) (by omega) (fun _ => ?_) (fun h => absurd rfl h)
      have hroom := cnt_room hse hw
      refine s_aload_n F d_KS_reach_15 rfl ?_
      refine g_KS_36 F d_KS_reach_16 (ks_0 hb) ?_
      refine s_iload_n F d_KS_reach_19 rfl ?_
      refine n_iconst F (n := 1) d_KS_reach_20 ?_
      refine s_zast F d_KS_reach_21 (ks_9 hb) (by omega) (by decide) (by decide) ?_
      refine s_aload_n F d_KS_reach_22 rfl ?_
      refine g_KS_40 F d_KS_reach_23 (ks_0 hb) ?_
      refine s_aload_n F d_KS_reach_26 rfl ?_
      refine g_KS_67 F d_KS_reach_27 (ks_0 hb) ((mI_ne _ _ (Or.inl (by omega))).trans w2) ?_
      refine s_iload_n F d_KS_reach_30 rfl ?_
      refine s_iast F d_KS_reach_31 (ks_10 hb) (by omega) (by decide) ?_
      refine s_aload_n F d_KS_reach_32 rfl ?_
      refine s_dup F d_KS_reach_33 rfl ?_
      refine g_KS_67 F d_KS_reach_34 (ks_0 hb) (((mI_ne _ _ (Or.inl (by omega))).trans (mI_ne _ _ (Or.inl (by omega)))).trans w2) ?_
      refine n_iconst F (n := 1) d_KS_reach_37 ?_
      refine n_iadd F d_KS_reach_38 ?_
      refine p_KS_67 F d_KS_reach_39 (ks_0 hb) ?_
      refine s_vret F hR d_KS_reach_42 ?_
      refine ⟨rfl, hK.cg ?_ (fun a h1 h2 => ?_), ((zOut.rf.mI (by omega) (by omega)).mI (by omega) (by omega)).mI (by omega) (by omega), va_up se w true, sk ++ [w], ⟨fun o ho => ?_, ?_, fun j q hj => ?_⟩, Or.inr ⟨w, hw, hr, hse, rfl, rfl⟩⟩
      · rw [mI_ne _ _ (Or.inr (by omega)), mI_ne _ _ (Or.inl (by omega)), mI_ne _ _ (Or.inl (by omega))]
      · rw [mI_o _ _ _ (by omega), mI_o _ _ _ (by omega), mI_o _ _ _ (by omega)]
      · rw [mI_ne _ _ (Or.inl (by omega)), mI_ne _ _ (Or.inl (by omega))]
        by_cases e : o = w
        · subst e; rw [mI_eq, va_up_self]; rfl
        · rw [mI_ne _ _ (Or.inr e), va_up_ne _ _ e]; exact w1 o ho
      · rw [mI_eq, List.length_append]; rfl
      · rw [mI_ne _ _ (Or.inl (by omega))]
        by_cases hjl : j < sk.length
        · rw [List.getElem?_append_left hjl] at hj
          rw [mI_ne _ _ (Or.inr (by omega)), mI_ne _ _ (Or.inl (by omega))]
          exact w3 j q hj
        · have hj1 := (List.getElem?_eq_some_iff.mp hj).1
          simp only [List.length_append, List.length_cons, List.length_nil] at hj1
          have : j = sk.length := by omega
          subst this
          simp at hj
          subst hj
          exact mI_eq _ _ _ _
  · refine zC.of (by decide) (Nat.le_of_ble_eq_true rfl) [some (.ref b), some (.int it.2.1), some (.int it.2.2)] rfl rfl (fun x F hR => ?_)
    have F : zF g x b_KS_reach R_KS 3 0 0 := F
    refine s_iload_n F d_KS_reach_0 rfl ?_
    refine s_iconst F (v := 2) d_KS_reach_1 (by decide) ?_
    refine s_icmp_ne F 14 d_KS_reach_2 (by decide) (fun _ => ?_) (fun h => absurd h hs)
    exact s_vret F hR d_KS_reach_14 (⟨rfl, hK, zOut.rf, se, sk, ⟨w1, w2, w3⟩, Or.inl ⟨rfl, rfl, fun q hq hrq => absurd hrq.1 hs⟩⟩)
set_option maxRecDepth 4000 in
theorem c_KS_sweep {g : zG} {b : Nat} {μ : zMem} {S : St} (hb : KSb g b) (hS : Inv S) (hK : RepK μ b S) : zC g y_KS_sweep b_KS_sweep 3 (some .int) 1 22 [.ref b] μ (zI (nI (gon S)) (fun μ' => RepK μ' b (swS S) ∧ zOut b 11 μ μ')) := by
  refine zC.of (by decide) (Nat.le_of_ble_eq_true rfl) [some (.ref b), none, none] rfl rfl (fun x F hR => ?_)
  have F : zF g x b_KS_sweep R_KS 3 1 22 := F
  have hrl := hS.rl
  refine n_iconst F (n := 0) d_KS_sweep_0 ?_
  refine s_istore_n F d_KS_sweep_1 (Nat.le_of_ble_eq_true rfl) rfl rfl ?_
  refine lpU (σ := zMem) 100 (fun o s => PW g x s 2 [some (.ref b), some (.int (nI o)), none] []) (fun o s => zOut b 11 μ s ∧ RepK s b S ∧ ∀ q, q < o → s.1 (b + 9) q = nI 0) (fun o s ho hI ih => ?_) 0 μ (Nat.zero_le _) ⟨zOut.rf, hK, fun q h => absurd h (Nat.not_lt_zero q)⟩
  obtain ⟨hO, hK1, hz⟩ := hI
  refine s_iload_n F d_KS_sweep_2 rfl ?_
  refine n_bipush F (n := 100) d_KS_sweep_3 rfl ?_
  refine n_icmp_ge F 21 d_KS_sweep_5 (by decide) (by omega) (by omega) (fun h1 => ?_) (fun h2 => ?_)
  rotate_left
  · refine s_aload_n F d_KS_sweep_8 rfl ?_
    refine g_KS_36 F d_KS_sweep_9 (ks_0 hb) ?_
    refine s_iload_n F d_KS_sweep_12 rfl ?_
    refine n_iconst F (n := 0) d_KS_sweep_13 ?_
    refine s_zast F d_KS_sweep_14 (ks_9 hb) (by omega) (by decide) (by decide) ?_
    refine n_iinc F (n := 1) d_KS_sweep_15 rfl rfl rfl ?_
    refine s_goto F 2 d_KS_sweep_18 (by decide) ?_
    refine ih h2 _ ⟨hO.mI (by omega) (by omega), hK1.cg (by rw [mI_o _ _ _ (by omega)]) (fun a h1 h2 => mI_o _ _ _ (by omega)), fun q hq => ?_⟩
    by_cases e : q = o
    · subst e; exact mI_eq _ _ _ _
    · rw [mI_ne _ _ (Or.inr e)]; exact hz q (by omega)
  have e : o = 100 := by omega
  subst e
  refine s_aload_n F d_KS_sweep_21 rfl ?_
  refine n_iconst F (n := 0) d_KS_sweep_22 ?_
  refine p_KS_67 F d_KS_sweep_23 (ks_0 hb) ?_
  refine n_iconst F (n := 0) d_KS_sweep_26 ?_
  refine s_istore_n F d_KS_sweep_27 (Nat.le_of_ble_eq_true rfl) rfl rfl ?_
  refine lpU (σ := zMem × (Nat → Bool) × List Nat) S.2.2.length (fun k s => PW g x s.1 28 [some (.ref b), some (.int (nI k)), none] []) (fun k s => zOut b 11 μ s.1 ∧ RepK s.1 b S ∧ swK s.1 b s.2.1 s.2.2 ∧ swA S s.2.1 s.2.2 ∧ swC S s.2.1 s.2.2 ∧ ∀ (j w : Nat) (it : It), j < k → S.2.2[j]? = some it → w < 100 → isRef it w → s.2.1 w = true) (fun k s hk hI ih => ?_) 0 (mI s b 1 (nI 0), fun _ => false, []) (Nat.zero_le _) ?_
  rotate_left
  · dsimp only
    exact ⟨hO.mI (by omega) (by omega), hK1.cg (mI_ne _ _ (Or.inr (by omega))) (fun a h1 h2 => mI_o _ _ _ (by omega)), ⟨fun q hq => by rw [mI_ne _ _ (Or.inl (by omega))]; exact hz q hq, mI_eq _ _ _ _, fun j w h => by simp at h⟩, ⟨fun q h => by simp at h, Nat.zero_le _, fun w h => by simp at h⟩, fun q h => by simp at h, fun j w it h => absurd h (Nat.not_lt_zero j)⟩
  obtain ⟨μ2, se, sk⟩ := s
  obtain ⟨hO2, hK2, hW, hA, hC, hRt⟩ := hI
  dsimp only at hO2 hK2 hW hA hC hRt ⊢
  refine s_iload_n F d_KS_sweep_28 rfl ?_
  refine s_aload_n F d_KS_sweep_29 rfl ?_
  refine g_KS_43 F d_KS_sweep_30 (ks_0 hb) (hK2.rs) ?_
  refine n_icmp_ge F 58 d_KS_sweep_33 (by decide) (by omega) (by omega) (fun h3 => ?_) (fun h3 => ?_)
  rotate_left
  · obtain ⟨it, hit⟩ := getIt h3
    refine s_aload_n F d_KS_sweep_36 rfl ?_
    refine s_aload_n F d_KS_sweep_37 rfl ?_
    refine g_KS_30 F d_KS_sweep_38 (ks_0 hb) ?_
    refine s_iload_n F d_KS_sweep_41 rfl ?_
    refine s_iald F d_KS_sweep_42 (ks_7 hb) (by omega) (by decide) (hK2.ro hit) ?_
    refine s_aload_n F d_KS_sweep_43 rfl ?_
    refine g_KS_33 F d_KS_sweep_44 (ks_0 hb) ?_
    refine s_iload_n F d_KS_sweep_47 rfl ?_
    refine s_iald F d_KS_sweep_48 (ks_8 hb) (by omega) (by decide) (hK2.rv hit) ?_
    refine c_Vv F (c_KS_reach hb hK2 hW hA.2.1 (hS.rok (List.mem_of_getElem? hit))) ok_KS_reach k_209 (ci := 0) rfl (oKS (ks_0 hb)) rfl rfl rfl (Nat.le_of_ble_eq_true rfl) (by decide) d_KS_sweep_49 (fun μ' hq => ?_)
    obtain ⟨hK3, hO3, se', sk', hW', hr⟩ := hq
    refine n_iinc F (n := 1) d_KS_sweep_52 rfl rfl rfl ?_
    refine s_goto F 28 d_KS_sweep_55 (by decide) ?_
    refine ih h3 (μ', se', sk') ⟨hO2.tr hO3, hK3, hW', hr.A hA (fun w hw hrf => Reach.root (List.mem_of_getElem? hit) hw hrf), hr.C hC, fun j w it' hj hit' hw hrf => ?_⟩
    by_cases e : j = k
    · subst e
      rw [hit] at hit'
      cases hit'
      exact hr.hit hw hrf
    · exact hr.mono (hRt j w it' (by omega) hit' hw hrf)
  have hRt : ∀ it w, it ∈ S.2.2 → w < 100 → isRef it w → se w = true := fun it w hi hw hrf => by
    obtain ⟨j, hj⟩ := List.getElem?_of_mem hi
    exact hRt j w it (by have := (List.getElem?_eq_some_iff.mp hj).1; omega) hj hw hrf
  refine lpG (σ := zMem × (Nat → Bool) × List Nat × Option Value × Option Value) (fun s => PW g x s.1 58 [some (.ref b), s.2.2.2.1, s.2.2.2.2] []) (fun s => zOut b 11 μ s.1 ∧ RepK s.1 b S ∧ swK s.1 b s.2.1 s.2.2.1 ∧ swA S s.2.1 s.2.2.1 ∧ swC S s.2.1 s.2.2.1 ∧ ∀ it w, it ∈ S.2.2 → w < 100 → isRef it w → s.2.1 w = true) (fun s => 2 * (100 - cnt s.2.1 100) + s.2.2.1.length) (fun s hI ih => ?_) (μ2, se, sk, some (.int (nI k)), none) ⟨hO2, hK2, hW, hA, hC, hRt⟩
  obtain ⟨μ3, se, sk, v1, v2⟩ := s
  obtain ⟨hO3, hK3, hW, hA, hC, hRt⟩ := hI
  dsimp only at hO3 hK3 hW hA hC hRt ih ⊢
  have hcl := cnt_le se 100
  have hA2 := hA.2.1
  refine s_aload_n F d_KS_sweep_58 rfl ?_
  refine g_KS_67 F d_KS_sweep_59 (ks_0 hb) (hW.2.1) ?_
  refine n_if_le F 130 d_KS_sweep_62 (by decide) (by omega) (fun h4 => ?_) (fun h4 => ?_)
  rotate_left
  · obtain ⟨q, hq⟩ : ∃ q, sk[sk.length - 1]? = some q := ⟨_, List.getElem?_eq_getElem (by omega)⟩
    have hqs := hA.2.2 q (List.mem_of_getElem? hq)
    obtain ⟨hq1, hqR⟩ := hA.1 q hqs
    have hln := hS.ln hq1
    have hsk : ∀ w, w ∈ sk → w = q ∨ w ∈ sk.dropLast := fun w hw => by
      obtain ⟨j, hj⟩ := List.getElem?_of_mem hw
      have hjl := (List.getElem?_eq_some_iff.mp hj).1
      by_cases e : j = sk.length - 1
      · subst e; rw [hq] at hj; cases hj; exact Or.inl rfl
      · refine Or.inr (List.mem_of_getElem? (i := j) ?_)
        rw [List.getElem?_dropLast, if_pos (by omega)]
        exact hj
    refine s_aload_n F d_KS_sweep_65 rfl ?_
    refine s_dup F d_KS_sweep_66 rfl ?_
    refine g_KS_67 F d_KS_sweep_67 (ks_0 hb) (hW.2.1) ?_
    refine n_iconst F (n := 1) d_KS_sweep_70 ?_
    refine n_isub F d_KS_sweep_71 (by omega) ?_
    refine p_KS_67 F d_KS_sweep_72 (ks_0 hb) ?_
    refine s_aload_n F d_KS_sweep_75 rfl ?_
    refine g_KS_40 F d_KS_sweep_76 (ks_0 hb) ?_
    refine s_aload_n F d_KS_sweep_79 rfl ?_
    refine g_KS_67 F d_KS_sweep_80 (ks_0 hb) (mI_eq _ _ _ _) ?_
    refine s_iald F d_KS_sweep_83 (ks_10 hb) (by omega) (by decide) ((mI_ne _ _ (Or.inl (by omega))).trans (hW.2.2 _ q hq)) ?_
    refine s_istore_n F d_KS_sweep_84 (Nat.le_of_ble_eq_true rfl) rfl rfl ?_
    refine s_iload_n F d_KS_sweep_85 rfl ?_
    refine n_bipush F (n := 20) d_KS_sweep_86 rfl ?_
    refine n_imul F d_KS_sweep_88 ?_
    refine s_istore_n F d_KS_sweep_89 (Nat.le_of_ble_eq_true rfl) rfl rfl ?_
    refine lpU (σ := zMem × (Nat → Bool) × List Nat) (S.2.1 q).length (fun j s => PW g x s.1 90 [some (.ref b), some (.int (nI q)), some (.int (nI (q * 20 + j)))] []) (fun j s => zOut b 11 μ s.1 ∧ RepK s.1 b S ∧ swK s.1 b s.2.1 s.2.2 ∧ swA S s.2.1 s.2.2 ∧ swX S s.2.1 s.2.2 q ∧ (∀ w, se w = true → s.2.1 w = true) ∧ 2 * (100 - cnt s.2.1 100) + s.2.2.length < 2 * (100 - cnt se 100) + sk.length ∧ ∀ (i w : Nat) (it : It), i < j → (S.2.1 q)[i]? = some it → w < 100 → isRef it w → s.2.1 w = true) (fun j s hj hI jh => ?_) 0 (mI μ3 b 1 (nI (sk.length - 1)), se, sk.dropLast) (Nat.zero_le _) ?_
    rotate_left
    · dsimp only
      refine ⟨hO3.mI (by omega) (by omega), hK3.cg (mI_ne _ _ (Or.inr (by omega))) (fun a h1 h2 => mI_o _ _ _ (by omega)), ⟨fun o ho => by rw [mI_ne _ _ (Or.inl (by omega))]; exact hW.1 o ho, by rw [mI_eq, List.length_dropLast], fun j w h => ?_⟩, ⟨hA.1, by rw [List.length_dropLast]; omega, fun w hw => hA.2.2 w (List.dropLast_subset _ hw)⟩, fun w hw hne => ?_, fun w h => h, by rw [List.length_dropLast]; omega, fun i w it h => absurd h (Nat.not_lt_zero i)⟩
      · rw [mI_ne _ _ (Or.inl (by omega))]
        rw [List.getElem?_dropLast] at h
        split at h
        · exact hW.2.2 j w h
        · cases h
      · rcases hC w hw with h | h
        · rcases hsk w h with h1 | h1
          · exact absurd h1 hne
          · exact Or.inl h1
        · exact Or.inr h
    obtain ⟨μ4, se4, sk4⟩ := s
    obtain ⟨hO4, hK4, hW4, hA4, hX4, hm4, hme4, hE4⟩ := hI
    dsimp only at hO4 hK4 hW4 hA4 hX4 hm4 hme4 hE4 jh ⊢
    refine s_iload_n F d_KS_sweep_90 rfl ?_
    refine s_iload_n F d_KS_sweep_91 rfl ?_
    refine n_bipush F (n := 20) d_KS_sweep_92 rfl ?_
    refine n_imul F d_KS_sweep_94 ?_
    refine s_aload_n F d_KS_sweep_95 rfl ?_
    refine g_KS_15 F d_KS_sweep_96 (ks_0 hb) ?_
    refine s_iload_n F d_KS_sweep_99 rfl ?_
    refine s_iald F d_KS_sweep_100 (ks_2 hb) (by omega) (by decide) (hK4.sz hq1) ?_
    refine n_iadd F d_KS_sweep_101 ?_
    refine n_icmp_ge F 127 d_KS_sweep_102 (by decide) (by omega) (by omega) (fun h5 => ?_) (fun h5 => ?_)
    · refine s_goto F 58 d_KS_sweep_127 (by decide) ?_
      refine ih (μ4, se4, sk4, some (.int (nI q)), some (.int (nI (q * 20 + j)))) ⟨hO4, hK4, hW4, hA4, fun w hw => ?_, fun it w hi hw hrf => hm4 w (hRt it w hi hw hrf)⟩ hme4
      by_cases e : w = q
      · subst e
        refine Or.inr (fun it w' hi hw' hrf => ?_)
        obtain ⟨i, hi⟩ := List.getElem?_of_mem hi
        exact hE4 i w' it (by have := (List.getElem?_eq_some_iff.mp hi).1; omega) hi hw' hrf
      · exact hX4 w hw e
    · have h5 : j < (S.2.1 q).length := by omega
      obtain ⟨it, hit⟩ := getIt h5
      refine s_aload_n F d_KS_sweep_105 rfl ?_
      refine s_aload_n F d_KS_sweep_106 rfl ?_
      refine g_KS_21 F d_KS_sweep_107 (ks_0 hb) ?_
      refine s_iload_n F d_KS_sweep_110 rfl ?_
      refine s_iald F d_KS_sweep_111 (ks_4 hb) (by omega) (by decide) (hK4.so hq1 hit) ?_
      refine s_aload_n F d_KS_sweep_112 rfl ?_
      refine g_KS_24 F d_KS_sweep_113 (ks_0 hb) ?_
      refine s_iload_n F d_KS_sweep_116 rfl ?_
      refine s_iald F d_KS_sweep_117 (ks_5 hb) (by omega) (by decide) (hK4.va hq1 hit) ?_
      refine c_Vv F (c_KS_reach hb hK4 hW4 hA4.2.1 (hS.ok hq1 (List.mem_of_getElem? hit))) ok_KS_reach k_209 (ci := 0) rfl (oKS (ks_0 hb)) rfl rfl rfl (Nat.le_of_ble_eq_true rfl) (by decide) d_KS_sweep_118 (fun μ' hq' => ?_)
      obtain ⟨hK5, hO5, se', sk', hW', hr⟩ := hq'
      refine n_iinc F (n := 1) d_KS_sweep_121 rfl rfl rfl ?_
      refine s_goto F 90 d_KS_sweep_124 (by decide) ?_
      refine jh h5 (μ', se', sk') ⟨hO4.tr hO5, hK5, hW', hr.A hA4 (fun w hw hrf => hqR.step (List.mem_of_getElem? hit) hw hrf), hr.X hX4, fun w hw => hr.mono (hm4 w hw), Nat.lt_of_le_of_lt hr.m hme4, fun i w it' hi hit' hw hrf => ?_⟩
      by_cases e : i = j
      · subst e
        rw [hit] at hit'
        cases hit'
        exact hr.hit hw hrf
      · exact hr.mono (hE4 i w it' (by omega) hit' hw hrf)
  have hsk0 : sk = [] := List.eq_nil_of_length_eq_zero h4
  subst hsk0
  have hse := sw_end hA hC hRt
  refine n_iconst F (n := 0) d_KS_sweep_130 ?_
  refine s_istore_n F d_KS_sweep_131 (Nat.le_of_ble_eq_true rfl) rfl rfl ?_
  refine n_iconst F (n := 0) d_KS_sweep_132 ?_
  refine s_istore_n F d_KS_sweep_133 (Nat.le_of_ble_eq_true rfl) rfl rfl ?_
  refine lpU (σ := zMem) 100 (fun o s => PW g x s 134 [some (.ref b), some (.int (nI (cnt (swP S) o))), some (.int (nI o))] []) (fun o s => zOut b 11 μ s ∧ (∀ q, q < o → cpO s b (swS S) q) ∧ (∀ q, o ≤ q → q < 100 → cpO s b S q) ∧ (∀ q, q < 100 → s.1 (b + 9) q = bI (rb S q)) ∧ s.1 b 0 = nI S.2.2.length ∧ ∀ j it, S.2.2[j]? = some it → ritm s b j it) (fun o s ho hI jh => ?_) 0 μ3 (Nat.zero_le _) ⟨hO3, fun q h => absurd h (Nat.not_lt_zero q), fun q _ hq => hK3.cp hq, fun q hq => by rw [← hse q]; exact hW.1 q hq, hK3.rs, fun j it hj => hK3.ri hj⟩
  obtain ⟨hO6, hc1, hc2, hsn, hrs, hri⟩ := hI
  have hcn := cnt_le (swP S) o
  refine s_iload_n F d_KS_sweep_134 rfl ?_
  refine n_bipush F (n := 100) d_KS_sweep_135 rfl ?_
  refine n_icmp_ge F 184 d_KS_sweep_137 (by decide) (by omega) (by omega) (fun h6 => ?_) (fun h6 => ?_)
  · have e : o = 100 := by omega
    subst e
    refine s_iload_n F d_KS_sweep_184 rfl ?_
    exact s_iret F hR d_KS_sweep_185 (⟨rfl, RepK.of hc1 hrs hri, hO6⟩)
  have hcO := hc2 o (Nat.le_refl _) h6
  have hkd := hS.kd h6
  have jh := fun s => jh h6 s
  refine s_aload_n F d_KS_sweep_140 rfl ?_
  refine g_KS_11 F d_KS_sweep_141 (ks_0 hb) ?_
  refine s_iload_n F d_KS_sweep_144 rfl ?_
  refine s_iald F d_KS_sweep_145 (ks_1 hb) (by omega) (by decide) (hcO.1) ?_
  refine n_if_eq F 178 d_KS_sweep_146 (by decide) (by omega) (fun h7 => ?_) (fun h7 => ?_)
  · rw [cnt_f (by simp [swP, h7])] at jh
    refine n_iinc F (n := 1) d_KS_sweep_178 rfl rfl rfl ?_
    refine s_goto F 134 d_KS_sweep_181 (by decide) ?_
    refine jh _ ⟨hO6, fun q hq => ?_, fun q h1 h2 => hc2 q (by omega) h2, hsn, hrs, hri⟩
    by_cases e : q = o
    · subst e
      have e0 := hS.l0 h6 h7
      refine ⟨?_, ?_, fun j it hj => ?_⟩
      · rw [hcO.1]; simp only [swS]; split
        · rfl
        · rw [h7]
      · rw [hcO.2.1]; simp only [swS]; split
        · rfl
        · rw [e0]
      · simp only [swS, e0] at hj
        split at hj <;> simp at hj
    · exact hc1 q (by omega)
  refine s_aload_n F d_KS_sweep_149 rfl ?_
  refine g_KS_36 F d_KS_sweep_150 (ks_0 hb) ?_
  refine s_iload_n F d_KS_sweep_153 rfl ?_
  refine s_zald F d_KS_sweep_154 (ks_9 hb) (by omega) (by decide) (hsn o h6) ?_
  cases hrb : rb S o with
  | true =>
    rw [cnt_f (by simp [swP, hrb])] at jh
    refine n_if_eq F 161 d_KS_sweep_155 (a := 1) (by decide) (by omega) (fun h => by omega) (fun _ => ?_)
    refine s_goto F 178 d_KS_sweep_158 (by decide) ?_
    refine n_iinc F (n := 1) d_KS_sweep_178 rfl rfl rfl ?_
    refine s_goto F 134 d_KS_sweep_181 (by decide) ?_
    refine jh _ ⟨hO6, fun q hq => ?_, fun q h1 h2 => hc2 q (by omega) h2, hsn, hrs, hri⟩
    by_cases e : q = o
    · subst e
      refine ⟨by rw [hcO.1]; simp [swS, hrb], by rw [hcO.2.1]; simp [swS, hrb], fun j it hj => hcO.2.2 j it (by simpa [swS, hrb] using hj)⟩
    · exact hc1 q (by omega)
  | false =>
    rw [cnt_t (by simp [swP, hrb, h7])] at jh
    refine n_if_eq F 161 d_KS_sweep_155 (a := 0) (by decide) (by omega) (fun _ => ?_) (fun h => absurd rfl h)
    refine s_aload_n F d_KS_sweep_161 rfl ?_
    refine g_KS_11 F d_KS_sweep_162 (ks_0 hb) ?_
    refine s_iload_n F d_KS_sweep_165 rfl ?_
    refine n_iconst F (n := 0) d_KS_sweep_166 ?_
    refine s_iast F d_KS_sweep_167 (ks_1 hb) (by omega) (by decide) ?_
    refine s_aload_n F d_KS_sweep_168 rfl ?_
    refine g_KS_15 F d_KS_sweep_169 (ks_0 hb) ?_
    refine s_iload_n F d_KS_sweep_172 rfl ?_
    refine n_iconst F (n := 0) d_KS_sweep_173 ?_
    refine s_iast F d_KS_sweep_174 (ks_2 hb) (by omega) (by decide) ?_
    refine n_iinc F (n := 1) d_KS_sweep_175 rfl rfl rfl ?_
    refine n_iinc F (n := 1) d_KS_sweep_178 rfl rfl rfl ?_
    refine s_goto F 134 d_KS_sweep_181 (by decide) ?_
    refine jh _ ⟨(hO6.mI (by omega) (by omega)).mI (by omega) (by omega), fun q hq => ?_, fun q h1 h2 => ((hc2 q (by omega) h2).ne (by omega) _ (Or.inl rfl)).ne (by omega) _ (Or.inr rfl), fun q hq => by rw [mI_o _ _ _ (by omega), mI_o _ _ _ (by omega)]; exact hsn q hq, by rw [mI_o _ _ _ (by omega), mI_o _ _ _ (by omega)]; exact hrs, fun j it hj => (hri j it hj).cg (fun a h1 h2 => by rw [mI_o _ _ _ (by omega), mI_o _ _ _ (by omega)])⟩
    by_cases e : q = o
    · subst e
      refine ⟨by rw [mI_ne _ _ (Or.inl (by omega)), mI_eq]; simp [swS, hrb], by rw [mI_eq]; simp [swS, hrb], fun j it hj => by simp [swS, hrb] at hj⟩
    · exact ((hc1 q (by omega)).ne e _ (Or.inl rfl)).ne e _ (Or.inr rfl)
end
section
set_option maxRecDepth 4000 in
theorem c_K_is {g : zG} {z : Nat} {μ : zMem} {S : St} (hz : KOb g z) (hS : Inv S) (hK : RepK μ (z + 1) S) (o : Int32) (k : Nat) (hk : k ≤ 2) : zC g y_K_is b_K_is 3 (some .boolean) 0 0 [.ref z, .int o, .int (nI k)] μ (zI (bI (pb (pIs S o k))) (zS μ)) := by
  refine zC.of (by decide) (Nat.le_of_ble_eq_true rfl) [some (.ref z), some (.int o), some (.int (nI k))] rfl rfl (fun x F hR => ?_)
  have F : zF g x b_K_is R_K 3 0 0 := F
  rcases pk_ix o (n := 100) (by decide) with h | h | ⟨j, hj, rfl⟩
  · refine s_iload_n F d_K_is_0 rfl ?_
    refine s_if_lt F 27 d_K_is_1 (by decide) (fun _ => ?_) (fun q => absurd h q)
    refine n_iconst F (n := 0) d_K_is_27 ?_
    exact s_zret F hR d_K_is_28 (by decide) (⟨by rw [pb_f (pIs.no1 h)]; rfl, rfl⟩)
  · refine s_iload_n F d_K_is_0 rfl ?_
    refine s_if_lt F 27 d_K_is_1 (by decide) (fun _ => ?_) (fun _ => ?_)
    · refine n_iconst F (n := 0) d_K_is_27 ?_
      exact s_zret F hR d_K_is_28 (by decide) (⟨by rw [pb_f (pIs.no2 h)]; rfl, rfl⟩)
    refine s_iload_n F d_K_is_4 rfl ?_
    refine n_bipush F (n := 100) d_K_is_5 rfl ?_
    refine s_icmp_ge F 27 d_K_is_7 (by decide) (fun _ => ?_) (fun q => absurd h q)
    refine n_iconst F (n := 0) d_K_is_27 ?_
    exact s_zret F hR d_K_is_28 (by decide) (⟨by rw [pb_f (pIs.no2 h)]; rfl, rfl⟩)
  · have hkd := hS.kd hj
    refine s_iload_n F d_K_is_0 rfl ?_
    refine n_if_ltF F 27 d_K_is_1 (by decide) (by omega) ?_
    refine s_iload_n F d_K_is_4 rfl ?_
    refine n_bipush F (n := 100) d_K_is_5 rfl ?_
    refine n_icmp_ge F 27 d_K_is_7 (by decide) (by omega) (by omega) (fun q => by omega) (fun _ => ?_)
    refine s_aload_n F d_K_is_10 rfl ?_
    refine g_K_10 F d_K_is_11 (kz_0 hz) ?_
    refine g_K_30 F d_K_is_14 (ks_0 (kz_1 hz)) ?_
    refine s_iload_n F d_K_is_17 rfl ?_
    refine s_iald F d_K_is_18 (ks_1 (kz_1 hz)) (by omega) (by decide) (hK.kd hj) ?_
    refine s_iload_n F d_K_is_19 rfl ?_
    refine n_icmp_ne F 27 d_K_is_20 (by decide) (by omega) (by omega) (fun h1 => ?_) (fun h1 => ?_)
    · refine n_iconst F (n := 0) d_K_is_27 ?_
      exact s_zret F hR d_K_is_28 (by decide) (⟨by rw [pb_f (fun q => h1 ((pIs.iff hj).mp q))]; rfl, rfl⟩)
    · refine n_iconst F (n := 1) d_K_is_23 ?_
      refine s_goto F 28 d_K_is_24 (by decide) ?_
      exact s_zret F hR d_K_is_28 (by decide) (⟨by rw [pb_t ((pIs.iff hj).mpr h1)]; rfl, rfl⟩)
set_option maxRecDepth 4000 in
theorem c_K_isValue {g : zG} {z : Nat} {μ : zMem} {S : St} (hz : KOb g z) (hS : Inv S) (hK : RepK μ (z + 1) S) (s v : Int32) : zC g y_K_isValue b_K_isValue 3 (some .boolean) 1 22 [.ref z, .int s, .int v] μ (zI (bI (pb (pVal S s v))) (zS μ)) := by
  refine zC.of (by decide) (Nat.le_of_ble_eq_true rfl) [some (.ref z), some (.int s), some (.int v)] rfl rfl (fun x F hR => ?_)
  have F : zF g x b_K_isValue R_K 3 1 22 := F
  refine s_iload_n F d_K_isValue_0 rfl ?_
  refine s_if_eq F 32 d_K_isValue_1 (by decide) (fun h1 => ?_) (fun h1 => ?_)
  · refine n_iconst F (n := 1) d_K_isValue_32 ?_
    refine s_goto F 37 d_K_isValue_33 (by decide) ?_
    exact s_zret F hR d_K_isValue_37 (by decide) (⟨by rw [pb_t (show pVal S s v from Or.inl h1)]; rfl, rfl⟩)
  refine s_iload_n F d_K_isValue_4 rfl ?_
  refine s_iconst F (v := 1) d_K_isValue_5 (by decide) ?_
  refine s_icmp_eq F 32 d_K_isValue_6 (by decide) (fun h2 => ?_) (fun h2 => ?_)
  · refine n_iconst F (n := 1) d_K_isValue_32 ?_
    refine s_goto F 37 d_K_isValue_33 (by decide) ?_
    exact s_zret F hR d_K_isValue_37 (by decide) (⟨by rw [pb_t (show pVal S s v from Or.inr (Or.inl h2))]; rfl, rfl⟩)
  refine s_iload_n F d_K_isValue_9 rfl ?_
  refine s_iconst F (v := 2) d_K_isValue_10 (by decide) ?_
  refine s_icmp_ne F 36 d_K_isValue_11 (by decide) (fun h3 => ?_) (fun h3 => ?_)
  · refine n_iconst F (n := 0) d_K_isValue_36 ?_
    have hn : ¬ pVal S s v := fun q => by
      rcases q with q | q | q
      · exact h1 q
      · exact h2 q
      · exact h3 q.1
    exact s_zret F hR d_K_isValue_37 (by decide) (⟨by rw [pb_f hn]; rfl, rfl⟩)
  refine s_aload_n F d_K_isValue_14 rfl ?_
  refine s_iload_n F d_K_isValue_15 rfl ?_
  refine n_iconst F (n := 1) d_K_isValue_16 ?_
  refine c_ViR F (c_K_is hz hS hK v 1 (by decide)) ok_K_is k_101 (ci := 2) rfl (oK (kz_0 hz)) rfl rfl rfl (Nat.le_of_ble_eq_true rfl) (by decide) d_K_isValue_17 ?_
  by_cases h4 : pIs S v 1
  · rw [pb_t h4]
    refine n_if_ne F 32 d_K_isValue_20 (a := 1) (by decide) (by omega) (fun _ => ?_) (fun q => by omega)
    refine n_iconst F (n := 1) d_K_isValue_32 ?_
    refine s_goto F 37 d_K_isValue_33 (by decide) ?_
    exact s_zret F hR d_K_isValue_37 (by decide) (⟨by rw [pb_t (show pVal S s v from Or.inr (Or.inr ⟨h3, (pTh.of hS).mpr (Or.inl h4)⟩))]; rfl, rfl⟩)
  rw [pb_f h4]
  refine n_if_ne F 32 d_K_isValue_20 (a := 0) (by decide) (by omega) (fun q => absurd rfl q) (fun _ => ?_)
  refine s_aload_n F d_K_isValue_23 rfl ?_
  refine s_iload_n F d_K_isValue_24 rfl ?_
  refine n_iconst F (n := 2) d_K_isValue_25 ?_
  refine c_ViR F (c_K_is hz hS hK v 2 (by decide)) ok_K_is k_101 (ci := 2) rfl (oK (kz_0 hz)) rfl rfl rfl (Nat.le_of_ble_eq_true rfl) (by decide) d_K_isValue_26 ?_
  by_cases h5 : pIs S v 2
  · rw [pb_t h5]
    refine n_if_eq F 36 d_K_isValue_29 (a := 1) (by decide) (by omega) (fun q => by omega) (fun _ => ?_)
    refine n_iconst F (n := 1) d_K_isValue_32 ?_
    refine s_goto F 37 d_K_isValue_33 (by decide) ?_
    exact s_zret F hR d_K_isValue_37 (by decide) (⟨by rw [pb_t (show pVal S s v from Or.inr (Or.inr ⟨h3, (pTh.of hS).mpr (Or.inr h5)⟩))]; rfl, rfl⟩)
  rw [pb_f h5]
  refine n_if_eq F 36 d_K_isValue_29 (a := 0) (by decide) (by omega) (fun _ => ?_) (fun q => absurd rfl q)
  refine n_iconst F (n := 0) d_K_isValue_36 ?_
  have hn : ¬ pVal S s v := fun q => by
    rcases q with q | q | q
    · exact h1 q
    · exact h2 q
    · rcases (pTh.of hS).mp q.2 with q | q
      · exact h4 q
      · exact h5 q
  exact s_zret F hR d_K_isValue_37 (by decide) (⟨by rw [pb_f hn]; rfl, rfl⟩)
set_option maxRecDepth 4000 in
theorem c_K_plain {g : zG} {μ : zMem} (s v : Int32) : zC g y_K_plain b_K_plain 2 (some .int) 0 0 [.int s, .int v] μ (zI (pln s v) (zS μ)) := by
  refine zC.of (by decide) (Nat.le_of_ble_eq_true rfl) [some (.int s), some (.int v)] rfl rfl (fun x F hR => ?_)
  have F : zF g x b_K_plain R_K 2 0 0 := F
  refine s_iload_n F d_K_plain_0 rfl ?_
  refine s_if_ne F 8 d_K_plain_1 (by decide) (fun h1 => ?_) (fun h1 => ?_)
  · refine s_iload_n F d_K_plain_8 rfl ?_
    exact s_iret F hR d_K_plain_9 (⟨by simp [pln, h1], rfl⟩)
  · refine n_iconst F (n := 0) d_K_plain_4 ?_
    refine s_goto F 9 d_K_plain_5 (by decide) ?_
    exact s_iret F hR d_K_plain_9 (⟨by simp [pln, h1, nI_0], rfl⟩)
set_option maxRecDepth 4000 in
theorem c_K_told {g : zG} {μ : zMem} (s v : Int32) : zC g y_K_told b_K_told 2 (some .long) 0 0 [.int s, .int v] μ (zJ (told s v) (zS μ)) := by
  refine zC.of (by decide) (Nat.le_of_ble_eq_true rfl) [some (.int s), some (.int v)] rfl rfl (fun x F hR => ?_)
  have F : zF g x b_K_told R_K 2 0 0 := F
  refine s_iload_n F d_K_told_0 rfl ?_
  refine s_if_ne F 10 d_K_told_1 (by decide) (fun h1 => ?_) (fun h1 => ?_)
  · refine s_iload_n F d_K_told_10 rfl ?_
    refine s_iconst F (v := 1) d_K_told_11 (by decide) ?_
    refine s_icmp_ne F 20 d_K_told_12 (by decide) (fun h2 => ?_) (fun h2 => ?_)
    · refine s_ldc2 F k_134 d_K_told_20 ?_
      refine s_iload_n F d_K_told_23 rfl ?_
      refine s_i2l F d_K_told_24 ?_
      refine s_ladd F d_K_told_25 ?_
      exact s_lret F hR d_K_told_26 (⟨by simp [told, h1, h2], rfl⟩)
    · refine s_iload_n F d_K_told_15 rfl ?_
      refine s_i2l F d_K_told_16 ?_
      refine s_goto F 26 d_K_told_17 (by decide) ?_
      exact s_lret F hR d_K_told_26 (⟨by simp [told, h1, h2], rfl⟩)
  · refine s_ldc2 F k_130 d_K_told_4 ?_
    refine s_goto F 26 d_K_told_7 (by decide) ?_
    exact s_lret F hR d_K_told_26 (⟨by simp [told, h1], rfl⟩)
set_option maxRecDepth 4000 in
theorem c_K_make {g : zG} {z : Nat} {μ : zMem} {S : St} (hz : KOb g z) (hS : Inv S) (hK : RepK μ (z + 1) S) (r : Int32) : zC g y_K_make b_K_make 3 (some .int) 1 22 [.ref z, .int r] μ (zI (fMake S r).1 (fun μ' => RepK μ' (z + 1) (fMake S r).2 ∧ zOut (z + 1) 11 μ μ')) := by
  refine zC.of (by decide) (Nat.le_of_ble_eq_true rfl) [some (.ref z), some (.int r), none] rfl rfl (fun x F hR => ?_)
  have F : zF g x b_K_make R_K 3 1 22 := F
  have fin : ∀ k : Nat, k = (if r = 0 then 1 else 2) → PW g x μ 13 [some (.ref z), some (.int r), none] [.int (nI k), .ref (z + 1)] := by
    intro k hk
    refine c_Vi F (c_KS_make (kz_1 hz) hS hK k) ok_KS_make k_93 (ci := 0) rfl (oKS (ks_0 (kz_1 hz))) rfl rfl rfl (Nat.le_of_ble_eq_true rfl) (by decide) d_K_make_13 (fun μ' hq => ?_)
    refine s_istore_n F d_K_make_16 (Nat.le_of_ble_eq_true rfl) rfl rfl ?_
    refine s_iload_n F d_K_make_17 rfl ?_
    cases hf : ffree S.1 100 0 with
    | none =>
      refine m_if_ge F 26 d_K_make_18 (by decide) ?_
      have e : fMake S r = (-3, S) := by simp [fMake, hf]
      have e2 : mkR S k = S := by simp [mkR, hf]
      rw [e2] at hq
      refine s_bipush F (v := -3) d_K_make_21 (by decide) ?_
      refine s_goto F 27 d_K_make_23 (by decide) ?_
      exact s_iret F hR d_K_make_27 (⟨by rw [e], by rw [e]; exact hq⟩)
    | some o =>
      have ho := ffree_lt hf
      refine n_if_geT F 26 d_K_make_18 (by decide) (by omega) ?_
      have e : fMake S r = (nI o, mkS S o k) := by simp [fMake, hf, hk]
      have e2 : mkR S k = mkS S o k := by simp [mkR, hf]
      rw [e2] at hq
      refine s_iload_n F d_K_make_26 rfl ?_
      exact s_iret F hR d_K_make_27 (⟨by rw [e]; rfl, by rw [e]; exact hq⟩)
  refine s_aload_n F d_K_make_0 rfl ?_
  refine g_K_10 F d_K_make_1 (kz_0 hz) ?_
  refine s_iload_n F d_K_make_4 rfl ?_
  refine s_if_eq F 12 d_K_make_5 (by decide) (fun h1 => ?_) (fun h1 => ?_)
  · refine n_iconst F (n := 1) d_K_make_12 ?_
    exact fin 1 (by rw [if_pos h1])
  · refine n_iconst F (n := 2) d_K_make_8 ?_
    refine s_goto F 13 d_K_make_9 (by decide) ?_
    exact fin 2 (by rw [if_neg h1])
set_option maxRecDepth 4000 in
theorem c_K_set {g : zG} {z : Nat} {μ : zMem} {S : St} (hz : KOb g z) (hS : Inv S) (hK : RepK μ (z + 1) S) (o n s v : Int32) : zC g y_K_set b_K_set 5 (some .int) 2 51 [.ref z, .int o, .int n, .int s, .int v] μ (zI (fSet S o n s v).1 (fun μ' => RepK μ' (z + 1) (fSet S o n s v).2 ∧ zOut (z + 1) 11 μ μ')) := by
  refine zC.of (by decide) (Nat.le_of_ble_eq_true rfl) [some (.ref z), some (.int o), some (.int n), some (.int s), some (.int v)] rfl rfl (fun x F hR => ?_)
  have F : zF g x b_K_set R_K 5 2 51 := F
  refine s_aload_n F d_K_set_0 rfl ?_
  refine s_iload_n F d_K_set_1 rfl ?_
  refine n_iconst F (n := 1) d_K_set_2 ?_
  refine c_ViR F (c_K_is hz hS hK o 1 (by decide)) ok_K_is k_101 (ci := 2) rfl (oK (kz_0 hz)) rfl rfl rfl (Nat.le_of_ble_eq_true rfl) (by decide) d_K_set_3 ?_
  by_cases h1 : pIs S o 1
  rotate_left
  · rw [pb_f h1]
    have e : fSet S o n s v = (-1, S) := cif_f (fun q => h1 q.1)
    refine n_if_eq F 19 d_K_set_6 (a := 0) (by decide) (by omega) (fun _ => ?_) (fun q => absurd rfl q)
    refine n_iconst_m1 F d_K_set_19 ?_
    exact s_iret F hR d_K_set_20 (⟨by rw [e], by rw [e]; exact ⟨hK, zOut.rf⟩⟩)
  rw [pb_t h1]
  refine n_if_eq F 19 d_K_set_6 (a := 1) (by decide) (by omega) (fun q => by omega) (fun _ => ?_)
  refine s_aload_n F d_K_set_9 rfl ?_
  refine s_iload_n F d_K_set_10 rfl ?_
  refine s_iload F d_K_set_11 rfl ?_
  refine c_ViR F (c_K_isValue hz hS hK s v) ok_K_isValue k_105 (ci := 2) rfl (oK (kz_0 hz)) rfl rfl rfl (Nat.le_of_ble_eq_true rfl) (by decide) d_K_set_13 ?_
  by_cases h2 : pVal S s v
  rotate_left
  · rw [pb_f h2]
    have e : fSet S o n s v = (-1, S) := cif_f (fun q => h2 q.2)
    refine n_if_ne F 21 d_K_set_16 (a := 0) (by decide) (by omega) (fun q => absurd rfl q) (fun _ => ?_)
    refine n_iconst_m1 F d_K_set_19 ?_
    exact s_iret F hR d_K_set_20 (⟨by rw [e], by rw [e]; exact ⟨hK, zOut.rf⟩⟩)
  rw [pb_t h2]
  refine n_if_ne F 21 d_K_set_16 (a := 1) (by decide) (by omega) (fun _ => ?_) (fun q => by omega)
  have e0 : fSet S o n s v = aSet S o.toNatClampNeg n s (pln s v) := cif_t ⟨h1, h2⟩
  obtain ⟨j, hj, rfl, hkj⟩ := h1
  rw [clampJ hj] at e0
  refine s_aload_n F d_K_set_21 rfl ?_
  refine g_K_10 F d_K_set_22 (kz_0 hz) ?_
  refine s_iload_n F d_K_set_25 rfl ?_
  refine s_iload_n F d_K_set_26 rfl ?_
  refine s_iload_n F d_K_set_27 rfl ?_
  refine s_iload_n F d_K_set_28 rfl ?_
  refine s_iload F d_K_set_29 rfl ?_
  refine c_SiR F (c_K_plain s v) ok_K_plain k_109 rfl rfl rfl rfl (Nat.le_of_ble_eq_true rfl) (by decide) d_K_set_31 ?_
  refine c_Vi F (c_KS_setField (kz_1 hz) hS hK hj hkj n s (pln s v)) ok_KS_setField k_112 (ci := 0) rfl (oKS (ks_0 (kz_1 hz))) rfl rfl rfl (Nat.le_of_ble_eq_true rfl) (by decide) d_K_set_34 (fun μ' hq => ?_)
  cases hb : (setF S j n s (pln s v)).1 with
  | true =>
    refine n_if_eq F 52 d_K_set_37 (a := 1) (by decide) (by omega) (fun q => by omega) (fun _ => ?_)
    refine s_aload_n F d_K_set_40 rfl ?_
    refine g_K_10 F d_K_set_41 (kz_0 hz) ?_
    refine g_K_56 F d_K_set_44 (ks_0 (kz_1 hz)) ?_
    refine s_iload_n F d_K_set_47 rfl ?_
    refine s_iald F d_K_set_48 (ks_2 (kz_1 hz)) (by omega) (by decide) (hq.1.sz hj) ?_
    refine s_goto F 54 d_K_set_49 (by decide) ?_
    exact s_iret F hR d_K_set_54 (⟨by rw [e0]; simp only [aSet, hb]; rfl, by rw [e0]; exact hq⟩)
  | false =>
    refine n_if_eq F 52 d_K_set_37 (a := 0) (by decide) (by omega) (fun _ => ?_) (fun q => absurd rfl q)
    refine s_bipush F (v := -3) d_K_set_52 (by decide) ?_
    exact s_iret F hR d_K_set_54 (⟨by rw [e0]; simp only [aSet, hb]; rfl, by rw [e0]; exact hq⟩)
set_option maxRecDepth 4000 in
theorem c_K_get {g : zG} {z : Nat} {μ : zMem} {S : St} (hz : KOb g z) (hS : Inv S) (hK : RepK μ (z + 1) S) (o n : Int32) : zC g y_K_get b_K_get 4 (some .long) 1 23 [.ref z, .int o, .int n] μ (zJ (fGet S o n) (zS μ)) := by
  refine zC.of (by decide) (Nat.le_of_ble_eq_true rfl) [some (.ref z), some (.int o), some (.int n), none] rfl rfl (fun x F hR => ?_)
  have F : zF g x b_K_get R_K 4 1 23 := F
  refine s_aload_n F d_K_get_0 rfl ?_
  refine s_iload_n F d_K_get_1 rfl ?_
  refine n_iconst F (n := 1) d_K_get_2 ?_
  refine c_ViR F (c_K_is hz hS hK o 1 (by decide)) ok_K_is k_101 (ci := 2) rfl (oK (kz_0 hz)) rfl rfl rfl (Nat.le_of_ble_eq_true rfl) (by decide) d_K_get_3 ?_
  by_cases h1 : pIs S o 1
  rotate_left
  · rw [pb_f h1]
    have e : fGet S o n = -1099511627776 := cif_f h1
    refine n_if_ne F 13 d_K_get_6 (a := 0) (by decide) (by omega) (fun q => absurd rfl q) (fun _ => ?_)
    refine s_ldc2 F k_128 d_K_get_9 ?_
    exact s_lret F hR d_K_get_12 (⟨by rw [e], rfl⟩)
  rw [pb_t h1]
  refine n_if_ne F 13 d_K_get_6 (a := 1) (by decide) (by omega) (fun _ => ?_) (fun q => by omega)
  have e0 : fGet S o n = gt (S.2.1 o.toNatClampNeg) n := cif_t h1
  obtain ⟨j, hj, rfl, hkj⟩ := h1
  rw [clampJ hj] at e0
  have hln := hS.ln hj
  refine s_aload_n F d_K_get_13 rfl ?_
  refine g_K_10 F d_K_get_14 (kz_0 hz) ?_
  refine s_iload_n F d_K_get_17 rfl ?_
  refine s_iload_n F d_K_get_18 rfl ?_
  refine c_ViR F (c_KS_findField (kz_1 hz) hS hK hj n) ok_KS_findField k_129 (ci := 0) rfl (oKS (ks_0 (kz_1 hz))) rfl rfl rfl (Nat.le_of_ble_eq_true rfl) (by decide) d_K_get_19 ?_
  refine s_istore_n F d_K_get_22 (Nat.le_of_ble_eq_true rfl) rfl rfl ?_
  refine s_iload_n F d_K_get_23 rfl ?_
  cases hf : fnd (S.2.1 j) n with
  | none =>
    refine m_if_ge F 33 d_K_get_24 (by decide) ?_
    refine s_ldc2 F k_130 d_K_get_27 ?_
    refine s_goto F 54 d_K_get_30 (by decide) ?_
    exact s_lret F hR d_K_get_54 (⟨by rw [e0]; simp only [gt, hf], rfl⟩)
  | some k =>
    obtain ⟨hkl, it, hit, -⟩ := fnd_spec hf
    refine n_if_geT F 33 d_K_get_24 (by decide) (by omega) ?_
    refine s_aload_n F d_K_get_33 rfl ?_
    refine g_K_10 F d_K_get_34 (kz_0 hz) ?_
    refine g_K_64 F d_K_get_37 (ks_0 (kz_1 hz)) ?_
    refine s_iload_n F d_K_get_40 rfl ?_
    refine s_iald F d_K_get_41 (ks_4 (kz_1 hz)) (by omega) (by decide) (hK.so hj hit) ?_
    refine s_aload_n F d_K_get_42 rfl ?_
    refine g_K_10 F d_K_get_43 (kz_0 hz) ?_
    refine g_K_67 F d_K_get_46 (ks_0 (kz_1 hz)) ?_
    refine s_iload_n F d_K_get_49 rfl ?_
    refine s_iald F d_K_get_50 (ks_5 (kz_1 hz)) (by omega) (by decide) (hK.va hj hit) ?_
    refine c_SlR F (c_K_told it.2.1 it.2.2) ok_K_told k_131 rfl rfl rfl rfl (Nat.le_of_ble_eq_true rfl) (by decide) d_K_get_51 ?_
    exact s_lret F hR d_K_get_54 (⟨by rw [e0]; simp only [gt, hf, getD_of hit]; rfl, rfl⟩)
set_option maxRecDepth 4000 in
theorem c_K_push {g : zG} {z : Nat} {μ : zMem} {S : St} (hz : KOb g z) (hS : Inv S) (hK : RepK μ (z + 1) S) (o s v : Int32) : zC g y_K_push b_K_push 4 (some .int) 2 44 [.ref z, .int o, .int s, .int v] μ (zI (fPush S o s v).1 (fun μ' => RepK μ' (z + 1) (fPush S o s v).2 ∧ zOut (z + 1) 11 μ μ')) := by
  refine zC.of (by decide) (Nat.le_of_ble_eq_true rfl) [some (.ref z), some (.int o), some (.int s), some (.int v)] rfl rfl (fun x F hR => ?_)
  have F : zF g x b_K_push R_K 4 2 44 := F
  refine s_aload_n F d_K_push_0 rfl ?_
  refine s_iload_n F d_K_push_1 rfl ?_
  refine n_iconst F (n := 2) d_K_push_2 ?_
  refine c_ViR F (c_K_is hz hS hK o 2 (by decide)) ok_K_is k_101 (ci := 2) rfl (oK (kz_0 hz)) rfl rfl rfl (Nat.le_of_ble_eq_true rfl) (by decide) d_K_push_3 ?_
  by_cases h1 : pIs S o 2
  rotate_left
  · rw [pb_f h1]
    have e : fPush S o s v = (-1, S) := cif_f (fun q => h1 q.1)
    refine n_if_eq F 18 d_K_push_6 (a := 0) (by decide) (by omega) (fun _ => ?_) (fun q => absurd rfl q)
    refine n_iconst_m1 F d_K_push_18 ?_
    exact s_iret F hR d_K_push_19 (⟨by rw [e], by rw [e]; exact ⟨hK, zOut.rf⟩⟩)
  rw [pb_t h1]
  refine n_if_eq F 18 d_K_push_6 (a := 1) (by decide) (by omega) (fun q => by omega) (fun _ => ?_)
  refine s_aload_n F d_K_push_9 rfl ?_
  refine s_iload_n F d_K_push_10 rfl ?_
  refine s_iload_n F d_K_push_11 rfl ?_
  refine c_ViR F (c_K_isValue hz hS hK s v) ok_K_isValue k_105 (ci := 2) rfl (oK (kz_0 hz)) rfl rfl rfl (Nat.le_of_ble_eq_true rfl) (by decide) d_K_push_12 ?_
  by_cases h2 : pVal S s v
  rotate_left
  · rw [pb_f h2]
    have e : fPush S o s v = (-1, S) := cif_f (fun q => h2 q.2)
    refine n_if_ne F 20 d_K_push_15 (a := 0) (by decide) (by omega) (fun q => absurd rfl q) (fun _ => ?_)
    refine n_iconst_m1 F d_K_push_18 ?_
    exact s_iret F hR d_K_push_19 (⟨by rw [e], by rw [e]; exact ⟨hK, zOut.rf⟩⟩)
  rw [pb_t h2]
  refine n_if_ne F 20 d_K_push_15 (a := 1) (by decide) (by omega) (fun _ => ?_) (fun q => by omega)
  have e0 : fPush S o s v = aPush S o.toNatClampNeg s (pln s v) := cif_t ⟨h1, h2⟩
  obtain ⟨j, hj, rfl, hkj⟩ := h1
  rw [clampJ hj] at e0
  have hln := hS.ln hj
  refine s_aload_n F d_K_push_20 rfl ?_
  refine g_K_10 F d_K_push_21 (kz_0 hz) ?_
  refine g_K_56 F d_K_push_24 (ks_0 (kz_1 hz)) ?_
  refine s_iload_n F d_K_push_27 rfl ?_
  refine s_iald F d_K_push_28 (ks_2 (kz_1 hz)) (by omega) (by decide) (hK.sz hj) ?_
  refine n_bipush F (n := 20) d_K_push_29 rfl ?_
  refine n_icmp_ne F 37 d_K_push_31 (by decide) (by omega) (by omega) (fun h3 => ?_) (fun h3 => ?_)
  rotate_left
  · refine s_bipush F (v := -3) d_K_push_34 (by decide) ?_
    exact s_iret F hR d_K_push_36 (⟨by rw [e0]; simp [aPush, h3], by rw [e0]; simp only [aPush, h3, if_true]; exact ⟨hK, zOut.rf⟩⟩)
  have e1 : fPush S (nI j) s v = (nI ((S.2.1 j).length + 1), updI S j (S.2.1 j ++ [(0, s, pln s v)])) := by rw [e0]; simp [aPush, h3]
  refine s_aload_n F d_K_push_37 rfl ?_
  refine g_K_10 F d_K_push_38 (kz_0 hz) ?_
  refine s_iload_n F d_K_push_41 rfl ?_
  refine n_bipush F (n := 20) d_K_push_42 rfl ?_
  refine n_imul F d_K_push_44 ?_
  refine s_aload_n F d_K_push_45 rfl ?_
  refine g_K_10 F d_K_push_46 (kz_0 hz) ?_
  refine g_K_56 F d_K_push_49 (ks_0 (kz_1 hz)) ?_
  refine s_iload_n F d_K_push_52 rfl ?_
  refine s_iald F d_K_push_53 (ks_2 (kz_1 hz)) (by omega) (by decide) (hK.sz hj) ?_
  refine n_iadd F d_K_push_54 ?_
  refine n_iconst F (n := 0) d_K_push_55 ?_
  refine s_iload_n F d_K_push_56 rfl ?_
  refine s_iload_n F d_K_push_57 rfl ?_
  refine s_iload_n F d_K_push_58 rfl ?_
  refine c_SiR F (c_K_plain s v) ok_K_plain k_109 rfl rfl rfl rfl (Nat.le_of_ble_eq_true rfl) (by decide) d_K_push_59 ?_
  refine c_Vv F (c_KS_store (kz_1 hz) (i := j * 20 + (S.2.1 j).length) (by omega) (nI 0) s (pln s v)) ok_KS_store k_139 (ci := 0) rfl (oKS (ks_0 (kz_1 hz))) rfl rfl rfl (Nat.le_of_ble_eq_true rfl) (by decide) d_K_push_62 (fun μ' hq => ?_)
  subst hq
  have e2 : (mI (mI (mI μ (z + 1 + 3) (j * 20 + (S.2.1 j).length) (nI 0)) (z + 1 + 4) (j * 20 + (S.2.1 j).length) s) (z + 1 + 5) (j * 20 + (S.2.1 j).length) (pln s v)) = set3 μ (z + 1) (j * 20 + (S.2.1 j).length) (nI 0, s, pln s v) := rfl
  rw [e2]
  have hsz : (set3 μ (z + 1) (j * 20 + (S.2.1 j).length) (nI 0, s, pln s v)).1 (z + 1 + 2) j = nI (S.2.1 j).length := by rw [set3_o (by omega)]; exact hK.sz hj
  refine s_aload_n F d_K_push_65 rfl ?_
  refine g_K_10 F d_K_push_66 (kz_0 hz) ?_
  refine g_K_56 F d_K_push_69 (ks_0 (kz_1 hz)) ?_
  refine s_iload_n F d_K_push_72 rfl ?_
  refine s_dup2 F d_K_push_73 rfl rfl ?_
  refine s_iald F d_K_push_74 (ks_2 (kz_1 hz)) (by omega) (by decide) (hsz) ?_
  refine n_iconst F (n := 1) d_K_push_75 ?_
  refine n_iadd F d_K_push_76 ?_
  refine s_iast F d_K_push_77 (ks_2 (kz_1 hz)) (by omega) (by decide) ?_
  refine s_aload_n F d_K_push_78 rfl ?_
  refine g_K_10 F d_K_push_79 (kz_0 hz) ?_
  refine g_K_56 F d_K_push_82 (ks_0 (kz_1 hz)) ?_
  refine s_iload_n F d_K_push_85 rfl ?_
  refine s_iald F d_K_push_86 (ks_2 (kz_1 hz)) (by omega) (by decide) (mI_eq _ _ _ _) ?_
  refine s_iret F hR d_K_push_87 ?_
  refine ⟨by rw [e1], ?_, (zOut.rf.set3 (by omega) (by omega)).mI (by omega) (by omega)⟩
  rw [e1]
  refine hK.upI hS (by rw [mI_o _ _ _ (by omega), set3_o (by omega)]) (by rw [mI_o _ _ _ (by omega), set3_o (by omega)]) (by rw [mI_eq]; simp) (fun q hq => by rw [mI_ne _ _ (Or.inr hq), set3_o (by omega)]) (fun i it hi => ?_) (fun i it hi h => ?_) (fun a h1 h2 => by rw [mI_o _ _ _ (by omega), set3_o (by omega)])
  · refine itm.cg (μ := set3 μ (z + 1) (j * 20 + (S.2.1 j).length) (nI 0, s, pln s v)) ?_ (fun a h1 h2 => mI_o _ _ _ (by omega))
    by_cases hil : i < (S.2.1 j).length
    · rw [List.getElem?_append_left hil] at hi
      exact (hK.it hj hi).ne (by omega)
    · have hi1 := (List.getElem?_eq_some_iff.mp hi).1
      simp only [List.length_append, List.length_cons, List.length_nil] at hi1
      have : i = (S.2.1 j).length := by omega
      subst this
      simp at hi
      subst hi
      exact itm.at
  · exact (h.ne (by omega)).cg (fun a h1 h2 => mI_o _ _ _ (by omega))
set_option maxRecDepth 4000 in
theorem c_K_isItem {g : zG} {z : Nat} {μ : zMem} {S : St} (hz : KOb g z) (hS : Inv S) (hK : RepK μ (z + 1) S) (o k : Int32) : zC g y_K_isItem b_K_isItem 3 (some .boolean) 1 22 [.ref z, .int o, .int k] μ (zI (bI (pb (pItem S o k))) (zS μ)) := by
  refine zC.of (by decide) (Nat.le_of_ble_eq_true rfl) [some (.ref z), some (.int o), some (.int k)] rfl rfl (fun x F hR => ?_)
  have F : zF g x b_K_isItem R_K 3 1 22 := F
  refine s_aload_n F d_K_isItem_0 rfl ?_
  refine s_iload_n F d_K_isItem_1 rfl ?_
  refine n_iconst F (n := 2) d_K_isItem_2 ?_
  refine c_ViR F (c_K_is hz hS hK o 2 (by decide)) ok_K_is k_101 (ci := 2) rfl (oK (kz_0 hz)) rfl rfl rfl (Nat.le_of_ble_eq_true rfl) (by decide) d_K_isItem_3 ?_
  by_cases h1 : pIs S o 2
  rotate_left
  · rw [pb_f h1]
    have e : ¬ pItem S o k := fun ⟨j, i, hj, ho, hk, _⟩ => h1 ⟨j, hj, ho, hk⟩
    refine n_if_eq F 30 d_K_isItem_6 (a := 0) (by decide) (by omega) (fun _ => ?_) (fun q => absurd rfl q)
    refine n_iconst F (n := 0) d_K_isItem_30 ?_
    exact s_zret F hR d_K_isItem_31 (by decide) (⟨by rw [pb_f e]; rfl, rfl⟩)
  rw [pb_t h1]
  refine n_if_eq F 30 d_K_isItem_6 (a := 1) (by decide) (by omega) (fun q => by omega) (fun _ => ?_)
  obtain ⟨j, hj, rfl, hkj⟩ := h1
  have hln := hS.ln hj
  refine s_iload_n F d_K_isItem_9 rfl ?_
  refine s_if_lt F 30 d_K_isItem_10 (by decide) (fun h2 => ?_) (fun h2 => ?_)
  · have e : ¬ pItem S (nI j) k := fun ⟨j', i, hj', ho, hk, hi, he⟩ => by
      have := hS.ln hj'
      rw [he] at h2
      exact nI_pos (by omega) h2
    refine n_iconst F (n := 0) d_K_isItem_30 ?_
    exact s_zret F hR d_K_isItem_31 (by decide) (⟨by rw [pb_f e]; rfl, rfl⟩)
  refine s_iload_n F d_K_isItem_13 rfl ?_
  refine s_aload_n F d_K_isItem_14 rfl ?_
  refine g_K_10 F d_K_isItem_15 (kz_0 hz) ?_
  refine g_K_56 F d_K_isItem_18 (ks_0 (kz_1 hz)) ?_
  refine s_iload_n F d_K_isItem_21 rfl ?_
  refine s_iald F d_K_isItem_22 (ks_2 (kz_1 hz)) (by omega) (by decide) (hK.sz hj) ?_
  refine s_icmp_ge F 30 d_K_isItem_23 (by decide) (fun h3 => ?_) (fun h3 => ?_)
  · have e : ¬ pItem S (nI j) k := fun ⟨j', i, hj', ho, hk, hi, he⟩ => by
      have := nI_inj (by omega) (by omega) ho
      subst this
      rw [he] at h3
      exact nI_ge hi (by omega) h3
    refine n_iconst F (n := 0) d_K_isItem_30 ?_
    exact s_zret F hR d_K_isItem_31 (by decide) (⟨by rw [pb_f e]; rfl, rfl⟩)
  · have e : pItem S (nI j) k := by
      rcases pk_ix k (n := (S.2.1 j).length) (by omega) with q | q | ⟨i, hi, e⟩
      · exact absurd q h2
      · exact absurd q h3
      · exact ⟨j, i, hj, rfl, hkj, hi, e⟩
    refine n_iconst F (n := 1) d_K_isItem_26 ?_
    refine s_goto F 31 d_K_isItem_27 (by decide) ?_
    exact s_zret F hR d_K_isItem_31 (by decide) (⟨by rw [pb_t e]; rfl, rfl⟩)
end
section
set_option maxRecDepth 4000 in
theorem c_K_pop {g : zG} {z : Nat} {μ : zMem} {S : St} (hz : KOb g z) (hS : Inv S) (hK : RepK μ (z + 1) S) (o : Int32) : zC g y_K_pop b_K_pop 3 (some .long) 1 22 [.ref z, .int o] μ (zJ (fPop S o).1 (fun μ' => RepK μ' (z + 1) (fPop S o).2 ∧ zOut (z + 1) 11 μ μ')) := by
  refine zC.of (by decide) (Nat.le_of_ble_eq_true rfl) [some (.ref z), some (.int o), none] rfl rfl (fun x F hR => ?_)
  have F : zF g x b_K_pop R_K 3 1 22 := F
  refine s_aload_n F d_K_pop_0 rfl ?_
  refine s_iload_n F d_K_pop_1 rfl ?_
  refine n_iconst F (n := 2) d_K_pop_2 ?_
  refine c_ViR F (c_K_is hz hS hK o 2 (by decide)) ok_K_is k_101 (ci := 2) rfl (oK (kz_0 hz)) rfl rfl rfl (Nat.le_of_ble_eq_true rfl) (by decide) d_K_pop_3 ?_
  by_cases h1 : pIs S o 2
  rotate_left
  · rw [pb_f h1]
    have e : fPop S o = (-1099511627776, S) := cif_f (fun q => h1 q.1)
    refine n_if_eq F 21 d_K_pop_6 (a := 0) (by decide) (by omega) (fun _ => ?_) (fun q => absurd rfl q)
    refine s_ldc2 F k_128 d_K_pop_21 ?_
    exact s_lret F hR d_K_pop_24 (⟨by rw [e], by rw [e]; exact ⟨hK, zOut.rf⟩⟩)
  rw [pb_t h1]
  refine n_if_eq F 21 d_K_pop_6 (a := 1) (by decide) (by omega) (fun q => by omega) (fun _ => ?_)
  have h1' := h1
  obtain ⟨j, hj, rfl, hkj⟩ := h1
  have hln := hS.ln hj
  refine s_aload_n F d_K_pop_9 rfl ?_
  refine g_K_10 F d_K_pop_10 (kz_0 hz) ?_
  refine g_K_56 F d_K_pop_13 (ks_0 (kz_1 hz)) ?_
  refine s_iload_n F d_K_pop_16 rfl ?_
  refine s_iald F d_K_pop_17 (ks_2 (kz_1 hz)) (by omega) (by decide) (hK.sz hj) ?_
  refine n_if_ne F 25 d_K_pop_18 (by decide) (by omega) (fun h2 => ?_) (fun h2 => ?_)
  rotate_left
  · have e : fPop S (nI j) = (-1099511627776, S) := cif_f (fun q => by rw [clampJ hj] at q; exact q.2 h2)
    refine s_ldc2 F k_128 d_K_pop_21 ?_
    exact s_lret F hR d_K_pop_24 (⟨by rw [e], by rw [e]; exact ⟨hK, zOut.rf⟩⟩)
  have e0 : fPop S (nI j) = aPop S j := by
    have := cif_t (a := aPop S (nI j).toNatClampNeg) (b := (-1099511627776, S)) (P := pIs S (nI j) 2 ∧ (S.2.1 (nI j).toNatClampNeg).length ≠ 0) ⟨h1', by rw [clampJ hj]; exact h2⟩
    rw [clampJ hj] at this
    unfold fPop
    rw [clampJ hj]
    exact this
  obtain ⟨it, hit⟩ := getIt (l := S.2.1 j) (k := (S.2.1 j).length - 1) (by omega)
  refine s_aload_n F d_K_pop_25 rfl ?_
  refine g_K_10 F d_K_pop_26 (kz_0 hz) ?_
  refine g_K_56 F d_K_pop_29 (ks_0 (kz_1 hz)) ?_
  refine s_iload_n F d_K_pop_32 rfl ?_
  refine s_dup2 F d_K_pop_33 rfl rfl ?_
  refine s_iald F d_K_pop_34 (ks_2 (kz_1 hz)) (by omega) (by decide) (hK.sz hj) ?_
  refine n_iconst F (n := 1) d_K_pop_35 ?_
  refine n_isub F d_K_pop_36 (by omega) ?_
  refine s_iast F d_K_pop_37 (ks_2 (kz_1 hz)) (by omega) (by decide) ?_
  refine s_iload_n F d_K_pop_38 rfl ?_
  refine n_bipush F (n := 20) d_K_pop_39 rfl ?_
  refine n_imul F d_K_pop_41 ?_
  refine s_aload_n F d_K_pop_42 rfl ?_
  refine g_K_10 F d_K_pop_43 (kz_0 hz) ?_
  refine g_K_56 F d_K_pop_46 (ks_0 (kz_1 hz)) ?_
  refine s_iload_n F d_K_pop_49 rfl ?_
  refine s_iald F d_K_pop_50 (ks_2 (kz_1 hz)) (by omega) (by decide) (mI_eq _ _ _ _) ?_
  refine n_iadd F d_K_pop_51 ?_
  refine s_istore_n F d_K_pop_52 (Nat.le_of_ble_eq_true rfl) rfl rfl ?_
  refine s_aload_n F d_K_pop_53 rfl ?_
  refine g_K_10 F d_K_pop_54 (kz_0 hz) ?_
  refine g_K_64 F d_K_pop_57 (ks_0 (kz_1 hz)) ?_
  refine s_iload_n F d_K_pop_60 rfl ?_
  refine s_iald F d_K_pop_61 (ks_4 (kz_1 hz)) (by omega) (by decide) ((mI_ne _ _ (Or.inl (by omega))).trans (hK.so hj hit)) ?_
  refine s_aload_n F d_K_pop_62 rfl ?_
  refine g_K_10 F d_K_pop_63 (kz_0 hz) ?_
  refine g_K_67 F d_K_pop_66 (ks_0 (kz_1 hz)) ?_
  refine s_iload_n F d_K_pop_69 rfl ?_
  refine s_iald F d_K_pop_70 (ks_5 (kz_1 hz)) (by omega) (by decide) ((mI_ne _ _ (Or.inl (by omega))).trans (hK.va hj hit)) ?_
  refine c_SlR F (c_K_told it.2.1 it.2.2) ok_K_told k_131 rfl rfl rfl rfl (Nat.le_of_ble_eq_true rfl) (by decide) d_K_pop_71 ?_
  refine s_lret F hR d_K_pop_74 ?_
  refine ⟨by rw [e0]; simp only [aPop, getD_of hit]; rfl, ?_, zOut.rf.mI (by omega) (by omega)⟩
  rw [e0]
  refine hK.upI hS (by rw [mI_o _ _ _ (by omega)]) (by rw [mI_o _ _ _ (by omega)]) (by rw [mI_eq]; simp) (fun q hq => mI_ne _ _ (Or.inr hq)) (fun i it hi => ?_) (fun i it hi h => h.cg (fun a h1 h2 => mI_o _ _ _ (by omega))) (fun a h1 h2 => mI_o _ _ _ (by omega))
  rw [List.getElem?_dropLast] at hi
  split at hi
  · exact (hK.it hj hi).cg (fun a h1 h2 => mI_o _ _ _ (by omega))
  · cases hi
set_option maxRecDepth 4000 in
theorem c_K_put {g : zG} {z : Nat} {μ : zMem} {S : St} (hz : KOb g z) (hS : Inv S) (hK : RepK μ (z + 1) S) (o k s v : Int32) : zC g y_K_put b_K_put 5 (some .int) 2 44 [.ref z, .int o, .int k, .int s, .int v] μ (zI (fPut S o k s v).1 (fun μ' => RepK μ' (z + 1) (fPut S o k s v).2 ∧ zOut (z + 1) 11 μ μ')) := by
  refine zC.of (by decide) (Nat.le_of_ble_eq_true rfl) [some (.ref z), some (.int o), some (.int k), some (.int s), some (.int v)] rfl rfl (fun x F hR => ?_)
  have F : zF g x b_K_put R_K 5 2 44 := F
  refine s_aload_n F d_K_put_0 rfl ?_
  refine s_iload_n F d_K_put_1 rfl ?_
  refine s_iload_n F d_K_put_2 rfl ?_
  refine c_ViR F (c_K_isItem hz hS hK o k) ok_K_isItem k_148 (ci := 2) rfl (oK (kz_0 hz)) rfl rfl rfl (Nat.le_of_ble_eq_true rfl) (by decide) d_K_put_3 ?_
  by_cases h1 : pItem S o k
  rotate_left
  · rw [pb_f h1]
    have e : fPut S o k s v = (-1, S) := cif_f (fun q => h1 q.1)
    refine n_if_eq F 19 d_K_put_6 (a := 0) (by decide) (by omega) (fun _ => ?_) (fun q => absurd rfl q)
    refine n_iconst_m1 F d_K_put_19 ?_
    exact s_iret F hR d_K_put_20 (⟨by rw [e], by rw [e]; exact ⟨hK, zOut.rf⟩⟩)
  rw [pb_t h1]
  refine n_if_eq F 19 d_K_put_6 (a := 1) (by decide) (by omega) (fun q => by omega) (fun _ => ?_)
  refine s_aload_n F d_K_put_9 rfl ?_
  refine s_iload_n F d_K_put_10 rfl ?_
  refine s_iload F d_K_put_11 rfl ?_
  refine c_ViR F (c_K_isValue hz hS hK s v) ok_K_isValue k_105 (ci := 2) rfl (oK (kz_0 hz)) rfl rfl rfl (Nat.le_of_ble_eq_true rfl) (by decide) d_K_put_13 ?_
  by_cases h2 : pVal S s v
  rotate_left
  · rw [pb_f h2]
    have e : fPut S o k s v = (-1, S) := cif_f (fun q => h2 q.2)
    refine n_if_ne F 21 d_K_put_16 (a := 0) (by decide) (by omega) (fun q => absurd rfl q) (fun _ => ?_)
    refine n_iconst_m1 F d_K_put_19 ?_
    exact s_iret F hR d_K_put_20 (⟨by rw [e], by rw [e]; exact ⟨hK, zOut.rf⟩⟩)
  rw [pb_t h2]
  refine n_if_ne F 21 d_K_put_16 (a := 1) (by decide) (by omega) (fun _ => ?_) (fun q => by omega)
  have e0 : fPut S o k s v = (nI 0, updI S o.toNatClampNeg ((S.2.1 o.toNatClampNeg).set k.toNatClampNeg (0, s, pln s v))) := cif_t ⟨h1, h2⟩
  obtain ⟨j, i, hj, rfl, hkj, hi, rfl⟩ := h1
  have hln := hS.ln hj
  rw [clampJ hj, nI_clamp (n := i) (by omega)] at e0
  refine s_aload_n F d_K_put_21 rfl ?_
  refine g_K_10 F d_K_put_22 (kz_0 hz) ?_
  refine s_iload_n F d_K_put_25 rfl ?_
  refine n_bipush F (n := 20) d_K_put_26 rfl ?_
  refine n_imul F d_K_put_28 ?_
  refine s_iload_n F d_K_put_29 rfl ?_
  refine n_iadd F d_K_put_30 ?_
  refine n_iconst F (n := 0) d_K_put_31 ?_
  refine s_iload_n F d_K_put_32 rfl ?_
  refine s_iload_n F d_K_put_33 rfl ?_
  refine s_iload F d_K_put_34 rfl ?_
  refine c_SiR F (c_K_plain s v) ok_K_plain k_109 rfl rfl rfl rfl (Nat.le_of_ble_eq_true rfl) (by decide) d_K_put_36 ?_
  refine c_Vv F (c_KS_store (kz_1 hz) (i := j * 20 + i) (by omega) (nI 0) s (pln s v)) ok_KS_store k_139 (ci := 0) rfl (oKS (ks_0 (kz_1 hz))) rfl rfl rfl (Nat.le_of_ble_eq_true rfl) (by decide) d_K_put_39 (fun μ' hq => ?_)
  subst hq
  have e2 : (mI (mI (mI μ (z + 1 + 3) (j * 20 + i) (nI 0)) (z + 1 + 4) (j * 20 + i) s) (z + 1 + 5) (j * 20 + i) (pln s v)) = set3 μ (z + 1) (j * 20 + i) (0, s, pln s v) := by rw [nI_0]; rfl
  rw [e2]
  refine n_iconst F (n := 0) d_K_put_42 ?_
  refine s_iret F hR d_K_put_43 ?_
  refine ⟨by rw [e0], ?_, zOut.rf.set3 (by omega) (by omega)⟩
  rw [e0]
  refine hK.upI hS (by rw [set3_o (by omega)]) (by rw [set3_o (by omega)]) (by rw [set3_o (by omega), hK.sz hj]; simp) (fun q hq => by rw [set3_o (by omega)]) (fun q it hq => ?_) (fun q it hi h => h.ne (by omega)) (fun a h1 h2 => set3_o (by omega))
  by_cases ej : q = i
  · subst ej
    rw [List.getElem?_set_self hi] at hq
    cases hq
    exact itm.at
  · rw [List.getElem?_set_ne (Ne.symm ej)] at hq
    exact (hK.it hj hq).ne (by omega)
set_option maxRecDepth 4000 in
theorem c_K_item {g : zG} {z : Nat} {μ : zMem} {S : St} (hz : KOb g z) (hS : Inv S) (hK : RepK μ (z + 1) S) (o k : Int32) : zC g y_K_item b_K_item 4 (some .long) 2 44 [.ref z, .int o, .int k] μ (zJ (fItem S o k) (zS μ)) := by
  refine zC.of (by decide) (Nat.le_of_ble_eq_true rfl) [some (.ref z), some (.int o), some (.int k), none] rfl rfl (fun x F hR => ?_)
  have F : zF g x b_K_item R_K 4 2 44 := F
  refine s_aload_n F d_K_item_0 rfl ?_
  refine s_iload_n F d_K_item_1 rfl ?_
  refine s_iload_n F d_K_item_2 rfl ?_
  refine c_ViR F (c_K_isItem hz hS hK o k) ok_K_isItem k_148 (ci := 2) rfl (oK (kz_0 hz)) rfl rfl rfl (Nat.le_of_ble_eq_true rfl) (by decide) d_K_item_3 ?_
  by_cases h1 : pItem S o k
  rotate_left
  · rw [pb_f h1]
    have e : fItem S o k = -1099511627776 := cif_f h1
    refine n_if_ne F 13 d_K_item_6 (a := 0) (by decide) (by omega) (fun q => absurd rfl q) (fun _ => ?_)
    refine s_ldc2 F k_128 d_K_item_9 ?_
    exact s_lret F hR d_K_item_12 (⟨by rw [e], rfl⟩)
  rw [pb_t h1]
  refine n_if_ne F 13 d_K_item_6 (a := 1) (by decide) (by omega) (fun _ => ?_) (fun q => by omega)
  have e0 : fItem S o k = tl ((S.2.1 o.toNatClampNeg).getD k.toNatClampNeg (0, 0, 0)) := cif_t h1
  obtain ⟨j, i, hj, rfl, hkj, hi, rfl⟩ := h1
  have hln := hS.ln hj
  rw [clampJ hj, nI_clamp (n := i) (by omega)] at e0
  obtain ⟨it, hit⟩ := getIt hi
  refine s_iload_n F d_K_item_13 rfl ?_
  refine n_bipush F (n := 20) d_K_item_14 rfl ?_
  refine n_imul F d_K_item_16 ?_
  refine s_iload_n F d_K_item_17 rfl ?_
  refine n_iadd F d_K_item_18 ?_
  refine s_istore_n F d_K_item_19 (Nat.le_of_ble_eq_true rfl) rfl rfl ?_
  refine s_aload_n F d_K_item_20 rfl ?_
  refine g_K_10 F d_K_item_21 (kz_0 hz) ?_
  refine g_K_64 F d_K_item_24 (ks_0 (kz_1 hz)) ?_
  refine s_iload_n F d_K_item_27 rfl ?_
  refine s_iald F d_K_item_28 (ks_4 (kz_1 hz)) (by omega) (by decide) (hK.so hj hit) ?_
  refine s_aload_n F d_K_item_29 rfl ?_
  refine g_K_10 F d_K_item_30 (kz_0 hz) ?_
  refine g_K_67 F d_K_item_33 (ks_0 (kz_1 hz)) ?_
  refine s_iload_n F d_K_item_36 rfl ?_
  refine s_iald F d_K_item_37 (ks_5 (kz_1 hz)) (by omega) (by decide) (hK.va hj hit) ?_
  refine c_SlR F (c_K_told it.2.1 it.2.2) ok_K_told k_131 rfl rfl rfl rfl (Nat.le_of_ble_eq_true rfl) (by decide) d_K_item_38 ?_
  exact s_lret F hR d_K_item_41 (⟨by rw [e0, getD_of hit]; rfl, rfl⟩)
set_option maxRecDepth 4000 in
theorem c_K_root {g : zG} {z : Nat} {μ : zMem} {S : St} (hz : KOb g z) (hS : Inv S) (hK : RepK μ (z + 1) S) (n s v : Int32) : zC g y_K_root b_K_root 4 (some .int) 2 46 [.ref z, .int n, .int s, .int v] μ (zI (fRoot S n s v).1 (fun μ' => RepK μ' (z + 1) (fRoot S n s v).2 ∧ zOut (z + 1) 11 μ μ')) := by
  refine zC.of (by decide) (Nat.le_of_ble_eq_true rfl) [some (.ref z), some (.int n), some (.int s), some (.int v)] rfl rfl (fun x F hR => ?_)
  have F : zF g x b_K_root R_K 4 2 46 := F
  refine s_aload_n F d_K_root_0 rfl ?_
  refine s_iload_n F d_K_root_1 rfl ?_
  refine s_iload_n F d_K_root_2 rfl ?_
  refine c_ViR F (c_K_isValue hz hS hK s v) ok_K_isValue k_105 (ci := 2) rfl (oK (kz_0 hz)) rfl rfl rfl (Nat.le_of_ble_eq_true rfl) (by decide) d_K_root_3 ?_
  by_cases h2 : pVal S s v
  rotate_left
  · rw [pb_f h2]
    have e : fRoot S n s v = (-1, S) := cif_f h2
    refine n_if_ne F 11 d_K_root_6 (a := 0) (by decide) (by omega) (fun q => absurd rfl q) (fun _ => ?_)
    refine n_iconst_m1 F d_K_root_9 ?_
    exact s_iret F hR d_K_root_10 (⟨by rw [e], by rw [e]; exact ⟨hK, zOut.rf⟩⟩)
  rw [pb_t h2]
  refine n_if_ne F 11 d_K_root_6 (a := 1) (by decide) (by omega) (fun _ => ?_) (fun q => by omega)
  have e0 : fRoot S n s v = aRoot S n s (pln s v) := cif_t h2
  refine s_aload_n F d_K_root_11 rfl ?_
  refine g_K_10 F d_K_root_12 (kz_0 hz) ?_
  refine s_iload_n F d_K_root_15 rfl ?_
  refine s_iload_n F d_K_root_16 rfl ?_
  refine s_iload_n F d_K_root_17 rfl ?_
  refine s_iload_n F d_K_root_18 rfl ?_
  refine c_SiR F (c_K_plain s v) ok_K_plain k_109 rfl rfl rfl rfl (Nat.le_of_ble_eq_true rfl) (by decide) d_K_root_19 ?_
  refine c_Vi F (c_KS_setRoot (kz_1 hz) hS hK n s (pln s v)) ok_KS_setRoot k_160 (ci := 0) rfl (oKS (ks_0 (kz_1 hz))) rfl rfl rfl (Nat.le_of_ble_eq_true rfl) (by decide) d_K_root_22 (fun μ' hq => ?_)
  cases hb : (rootF S n s (pln s v)).1 with
  | true =>
    refine n_if_eq F 38 d_K_root_25 (a := 1) (by decide) (by omega) (fun q => by omega) (fun _ => ?_)
    refine s_aload_n F d_K_root_28 rfl ?_
    refine g_K_10 F d_K_root_29 (kz_0 hz) ?_
    refine g_K_85 F d_K_root_32 (ks_0 (kz_1 hz)) (hq.1.rs) ?_
    refine s_goto F 40 d_K_root_35 (by decide) ?_
    exact s_iret F hR d_K_root_40 (⟨by rw [e0]; simp only [aRoot, hb]; rfl, by rw [e0]; exact hq⟩)
  | false =>
    refine n_if_eq F 38 d_K_root_25 (a := 0) (by decide) (by omega) (fun _ => ?_) (fun q => absurd rfl q)
    refine s_bipush F (v := -3) d_K_root_38 (by decide) ?_
    exact s_iret F hR d_K_root_40 (⟨by rw [e0]; simp only [aRoot, hb]; rfl, by rw [e0]; exact hq⟩)
set_option maxRecDepth 4000 in
theorem c_K_rooted {g : zG} {z : Nat} {μ : zMem} {S : St} (hz : KOb g z) (hS : Inv S) (hK : RepK μ (z + 1) S) (n : Int32) : zC g y_K_rooted b_K_rooted 3 (some .long) 1 22 [.ref z, .int n] μ (zJ (gt S.2.2 n) (zS μ)) := by
  refine zC.of (by decide) (Nat.le_of_ble_eq_true rfl) [some (.ref z), some (.int n), none] rfl rfl (fun x F hR => ?_)
  have F : zF g x b_K_rooted R_K 3 1 22 := F
  have hrl := hS.rl
  refine s_aload_n F d_K_rooted_0 rfl ?_
  refine g_K_10 F d_K_rooted_1 (kz_0 hz) ?_
  refine s_iload_n F d_K_rooted_4 rfl ?_
  refine c_ViR F (c_KS_findRoot (kz_1 hz) hS hK n) ok_KS_findRoot k_172 (ci := 0) rfl (oKS (ks_0 (kz_1 hz))) rfl rfl rfl (Nat.le_of_ble_eq_true rfl) (by decide) d_K_rooted_5 ?_
  refine s_istore_n F d_K_rooted_8 (Nat.le_of_ble_eq_true rfl) rfl rfl ?_
  refine s_iload_n F d_K_rooted_9 rfl ?_
  cases hf : fnd S.2.2 n with
  | none =>
    refine m_if_ge F 19 d_K_rooted_10 (by decide) ?_
    refine s_ldc2 F k_130 d_K_rooted_13 ?_
    refine s_goto F 40 d_K_rooted_16 (by decide) ?_
    exact s_lret F hR d_K_rooted_40 (⟨by simp only [gt, hf], rfl⟩)
  | some k =>
    obtain ⟨hkl, it, hit, -⟩ := fnd_spec hf
    refine n_if_geT F 19 d_K_rooted_10 (by decide) (by omega) ?_
    refine s_aload_n F d_K_rooted_19 rfl ?_
    refine g_K_10 F d_K_rooted_20 (kz_0 hz) ?_
    refine g_K_92 F d_K_rooted_23 (ks_0 (kz_1 hz)) ?_
    refine s_iload_n F d_K_rooted_26 rfl ?_
    refine s_iald F d_K_rooted_27 (ks_7 (kz_1 hz)) (by omega) (by decide) (hK.ro hit) ?_
    refine s_aload_n F d_K_rooted_28 rfl ?_
    refine g_K_10 F d_K_rooted_29 (kz_0 hz) ?_
    refine g_K_95 F d_K_rooted_32 (ks_0 (kz_1 hz)) ?_
    refine s_iload_n F d_K_rooted_35 rfl ?_
    refine s_iald F d_K_rooted_36 (ks_8 (kz_1 hz)) (by omega) (by decide) (hK.rv hit) ?_
    refine c_SlR F (c_K_told it.2.1 it.2.2) ok_K_told k_131 rfl rfl rfl rfl (Nat.le_of_ble_eq_true rfl) (by decide) d_K_rooted_37 ?_
    exact s_lret F hR d_K_rooted_40 (⟨by simp only [gt, hf, getD_of hit]; rfl, rfl⟩)
set_option maxRecDepth 4000 in
theorem c_K_kind {g : zG} {z : Nat} {μ : zMem} {S : St} (hz : KOb g z) (hK : RepK μ (z + 1) S) (o : Int32) : zC g y_K_kind b_K_kind 2 (some .int) 0 0 [.ref z, .int o] μ (zI (fKind S o) (zS μ)) := by
  refine zC.of (by decide) (Nat.le_of_ble_eq_true rfl) [some (.ref z), some (.int o)] rfl rfl (fun x F hR => ?_)
  have F : zF g x b_K_kind R_K 2 0 0 := F
  rcases pk_ix o (n := 100) (by decide) with h | h | ⟨j, hj, rfl⟩
  · have e : fKind S o = -1 := cif_f (fun ⟨j, hj, e⟩ => by rw [e] at h; exact nI_pos (by omega) h)
    refine s_iload_n F d_K_kind_0 rfl ?_
    refine s_if_lt F 10 d_K_kind_1 (by decide) (fun _ => ?_) (fun q => absurd h q)
    refine n_iconst_m1 F d_K_kind_10 ?_
    refine s_goto F 23 d_K_kind_11 (by decide) ?_
    exact s_iret F hR d_K_kind_23 (⟨by rw [e], rfl⟩)
  · have e : fKind S o = -1 := cif_f (fun ⟨j, hj, e⟩ => by rw [e] at h; exact nI_ge hj (by decide) h)
    refine s_iload_n F d_K_kind_0 rfl ?_
    refine s_if_lt F 10 d_K_kind_1 (by decide) (fun _ => ?_) (fun _ => ?_)
    · refine n_iconst_m1 F d_K_kind_10 ?_
      refine s_goto F 23 d_K_kind_11 (by decide) ?_
      exact s_iret F hR d_K_kind_23 (⟨by rw [e], rfl⟩)
    refine s_iload_n F d_K_kind_4 rfl ?_
    refine n_bipush F (n := 100) d_K_kind_5 rfl ?_
    refine s_icmp_lt F 14 d_K_kind_7 (by decide) (fun q => absurd h (Int32.not_le.mpr q)) (fun _ => ?_)
    refine n_iconst_m1 F d_K_kind_10 ?_
    refine s_goto F 23 d_K_kind_11 (by decide) ?_
    exact s_iret F hR d_K_kind_23 (⟨by rw [e], rfl⟩)
  · have e : fKind S (nI j) = nI (S.1 (nI j).toNatClampNeg) := cif_t ⟨j, hj, rfl⟩
    rw [clampJ hj] at e
    refine s_iload_n F d_K_kind_0 rfl ?_
    refine n_if_ltF F 10 d_K_kind_1 (by decide) (by omega) ?_
    refine s_iload_n F d_K_kind_4 rfl ?_
    refine n_bipush F (n := 100) d_K_kind_5 rfl ?_
    refine n_icmp_lt F 14 d_K_kind_7 (by decide) (by omega) (by omega) (fun _ => ?_) (fun q => by omega)
    refine s_aload_n F d_K_kind_14 rfl ?_
    refine g_K_10 F d_K_kind_15 (kz_0 hz) ?_
    refine g_K_30 F d_K_kind_18 (ks_0 (kz_1 hz)) ?_
    refine s_iload_n F d_K_kind_21 rfl ?_
    refine s_iald F d_K_kind_22 (ks_1 (kz_1 hz)) (by omega) (by decide) (hK.kd hj) ?_
    exact s_iret F hR d_K_kind_23 (⟨by rw [e], rfl⟩)
set_option maxRecDepth 4000 in
theorem c_K_size {g : zG} {z : Nat} {μ : zMem} {S : St} (hz : KOb g z) (hS : Inv S) (hK : RepK μ (z + 1) S) (o : Int32) : zC g y_K_size b_K_size 2 (some .int) 1 22 [.ref z, .int o] μ (zI (fSize S o) (zS μ)) := by
  refine zC.of (by decide) (Nat.le_of_ble_eq_true rfl) [some (.ref z), some (.int o)] rfl rfl (fun x F hR => ?_)
  have F : zF g x b_K_size R_K 2 1 22 := F
  have fin : pTh S o → PW g x μ 18 [some (.ref z), some (.int o)] [] := fun h => by
    have e : fSize S o = nI (S.2.1 o.toNatClampNeg).length := cif_t h
    obtain ⟨j, hj, rfl, -⟩ := h
    rw [clampJ hj] at e
    refine s_aload_n F d_K_size_18 rfl ?_
    refine g_K_10 F d_K_size_19 (kz_0 hz) ?_
    refine g_K_56 F d_K_size_22 (ks_0 (kz_1 hz)) ?_
    refine s_iload_n F d_K_size_25 rfl ?_
    refine s_iald F d_K_size_26 (ks_2 (kz_1 hz)) (by omega) (by decide) (hK.sz hj) ?_
    refine s_goto F 31 d_K_size_27 (by decide) ?_
    exact s_iret F hR d_K_size_31 (⟨by rw [e], rfl⟩)
  refine s_aload_n F d_K_size_0 rfl ?_
  refine s_iload_n F d_K_size_1 rfl ?_
  refine n_iconst F (n := 1) d_K_size_2 ?_
  refine c_ViR F (c_K_is hz hS hK o 1 (by decide)) ok_K_is k_101 (ci := 2) rfl (oK (kz_0 hz)) rfl rfl rfl (Nat.le_of_ble_eq_true rfl) (by decide) d_K_size_3 ?_
  by_cases h1 : pIs S o 1
  · rw [pb_t h1]
    refine n_if_ne F 18 d_K_size_6 (a := 1) (by decide) (by omega) (fun _ => ?_) (fun q => by omega)
    exact fin ((pTh.of hS).mpr (Or.inl h1))
  rw [pb_f h1]
  refine n_if_ne F 18 d_K_size_6 (a := 0) (by decide) (by omega) (fun q => absurd rfl q) (fun _ => ?_)
  refine s_aload_n F d_K_size_9 rfl ?_
  refine s_iload_n F d_K_size_10 rfl ?_
  refine n_iconst F (n := 2) d_K_size_11 ?_
  refine c_ViR F (c_K_is hz hS hK o 2 (by decide)) ok_K_is k_101 (ci := 2) rfl (oK (kz_0 hz)) rfl rfl rfl (Nat.le_of_ble_eq_true rfl) (by decide) d_K_size_12 ?_
  by_cases h2 : pIs S o 2
  · rw [pb_t h2]
    refine n_if_eq F 30 d_K_size_15 (a := 1) (by decide) (by omega) (fun q => by omega) (fun _ => ?_)
    exact fin ((pTh.of hS).mpr (Or.inr h2))
  rw [pb_f h2]
  refine n_if_eq F 30 d_K_size_15 (a := 0) (by decide) (by omega) (fun _ => ?_) (fun q => absurd rfl q)
  have e : fSize S o = -1 := cif_f (fun q => by
    rcases (pTh.of hS).mp q with q | q
    · exact h1 q
    · exact h2 q)
  refine n_iconst_m1 F d_K_size_30 ?_
  exact s_iret F hR d_K_size_31 (⟨by rw [e], rfl⟩)
end
section
set_option maxRecDepth 4000 in
theorem c_K_write {g : zG} {z : Nat} {μ : zMem} {T : Ts} (hz : KOb g z) (hT : InvT T) (hK : RepKH μ z T) {n : Nat} (hn : n ≤ 2000) : zC g y_K_write b_K_write 4 none 1 23 [.ref z, .int (nI n)] μ (zV (fun μ' => RepKH μ' z (wrF T n) ∧ zOut z 124 μ μ')) := by
  refine zC.of (by decide) (Nat.le_of_ble_eq_true rfl) [some (.ref z), some (.int (nI n)), none, none] rfl rfl (fun x F hR => ?_)
  have F : zF g x b_K_write R_K 4 1 23 := F
  have tail : ∀ (μ1 : zMem) (sf : St) (wl : List (St × Nat)) (v2 v3 : Option Value), RepKH μ1 z (T.1, T.2.1, sf, wl, T.2.2.2.2) → zOut z 124 μ μ1 → wl.length < 8 → (T.1, T.1, sf, wl ++ [(T.1, n)], T.2.2.2.2 + (nI n).toInt64) = wrF T n → PW g x μ1 88 [some (.ref z), some (.int (nI n)), v2, v3] [] := by
    intro μ1 sf wl v2 v3 hK1 hO1 hw hE
    obtain ⟨k1, k2, k3, k4, k5, π, ⟨p1, p2⟩, k7⟩ := hK1
    obtain ⟨hp, hpa⟩ := p1 wl.length hw
    have hAw := kz_a hz (π wl.length) hp
    refine s_aload_n F d_K_write_88 rfl ?_
    refine g_K_22 F d_K_write_89 (kz_0 hz) ?_
    refine s_aload_n F d_K_write_92 rfl ?_
    refine g_K_98 F d_K_write_93 (kz_0 hz) (k4) ?_
    refine s_aldK F d_K_write_96 (kz_34 hz) (by omega) (by decide) (hpa) ?_
    refine s_aload_n F d_K_write_97 rfl ?_
    refine g_K_10 F d_K_write_98 (kz_0 hz) ?_
    refine c_Vv F (c_KS_copy hAw (kz_1 hz) (by omega) hT.1 k1) ok_KS_copy k_193 (ci := 0) rfl (oKS (ks_0 hAw)) rfl rfl rfl (Nat.le_of_ble_eq_true rfl) (by decide) d_K_write_101 (fun μ2 hq => ?_)
    obtain ⟨q1, q2⟩ := hq
    have w2 : μ2.1 z 0 = nI wl.length := by rw [(q2 z (by omega)).1]; exact k4
    refine s_aload_n F d_K_write_104 rfl ?_
    refine g_K_26 F d_K_write_105 (kz_0 hz) ?_
    refine s_aload_n F d_K_write_108 rfl ?_
    refine g_K_98 F d_K_write_109 (kz_0 hz) (w2) ?_
    refine s_iload_n F d_K_write_112 rfl ?_
    refine s_iast F d_K_write_113 (kz_35 hz) (by omega) (by decide) ?_
    refine s_aload_n F d_K_write_114 rfl ?_
    refine s_dup F d_K_write_115 rfl ?_
    refine g_K_98 F d_K_write_116 (kz_0 hz) ((mI_ne _ _ (Or.inl (by omega))).trans w2) ?_
    refine n_iconst F (n := 1) d_K_write_119 ?_
    refine n_iadd F d_K_write_120 ?_
    refine p_K_98 F d_K_write_121 (kz_0 hz) ?_
    refine s_aload_n F d_K_write_124 rfl ?_
    refine s_dup F d_K_write_125 rfl ?_
    refine g_K_105 F d_K_write_126 (kz_0 hz) ((show μ2.2.1 z 0 = T.2.2.2.2 by rw [(q2 z (by omega)).2.1]; exact k5)) ?_
    refine s_iload_n F d_K_write_129 rfl ?_
    refine s_i2l F d_K_write_130 ?_
    refine s_ladd F d_K_write_131 ?_
    refine p_K_105 F d_K_write_132 (kz_0 hz) ?_
    refine s_aload_n F d_K_write_135 rfl ?_
    refine g_K_16 F d_K_write_136 (kz_0 hz) ?_
    refine s_aload_n F d_K_write_139 rfl ?_
    refine g_K_10 F d_K_write_140 (kz_0 hz) ?_
    have hk1 : RepK (mL (mI (mI μ2 (z + 35) wl.length (nI n)) z 0 (nI (wl.length + 1))) z 0 (T.2.2.2.2 + (nI n).toInt64)) (z + 1) T.1 := (k1.out q2 (by omega)).cgA (fun a h1 h2 => by rw [mL_i, mI_o _ _ _ (by omega), mI_o _ _ _ (by omega)])
    refine c_Vv F (c_KS_copy (kz_12 hz) (kz_1 hz) (by omega) hT.1 hk1) ok_KS_copy k_193 (ci := 0) rfl (oKS (ks_0 (kz_12 hz))) rfl rfl rfl (Nat.le_of_ble_eq_true rfl) (by decide) d_K_write_143 (fun μ3 hq => ?_)
    obtain ⟨r1, r2⟩ := hq
    have same : ∀ a, z < a → (a < z + 12 ∨ z + 23 ≤ a) → a ≠ z + 35 → (a < z + 36 + 11 * π wl.length ∨ z + 36 + 11 * π wl.length + 11 ≤ a) → μ3.1 a = μ1.1 a := fun a h1 h2 h3 h4 => by
      rw [(r2 a (by omega)).1, mL_i, mI_o _ _ _ (by omega), mI_o _ _ _ (by omega), (q2 a (by omega)).1]
    refine s_vret F hR d_K_write_146 ?_
    refine ⟨rfl, ?_, ?_⟩
    · rw [← hE]
      refine ⟨k1.cgA (fun a h1 h2 => same a (by omega) (by omega) (by omega) (by omega)), r1, k3.cgA (fun a h1 h2 => same a (by omega) (by omega) (by omega) (by omega)), ?_, ?_, π, ⟨fun k hk => ⟨(p1 k hk).1, ?_⟩, p2⟩, fun k e he => ?_⟩
      · rw [(r2 z (by omega)).1, mL_i, mI_eq, List.length_append]; rfl
      · rw [(r2 z (by omega)).2.1, mL_eq]
      · rw [(r2 (z + 34) (by omega)).2.2, mL_r, mI_2, mI_2, (q2 (z + 34) (by omega)).2.2]
        exact (p1 k hk).2
      · have hkl := (List.getElem?_eq_some_iff.mp he).1
        simp only [List.length_append, List.length_cons, List.length_nil] at hkl
        by_cases hkw : k < wl.length
        · dsimp only at he
          rw [List.getElem?_append_left hkw] at he
          obtain ⟨a1, a2⟩ := k7 k e he
          have hne : π k ≠ π wl.length := fun q => by have := p2 k wl.length (by omega) hw q; omega
          refine ⟨a1.cgA (fun a h1 h2 => same a (by omega) (by omega) (by omega) (by omega)), ?_⟩
          rw [(r2 (z + 35) (by omega)).1, mL_i, mI_ne _ _ (Or.inl (by omega)), mI_ne _ _ (Or.inr (by omega)), (q2 (z + 35) (by omega)).1]
          exact a2
        · have : k = wl.length := by omega
          subst this
          dsimp only at he
          simp at he
          subst he
          refine ⟨q1.cgA (fun a h1 h2 => ?_), ?_⟩
          · rw [(r2 a (by omega)).1, mL_i, mI_o _ _ _ (by omega), mI_o _ _ _ (by omega)]
          · rw [(r2 (z + 35) (by omega)).1, mL_i, mI_ne _ _ (Or.inl (by omega)), mI_eq]
    · refine (((((hO1.tr (q2.mono (by omega) (by omega))).mI (by omega) (by omega)).mI (by omega) (by omega)).mL (by omega) (by omega)).tr (r2.mono (by omega) (by omega)))
  obtain ⟨t1, t2, t3, t4, t5⟩ := hT
  have hK0 := hK
  obtain ⟨k1, k2, k3, k4, k5, π, ⟨p1, p2⟩, k7⟩ := hK
  refine s_aload_n F d_K_write_0 rfl ?_
  refine g_K_98 F d_K_write_1 (kz_0 hz) (k4) ?_
  refine n_bipush F (n := 8) d_K_write_4 rfl ?_
  refine n_icmp_ne F 88 d_K_write_6 (by decide) (by omega) (by omega) (fun h1 => ?_) (fun h1 => ?_)
  · refine tail μ T.2.2.1 T.2.2.2.1 none none hK0 zOut.rf (by omega) ?_
    unfold wrF
    cases hw : T.2.2.2.1 with
    | nil => rfl
    | cons e r =>
      dsimp only
      rw [if_neg (by rw [hw, List.length_cons] at h1; omega)]
  · cases hw : T.2.2.2.1 with
    | nil => rw [hw] at h1; simp at h1
    | cons e r =>
    rw [hw] at h1 k7 t4 t5
    rw [List.length_cons] at h1
    have hr : r.length = 7 := by omega
    obtain ⟨e1, e2⟩ := k7 0 e rfl
    obtain ⟨hp0, hpa0⟩ := p1 0 (by omega)
    have hA0 := kz_a hz (π 0) hp0
    refine s_aload_n F d_K_write_9 rfl ?_
    refine g_K_22 F d_K_write_10 (kz_0 hz) ?_
    refine n_iconst F (n := 0) d_K_write_13 ?_
    refine s_aldK F d_K_write_14 (kz_34 hz) (by omega) (by decide) (hpa0) ?_
    refine s_astore_n F d_K_write_15 (Nat.le_of_ble_eq_true rfl) rfl rfl ?_
    refine s_aload_n F d_K_write_16 rfl ?_
    refine g_K_19 F d_K_write_17 (kz_0 hz) ?_
    refine s_aload_n F d_K_write_20 rfl ?_
    refine c_Vv F (c_KS_copy (kz_23 hz) hA0 (by omega) (t5 e (by simp)).1 e1) ok_KS_copy k_193 (ci := 0) rfl (oKS (ks_0 (kz_23 hz))) rfl rfl rfl (Nat.le_of_ble_eq_true rfl) (by decide) d_K_write_21 (fun μ1 hq => ?_)
    obtain ⟨q1, q2⟩ := hq
    have w1 : μ1.1 z 0 = nI 8 := by rw [(q2 z (by omega)).1, k4, hw, List.length_cons, hr]
    refine s_aload_n F d_K_write_24 rfl ?_
    refine s_dup F d_K_write_25 rfl ?_
    refine g_K_98 F d_K_write_26 (kz_0 hz) (w1) ?_
    refine n_iconst F (n := 1) d_K_write_29 ?_
    refine n_isub F d_K_write_30 (by omega) ?_
    refine p_K_98 F d_K_write_31 (kz_0 hz) ?_
    refine n_iconst F (n := 0) d_K_write_34 ?_
    refine s_istore_n F d_K_write_35 (Nat.le_of_ble_eq_true rfl) rfl rfl ?_
    refine lpU (σ := zMem) 7 (fun k s => PW g x s 36 [some (.ref z), some (.int (nI n)), some (.ref (z + 36 + 11 * π 0)), some (.int (nI k))] []) (fun k s => zOut z 124 μ s ∧ (∀ a, (a < z + 34 ∨ z + 36 ≤ a) → a ≠ z → s.1 a = μ1.1 a) ∧ s.1 z 0 = nI 7 ∧ s.2.1 = μ1.2.1 ∧ (∀ i, i < 8 → s.2.2 (z + 34) i = some (z + 36 + 11 * (if i < k then π (i + 1) else π i))) ∧ (∀ i, i < 8 → s.1 (z + 35) i = (if i < k then μ.1 (z + 35) (i + 1) else μ.1 (z + 35) i))) (fun k s hk hI ih => ?_) 0 (mI μ1 z 0 (nI 7)) (Nat.zero_le _) ⟨((q2.mono (by omega) (by omega)) : zOut z 124 μ μ1).mI (by omega) (by omega), fun a h1 h2 => mI_o _ _ _ h2, mI_eq _ _ _ _, rfl, fun i hi => ?_, fun i hi => ?_⟩
    case refine_2 =>
      rw [mI_2, (q2 (z + 34) (by omega)).2.2, if_neg (Nat.not_lt_zero i)]
      exact (p1 i hi).2
    case refine_3 =>
      rw [mI_ne _ _ (Or.inl (by omega)), (q2 (z + 35) (by omega)).1, if_neg (Nat.not_lt_zero i)]
    obtain ⟨i1, i2, i3, i4, i5, i6⟩ := hI
    refine s_iload_n F d_K_write_36 rfl ?_
    refine s_aload_n F d_K_write_37 rfl ?_
    refine g_K_98 F d_K_write_38 (kz_0 hz) (i3) ?_
    refine n_icmp_ge F 78 d_K_write_41 (by decide) (by omega) (by omega) (fun h2 => ?_) (fun h2 => ?_)
    · have hk7 : k = 7 := by omega
      subst hk7
      refine s_aload_n F d_K_write_78 rfl ?_
      refine g_K_22 F d_K_write_79 (kz_0 hz) ?_
      refine s_aload_n F d_K_write_82 rfl ?_
      refine g_K_98 F d_K_write_83 (kz_0 hz) (i3) ?_
      refine s_aload_n F d_K_write_86 rfl ?_
      refine s_astK F d_K_write_87 (kz_34 hz) (by omega) (by decide) (ks_0 hA0) ?_
      refine tail _ e.1 r (some (.ref (z + 36 + 11 * π 0))) (some (.int (nI 7))) ⟨?_, ?_, ?_, ?_, ?_, fun i => if i < 7 then π (i + 1) else π 0, ⟨fun i hi => ?_, fun i j hi hj hij => ?_⟩, fun i f hf => ?_⟩ (i1.mR (by omega) (by omega)) (by omega) ?_
      · exact (k1.out q2 (by omega)).cgA (fun a h1 h2 => i2 a (by omega) (by omega))
      · exact (k2.out q2 (by omega)).cgA (fun a h1 h2 => i2 a (by omega) (by omega))
      · exact q1.cgA (fun a h1 h2 => i2 a (by omega) (by omega))
      · rw [mR_i, i3]; exact congrArg nI hr.symm
      · rw [mR_l, i4, (q2 z (by omega)).2.1]; exact k5
      · dsimp only
        by_cases h7 : i < 7
        · rw [if_pos h7, mR_ne _ _ (Or.inr (by omega)), i5 i hi, if_pos h7]
          exact ⟨(p1 (i + 1) (by omega)).1, rfl⟩
        · have : i = 7 := by omega
          subst this
          rw [if_neg (by omega), mR_eq]
          exact ⟨hp0, rfl⟩
      · dsimp only at hij
        by_cases h7 : i < 7 <;> by_cases h8 : j < 7
        · rw [if_pos h7, if_pos h8] at hij
          have := p2 _ _ (by omega) (by omega) hij
          omega
        · rw [if_pos h7, if_neg h8] at hij
          have := p2 _ _ (by omega) (by omega) hij
          omega
        · rw [if_neg h7, if_pos h8] at hij
          have := p2 _ _ (by omega) (by omega) hij
          omega
        · omega
      · dsimp only at hf ⊢
        have hil := (List.getElem?_eq_some_iff.mp hf).1
        obtain ⟨a1, a2⟩ := k7 (i + 1) f (by rw [List.getElem?_cons_succ]; exact hf)
        rw [if_pos (by omega)]
        refine ⟨(a1.out q2 (by omega)).cgA (fun a h1 h2 => i2 a (by omega) (by omega)), ?_⟩
        rw [mR_i, i6 i (by omega), if_pos (by omega)]
        exact a2
      · unfold wrF
        rw [hw]
        dsimp only
        rw [if_pos hr]
    · have hA1 := kz_a hz (π (k + 1)) (p1 (k + 1) (by omega)).1
      have b0 : s.2.2 (z + 34) (k + 1) = some (z + 36 + 11 * π (k + 1)) := by have := i5 (k + 1) (by omega); rw [if_neg (by omega)] at this; exact this
      have b1 : s.1 (z + 35) (k + 1) = μ.1 (z + 35) (k + 1) := by have := i6 (k + 1) (by omega); rw [if_neg (by omega)] at this; exact this
      refine s_aload_n F d_K_write_44 rfl ?_
      refine g_K_22 F d_K_write_45 (kz_0 hz) ?_
      refine s_iload_n F d_K_write_48 rfl ?_
      refine s_aload_n F d_K_write_49 rfl ?_
      refine g_K_22 F d_K_write_50 (kz_0 hz) ?_
      refine s_iload_n F d_K_write_53 rfl ?_
      refine n_iconst F (n := 1) d_K_write_54 ?_
      refine n_iadd F d_K_write_55 ?_
      refine s_aldK F d_K_write_56 (kz_34 hz) (by omega) (by decide) (b0) ?_
      refine s_astK F d_K_write_57 (kz_34 hz) (by omega) (by decide) (ks_0 hA1) ?_
      refine s_aload_n F d_K_write_58 rfl ?_
      refine g_K_26 F d_K_write_59 (kz_0 hz) ?_
      refine s_iload_n F d_K_write_62 rfl ?_
      refine s_aload_n F d_K_write_63 rfl ?_
      refine g_K_26 F d_K_write_64 (kz_0 hz) ?_
      refine s_iload_n F d_K_write_67 rfl ?_
      refine n_iconst F (n := 1) d_K_write_68 ?_
      refine n_iadd F d_K_write_69 ?_
      refine s_iald F d_K_write_70 (kz_35 hz) (by omega) (by decide) (b1) ?_
      refine s_iast F d_K_write_71 (kz_35 hz) (by omega) (by decide) ?_
      refine n_iinc F (n := 1) d_K_write_72 rfl rfl rfl ?_
      refine s_goto F 36 d_K_write_75 (by decide) ?_
      refine ih h2 _ ⟨(i1.mR (by omega) (by omega)).mI (by omega) (by omega), fun a h1 h2 => by rw [mI_o _ _ _ (by omega), mR_i]; exact i2 a h1 h2, by rw [mI_o _ _ _ (by omega), mR_i]; exact i3, i4, fun i hi => ?_, fun i hi => ?_⟩
      · rw [mI_2]
        by_cases e : i = k
        · subst e
          rw [mR_eq, if_pos (by omega)]
        · rw [mR_ne _ _ (Or.inr e), i5 i hi]
          by_cases h3 : i < k
          · rw [if_pos h3, if_pos (by omega)]
          · rw [if_neg h3, if_neg (by omega)]
      · by_cases e : i = k
        · subst e
          rw [mI_eq, if_pos (by omega)]
        · rw [mI_ne _ _ (Or.inr e), mR_i, i6 i hi]
          by_cases h3 : i < k
          · rw [if_pos h3, if_pos (by omega)]
          · rw [if_neg h3, if_neg (by omega)]
set_option maxRecDepth 4000 in
theorem c_K_commit {g : zG} {z : Nat} {μ : zMem} {T : Ts} (hz : KOb g z) (hT : InvT T) (hK : RepKH μ z T) : zC g y_K_commit b_K_commit 2 (some .int) 3 69 [.ref z] μ (zI (fCommit T).1 (fun μ' => RepKH μ' z (fCommit T).2 ∧ zOut z 124 μ μ')) := by
  refine zC.of (by decide) (Nat.le_of_ble_eq_true rfl) [some (.ref z), none] rfl rfl (fun x F hR => ?_)
  have F : zF g x b_K_commit R_K 2 3 69 := F
  refine s_aload_n F d_K_commit_0 rfl ?_
  refine g_K_10 F d_K_commit_1 (kz_0 hz) ?_
  refine s_aload_n F d_K_commit_4 rfl ?_
  refine g_K_16 F d_K_commit_5 (kz_0 hz) ?_
  refine c_ViR F (c_KS_changes (kz_1 hz) (kz_12 hz) hT.1 hT.2.1 hK.1 hK.2.1) ok_KS_changes k_177 (ci := 0) rfl (oKS (ks_0 (kz_1 hz))) rfl rfl rfl (Nat.le_of_ble_eq_true rfl) (by decide) d_K_commit_8 ?_
  refine s_istore_n F d_K_commit_11 (Nat.le_of_ble_eq_true rfl) rfl rfl ?_
  refine s_aload_n F d_K_commit_12 rfl ?_
  refine s_iload_n F d_K_commit_13 rfl ?_
  refine c_Vv F (c_K_write hz hT hK (chg_le hT.1 hT.2.1)) ok_K_write k_189 (ci := 2) rfl (oK (kz_0 hz)) rfl rfl rfl (Nat.le_of_ble_eq_true rfl) (by decide) d_K_commit_14 (fun μ' hq => ?_)
  refine s_iload_n F d_K_commit_17 rfl ?_
  exact s_iret F hR d_K_commit_18 (⟨rfl, hq⟩)
set_option maxRecDepth 4000 in
theorem c_K_undo {g : zG} {z : Nat} {μ : zMem} {T : Ts} (hz : KOb g z) (hT : InvT T) (hK : RepKH μ z T) : zC g y_K_undo b_K_undo 2 (some .int) 3 69 [.ref z] μ (zI (fUndo T).1 (fun μ' => RepKH μ' z (fUndo T).2 ∧ zOut z 124 μ μ')) := by
  refine zC.of (by decide) (Nat.le_of_ble_eq_true rfl) [some (.ref z), none] rfl rfl (fun x F hR => ?_)
  have F : zF g x b_K_undo R_K 2 3 69 := F
  have h8 : 8 ≤ chg T.1 T.2.1 := by unfold chg; omega
  refine s_aload_n F d_K_undo_0 rfl ?_
  refine g_K_10 F d_K_undo_1 (kz_0 hz) ?_
  refine s_aload_n F d_K_undo_4 rfl ?_
  refine g_K_16 F d_K_undo_5 (kz_0 hz) ?_
  refine c_ViR F (c_KS_changes (kz_1 hz) (kz_12 hz) hT.1 hT.2.1 hK.1 hK.2.1) ok_KS_changes k_177 (ci := 0) rfl (oKS (ks_0 (kz_1 hz))) rfl rfl rfl (Nat.le_of_ble_eq_true rfl) (by decide) d_K_undo_8 ?_
  refine n_bipush F (n := 8) d_K_undo_11 rfl ?_
  refine n_isub F d_K_undo_13 (by omega) ?_
  refine s_istore_n F d_K_undo_14 (Nat.le_of_ble_eq_true rfl) rfl rfl ?_
  refine s_aload_n F d_K_undo_15 rfl ?_
  refine g_K_10 F d_K_undo_16 (kz_0 hz) ?_
  refine s_aload_n F d_K_undo_19 rfl ?_
  refine g_K_16 F d_K_undo_20 (kz_0 hz) ?_
  refine c_Vv F (c_KS_copy (kz_1 hz) (kz_12 hz) (by omega) hT.2.1 hK.2.1) ok_KS_copy k_193 (ci := 0) rfl (oKS (ks_0 (kz_1 hz))) rfl rfl rfl (Nat.le_of_ble_eq_true rfl) (by decide) d_K_undo_23 (fun μ' hq => ?_)
  refine s_iload_n F d_K_undo_26 rfl ?_
  exact s_iret F hR d_K_undo_27 (⟨rfl, hK.now hq.2 hq.1, hq.2.mono (by omega) (by omega)⟩)
set_option maxRecDepth 4000 in
theorem c_K_sweep {g : zG} {z : Nat} {μ : zMem} {T : Ts} (hz : KOb g z) (hT : InvT T) (hsw : Inv (swS T.2.1)) (hK : RepKH μ z T) : zC g y_K_sweep b_K_sweep 2 (some .int) 2 46 [.ref z] μ (zI (fSweep T).1 (fun μ' => RepKH μ' z (fSweep T).2 ∧ zOut z 124 μ μ')) := by
  refine zC.of (by decide) (Nat.le_of_ble_eq_true rfl) [some (.ref z), none] rfl rfl (fun x F hR => ?_)
  have F : zF g x b_K_sweep R_K 2 2 46 := F
  have hg : gon T.2.1 ≤ 100 := cnt_le _ _
  refine s_aload_n F d_K_sweep_0 rfl ?_
  refine g_K_10 F d_K_sweep_1 (kz_0 hz) ?_
  refine s_aload_n F d_K_sweep_4 rfl ?_
  refine g_K_16 F d_K_sweep_5 (kz_0 hz) ?_
  refine c_Vv F (c_KS_copy (kz_1 hz) (kz_12 hz) (by omega) hT.2.1 hK.2.1) ok_KS_copy k_193 (ci := 0) rfl (oKS (ks_0 (kz_1 hz))) rfl rfl rfl (Nat.le_of_ble_eq_true rfl) (by decide) d_K_sweep_8 (fun μ1 hq => ?_)
  refine s_aload_n F d_K_sweep_11 rfl ?_
  refine g_K_10 F d_K_sweep_12 (kz_0 hz) ?_
  refine c_Vi F (c_KS_sweep (kz_1 hz) hT.2.1 hq.1) ok_KS_sweep k_205 (ci := 0) rfl (oKS (ks_0 (kz_1 hz))) rfl rfl rfl (Nat.le_of_ble_eq_true rfl) (by decide) d_K_sweep_15 (fun μ2 hr => ?_)
  have hO := hq.2.tr hr.2
  have hK2 := hK.now hO hr.1
  refine s_istore_n F d_K_sweep_18 (Nat.le_of_ble_eq_true rfl) rfl rfl ?_
  refine s_iload_n F d_K_sweep_19 rfl ?_
  refine n_if_le F 29 d_K_sweep_20 (by decide) (by omega) (fun h1 => ?_) (fun h1 => ?_)
  · refine s_iload_n F d_K_sweep_29 rfl ?_
    exact s_iret F hR d_K_sweep_30 (⟨rfl, by simp only [fSweep, h1, if_true]; exact hK2, hO.mono (by omega) (by omega)⟩)
  · refine s_aload_n F d_K_sweep_23 rfl ?_
    refine n_bipush F (n := 8) d_K_sweep_24 rfl ?_
    refine c_Vv F (c_K_write hz (T := (swS T.2.1, T.2)) ⟨hsw, hT.2⟩ hK2 (n := 8) (by omega)) ok_K_write k_189 (ci := 2) rfl (oK (kz_0 hz)) rfl rfl rfl (Nat.le_of_ble_eq_true rfl) (by decide) d_K_sweep_26 (fun μ3 hs => ?_)
    refine s_iload_n F d_K_sweep_29 rfl ?_
    exact s_iret F hR d_K_sweep_30 (⟨rfl, by simp only [fSweep, show ¬ gon T.2.1 = 0 by omega, if_false]; exact hs.1, (hO.mono (by omega) (by omega)).tr hs.2⟩)
set_option maxRecDepth 4000 in
theorem c_K_sync {g : zG} {z : Nat} {μ : zMem} {T : Ts} (hz : KOb g z) (hT : InvT T) (hK : RepKH μ z T) : zC g y_K_sync b_K_sync 2 (some .int) 1 23 [.ref z] μ (zI (fSync T).1 (fun μ' => RepKH μ' z (fSync T).2 ∧ zOut z 124 μ μ')) := by
  refine zC.of (by decide) (Nat.le_of_ble_eq_true rfl) [some (.ref z), none] rfl rfl (fun x F hR => ?_)
  have F : zF g x b_K_sync R_K 2 1 23 := F
  obtain ⟨k1, k2, k3, k4, k5, π, k6, k7⟩ := hK
  have k2' : RepK (mI μ z 0 (nI 0)) (z + 12) T.2.1 := k2.cgA (fun a h1 h2 => mI_o _ _ _ (by omega))
  refine s_aload_n F d_K_sync_0 rfl ?_
  refine g_K_98 F d_K_sync_1 (kz_0 hz) (k4) ?_
  refine s_istore_n F d_K_sync_4 (Nat.le_of_ble_eq_true rfl) rfl rfl ?_
  refine s_aload_n F d_K_sync_5 rfl ?_
  refine n_iconst F (n := 0) d_K_sync_6 ?_
  refine p_K_98 F d_K_sync_7 (kz_0 hz) ?_
  refine s_aload_n F d_K_sync_10 rfl ?_
  refine g_K_19 F d_K_sync_11 (kz_0 hz) ?_
  refine s_aload_n F d_K_sync_14 rfl ?_
  refine g_K_16 F d_K_sync_15 (kz_0 hz) ?_
  refine c_Vv F (c_KS_copy (kz_23 hz) (kz_12 hz) (by omega) hT.2.1 k2') ok_KS_copy k_193 (ci := 0) rfl (oKS (ks_0 (kz_23 hz))) rfl rfl rfl (Nat.le_of_ble_eq_true rfl) (by decide) d_K_sync_18 (fun μ' hq => ?_)
  obtain ⟨q1, q2⟩ := hq
  refine s_iload_n F d_K_sync_21 rfl ?_
  refine s_iret F hR d_K_sync_22 ?_
  refine ⟨rfl, ⟨(k1.cgA (fun a h1 h2 => mI_o _ _ _ (by omega))).out q2 (by omega), k2'.out q2 (by omega), q1, ?_, ?_, π, ⟨fun k hk => ⟨(k6.1 k hk).1, ?_⟩, k6.2⟩, fun k e he => ?_⟩, (zOut.rf.mI (by omega) (by omega)).tr (q2.mono (by omega) (by omega))⟩
  · rw [(q2 z (by omega)).1, mI_eq]; rfl
  · rw [(q2 z (by omega)).2.1]; exact k5
  · rw [(q2 (z + 34) (by omega)).2.2]; exact (k6.1 k hk).2
  · simp [fSync] at he
set_option maxRecDepth 4000 in
theorem c_K_count {g : zG} {z : Nat} {μ : zMem} {T : Ts} (hz : KOb g z) (hT : InvT T) (hK : RepKH μ z T) (w : Int32) : zC g y_K_count b_K_count 2 (some .int) 1 22 [.ref z, .int w] μ (zI (fCount T w) (zS μ)) := by
  refine zC.of (by decide) (Nat.le_of_ble_eq_true rfl) [some (.ref z), some (.int w)] rfl rfl (fun x F hR => ?_)
  have F : zF g x b_K_count R_K 2 1 22 := F
  obtain ⟨k1, k2, k3, k4, k5, π, k6, k7⟩ := hK
  refine s_iload_n F d_K_count_0 rfl ?_
  rcases sw4 w with rfl | rfl | rfl | rfl | h
  · refine s_tableIn F (off := 31) 32 d_K_count_1 (by decide) (by decide) (by decide) (by decide) ?_
    refine s_aload_n F d_K_count_32 rfl ?_
    refine g_K_10 F d_K_count_33 (kz_0 hz) ?_
    refine c_ViR F (c_KS_objects (kz_1 hz) hT.1 k1) ok_KS_objects k_233 (ci := 0) rfl (oKS (ks_0 (kz_1 hz))) rfl rfl rfl (Nat.le_of_ble_eq_true rfl) (by decide) d_K_count_36 ?_
    exact s_iret F hR d_K_count_39 (⟨rfl, rfl⟩)
  · refine s_tableIn F (off := 39) 40 d_K_count_1 (by decide) (by decide) (by decide) (by decide) ?_
    refine s_aload_n F d_K_count_40 rfl ?_
    refine g_K_10 F d_K_count_41 (kz_0 hz) ?_
    refine g_K_85 F d_K_count_44 (ks_0 (kz_1 hz)) (k1.rs) ?_
    exact s_iret F hR d_K_count_47 (⟨rfl, rfl⟩)
  · refine s_tableIn F (off := 47) 48 d_K_count_1 (by decide) (by decide) (by decide) (by decide) ?_
    refine s_aload_n F d_K_count_48 rfl ?_
    refine g_K_98 F d_K_count_49 (kz_0 hz) (k4) ?_
    exact s_iret F hR d_K_count_52 (⟨rfl, rfl⟩)
  · refine s_tableIn F (off := 52) 53 d_K_count_1 (by decide) (by decide) (by decide) (by decide) ?_
    refine s_aload_n F d_K_count_53 rfl ?_
    refine g_K_105 F d_K_count_54 (kz_0 hz) (k5) ?_
    refine s_l2i F d_K_count_57 ?_
    exact s_iret F hR d_K_count_58 (⟨rfl, rfl⟩)
  · refine s_tableOut F 59 d_K_count_1 h (by decide) ?_
    have e : fCount T w = -1 := by
      unfold fCount
      rw [if_neg (by rintro rfl; revert h; decide), if_neg (by rintro rfl; revert h; decide), if_neg (by rintro rfl; revert h; decide), if_neg (by rintro rfl; revert h; decide)]
    refine n_iconst_m1 F d_K_count_59 ?_
    exact s_iret F hR d_K_count_60 (⟨by rw [e], rfl⟩)
set_option maxRecDepth 4000 in
theorem c_K_crash {g : zG} {z : Nat} {μ : zMem} {T : Ts} (hz : KOb g z) (hT : InvT T) (hK : RepKH μ z T) (n : Int32) : zC g y_K_crash b_K_crash 5 (some .int) 1 23 [.ref z, .int n] μ (zI (fCrash T n).1 (fun μ' => RepKH μ' z (fCrash T n).2 ∧ zOut z 124 μ μ')) := by
  refine zC.of (by decide) (Nat.le_of_ble_eq_true rfl) [some (.ref z), some (.int n), none, none, none] rfl rfl (fun x F hR => ?_)
  have F : zF g x b_K_crash R_K 5 1 23 := F
  refine s_iload_n F d_K_crash_0 rfl ?_
  refine s_if_ge F 6 d_K_crash_1 (by decide) (fun h0 => ?_) (fun h0 => ?_)
  rotate_left
  · have e : fCrash T n = (-1, T) := by unfold fCrash; rw [if_pos (Int32.not_le.mp h0)]
    refine n_iconst_m1 F d_K_crash_4 ?_
    exact s_iret F hR d_K_crash_5 (⟨by rw [e], by rw [e]; exact ⟨hK, zOut.rf⟩⟩)
  obtain ⟨m, hm, rfl⟩ := nI_of (Int32.not_lt.mpr h0)
  have eC : fCrash T (nI m) = (nI (cr T.2.2.2.1 m), crT T (cr T.2.2.2.1 m)) := by unfold fCrash; rw [if_neg (nI_pos hm), nI_clamp hm]
  obtain ⟨t1, t2, t3, t4, t5⟩ := hT
  have hK0 := hK
  obtain ⟨k1, k2, k3, k4, k5, π, ⟨p1, p2⟩, k7⟩ := hK
  refine n_iconst F (n := 0) d_K_crash_6 ?_
  refine s_istore_n F d_K_crash_7 (Nat.le_of_ble_eq_true rfl) rfl rfl ?_
  refine s_iload_n F d_K_crash_8 rfl ?_
  refine s_istore_n F d_K_crash_9 (Nat.le_of_ble_eq_true rfl) rfl rfl ?_
  refine lpU (σ := Nat) T.2.2.2.1.length (fun k s => PW g x μ 10 [some (.ref z), some (.int (nI m)), some (.int (nI k)), some (.int (nI s)), none] []) (fun k s => s ≤ m ∧ cr T.2.2.2.1 m = k + cr (T.2.2.2.1.drop k) s) (fun k s hk hI ih => ?_) 0 m (Nat.zero_le _) ⟨Nat.le_refl _, by rw [List.drop_zero, Nat.zero_add]⟩
  obtain ⟨hs, hcr⟩ := hI
  have fin : k = cr T.2.2.2.1 m → PW g x μ 43 [some (.ref z), some (.int (nI m)), some (.int (nI k)), some (.int (nI s)), none] [] := by
    intro hkk
    rw [← hkk] at eC
    have fin2 : ∀ μ1 : zMem, RepK μ1 (z + 23) (sfF T k) → zOut (z + 23) 11 μ μ1 → PW g x μ1 62 [some (.ref z), some (.int (nI m)), some (.int (nI k)), some (.int (nI s)), none] [] := by
      intro μ1 hs1 hO1
      have hInv : Inv (sfF T k) := by
        unfold sfF
        cases k with
        | zero => exact t3
        | succ i =>
          dsimp only
          cases he : T.2.2.2.1[i]? with
          | none => exact t3
          | some e => exact (t5 e (List.mem_of_getElem? he)).1
      refine s_iload_n F d_K_crash_62 rfl ?_
      refine s_istore F d_K_crash_63 (Nat.le_of_ble_eq_true rfl) rfl rfl ?_
      refine lpU (σ := zMem) T.2.2.2.1.length (fun i s1 => PW g x s1 65 [some (.ref z), some (.int (nI m)), some (.int (nI k)), some (.int (nI s)), some (.int (nI i))] []) (fun i s1 => s1.1 = μ1.1 ∧ (∀ a, a ≠ z → s1.2.1 a = μ1.2.1 a) ∧ s1.2.2 = μ1.2.2 ∧ lsub T.2.2.2.2 (T.2.2.2.1.drop k) = lsub (s1.2.1 z 0) (T.2.2.2.1.drop i)) (fun i s1 hi hI jh => ?_) k μ1 hk ⟨rfl, fun _ _ => rfl, rfl, by rw [(hO1 z (by omega)).2.1, k5]⟩
      obtain ⟨i1, i2, i3, i4⟩ := hI
      have w4 : s1.1 z 0 = nI T.2.2.2.1.length := by rw [i1, (hO1 z (by omega)).1]; exact k4
      refine s_iload F d_K_crash_65 rfl ?_
      refine s_aload_n F d_K_crash_67 rfl ?_
      refine g_K_98 F d_K_crash_68 (kz_0 hz) (w4) ?_
      refine n_icmp_ge F 97 d_K_crash_71 (by decide) (by omega) (by omega) (fun h2 => ?_) (fun h2 => ?_)
      · have hi2 : i = T.2.2.2.1.length := by omega
        subst hi2
        rw [List.drop_length] at i4
        have hs2 : RepK s1 (z + 23) (sfF T k) := hs1.cgA (fun a _ _ => by rw [i1])
        refine s_aload_n F d_K_crash_97 rfl ?_
        refine g_K_10 F d_K_crash_98 (kz_0 hz) ?_
        refine s_aload_n F d_K_crash_101 rfl ?_
        refine g_K_19 F d_K_crash_102 (kz_0 hz) ?_
        refine c_Vv F (c_KS_copy (kz_1 hz) (kz_23 hz) (by omega) hInv hs2) ok_KS_copy k_193 (ci := 0) rfl (oKS (ks_0 (kz_1 hz))) rfl rfl rfl (Nat.le_of_ble_eq_true rfl) (by decide) d_K_crash_105 (fun μ2 hq => ?_)
        have hs3 := hs2.out hq.2 (by omega)
        refine s_aload_n F d_K_crash_108 rfl ?_
        refine g_K_16 F d_K_crash_109 (kz_0 hz) ?_
        refine s_aload_n F d_K_crash_112 rfl ?_
        refine g_K_19 F d_K_crash_113 (kz_0 hz) ?_
        refine c_Vv F (c_KS_copy (kz_12 hz) (kz_23 hz) (by omega) hInv hs3) ok_KS_copy k_193 (ci := 0) rfl (oKS (ks_0 (kz_12 hz))) rfl rfl rfl (Nat.le_of_ble_eq_true rfl) (by decide) d_K_crash_116 (fun μ3 hr => ?_)
        have hs4 := hs3.out hr.2 (by omega)
        have hn4 := hq.1.out hr.2 (by omega)
        refine s_aload_n F d_K_crash_119 rfl ?_
        refine n_iconst F (n := 0) d_K_crash_120 ?_
        refine p_K_98 F d_K_crash_121 (kz_0 hz) ?_
        refine s_iload_n F d_K_crash_124 rfl ?_
        refine s_iret F hR d_K_crash_125 ?_
        have hz1 : zOut z 124 μ s1 := fun a ha => ⟨by rw [i1, (hO1 a (by omega)).1], by rw [i2 a (by omega), (hO1 a (by omega)).2.1], by rw [i3, (hO1 a (by omega)).2.2]⟩
        refine ⟨by rw [eC], ?_, (((hz1.tr (hq.2.mono (by omega) (by omega))).tr (hr.2.mono (by omega) (by omega))).mI (by omega) (by omega))⟩
        rw [eC]
        refine ⟨hn4.cgA (fun a h1 h2 => mI_o _ _ _ (by omega)), hr.1.cgA (fun a h1 h2 => mI_o _ _ _ (by omega)), hs4.cgA (fun a h1 h2 => mI_o _ _ _ (by omega)), by rw [mI_eq]; rfl, ?_, π, ⟨fun q hq1 => ⟨(p1 q hq1).1, ?_⟩, p2⟩, fun q e he => by simp [crT] at he⟩
        · rw [mI_2, (hr.2 z (by omega)).2.1, (hq.2 z (by omega)).2.1]
          exact i4.symm
        · rw [mI_2, (hr.2 (z + 34) (by omega)).2.2, (hq.2 (z + 34) (by omega)).2.2, i3, (hO1 (z + 34) (by omega)).2.2]
          exact (p1 q hq1).2
      · obtain ⟨e, he⟩ : ∃ e, T.2.2.2.1[i]? = some e := ⟨_, List.getElem?_eq_getElem h2⟩
        have b1 : s1.1 (z + 35) i = nI e.2 := by rw [i1, (hO1 (z + 35) (by omega)).1]; exact (k7 i e he).2
        refine s_aload_n F d_K_crash_74 rfl ?_
        refine s_dup F d_K_crash_75 rfl ?_
        refine g_K_105 F d_K_crash_76 (kz_0 hz) rfl ?_
        refine s_aload_n F d_K_crash_79 rfl ?_
        refine g_K_26 F d_K_crash_80 (kz_0 hz) ?_
        refine s_iload F d_K_crash_83 rfl ?_
        refine s_iald F d_K_crash_85 (kz_35 hz) (by omega) (by decide) (b1) ?_
        refine s_i2l F d_K_crash_86 ?_
        refine s_lsub F d_K_crash_87 ?_
        refine p_K_105 F d_K_crash_88 (kz_0 hz) ?_
        refine n_iinc F (n := 1) d_K_crash_91 rfl rfl rfl ?_
        refine s_goto F 65 d_K_crash_94 (by decide) ?_
        refine jh h2 _ ⟨i1, fun a ha => by rw [mL_o _ _ _ ha]; exact i2 a ha, i3, ?_⟩
        rw [mL_eq, i4, drop_cons he]
        rfl
    refine s_iload_n F d_K_crash_43 rfl ?_
    refine n_if_le F 62 d_K_crash_44 (by decide) (by omega) (fun h2 => ?_) (fun h2 => ?_)
    · subst h2
      exact fin2 μ k3 zOut.rf
    · obtain ⟨e, he⟩ : ∃ e, T.2.2.2.1[k - 1]? = some e := ⟨_, List.getElem?_eq_getElem (by omega)⟩
      have hsf : sfF T k = e.1 := by
        obtain ⟨i, rfl⟩ : ∃ i, k = i + 1 := ⟨k - 1, by omega⟩
        simp only [Nat.add_sub_cancel] at he
        simp [sfF, he]
      obtain ⟨a1, -⟩ := k7 (k - 1) e he
      obtain ⟨hp, hpa⟩ := p1 (k - 1) (by omega)
      have hAk := kz_a hz (π (k - 1)) hp
      refine s_aload_n F d_K_crash_47 rfl ?_
      refine g_K_19 F d_K_crash_48 (kz_0 hz) ?_
      refine s_aload_n F d_K_crash_51 rfl ?_
      refine g_K_22 F d_K_crash_52 (kz_0 hz) ?_
      refine s_iload_n F d_K_crash_55 rfl ?_
      refine n_iconst F (n := 1) d_K_crash_56 ?_
      refine n_isub F d_K_crash_57 (by omega) ?_
      refine s_aldK F d_K_crash_58 (kz_34 hz) (by omega) (by decide) (hpa) ?_
      refine c_Vv F (c_KS_copy (kz_23 hz) hAk (by omega) (t5 e (List.mem_of_getElem? he)).1 a1) ok_KS_copy k_193 (ci := 0) rfl (oKS (ks_0 (kz_23 hz))) rfl rfl rfl (Nat.le_of_ble_eq_true rfl) (by decide) d_K_crash_59 (fun μ' hq => ?_)
      exact fin2 μ' (by rw [hsf]; exact hq.1) hq.2
  refine s_iload_n F d_K_crash_10 rfl ?_
  refine s_aload_n F d_K_crash_11 rfl ?_
  refine g_K_98 F d_K_crash_12 (kz_0 hz) (k4) ?_
  refine n_icmp_ge F 43 d_K_crash_15 (by decide) (by omega) (by omega) (fun h2 => ?_) (fun h2 => ?_)
  · have hk2 : k = T.2.2.2.1.length := by omega
    exact fin (by rw [hcr, hk2, List.drop_length]; rfl)
  obtain ⟨e, he⟩ : ∃ e, T.2.2.2.1[k]? = some e := ⟨_, List.getElem?_eq_getElem h2⟩
  have hb2 := (t5 e (List.mem_of_getElem? he)).2
  have b1 := (k7 k e he).2
  rw [drop_cons he, cr] at hcr
  refine s_aload_n F d_K_crash_18 rfl ?_
  refine g_K_26 F d_K_crash_19 (kz_0 hz) ?_
  refine s_iload_n F d_K_crash_22 rfl ?_
  refine s_iald F d_K_crash_23 (kz_35 hz) (by omega) (by decide) (b1) ?_
  refine s_iload_n F d_K_crash_24 rfl ?_
  refine n_icmp_gt F 43 d_K_crash_25 (by decide) (by omega) (by omega) (fun h3 => ?_) (fun h3 => ?_)
  · rw [if_neg (by omega)] at hcr
    exact fin hcr.symm
  · rw [if_pos h3] at hcr
    refine s_iload_n F d_K_crash_28 rfl ?_
    refine s_aload_n F d_K_crash_29 rfl ?_
    refine g_K_26 F d_K_crash_30 (kz_0 hz) ?_
    refine s_iload_n F d_K_crash_33 rfl ?_
    refine s_iald F d_K_crash_34 (kz_35 hz) (by omega) (by decide) (b1) ?_
    refine n_isub F d_K_crash_35 (by omega) ?_
    refine s_istore_n F d_K_crash_36 (Nat.le_of_ble_eq_true rfl) rfl rfl ?_
    refine n_iinc F (n := 1) d_K_crash_37 rfl rfl rfl ?_
    refine s_goto F 10 d_K_crash_40 (by decide) ?_
    exact ih h2 (s - e.2) ⟨by omega, by rw [hcr]; omega⟩
end
section
theorem s_alen {g : zG} {x : zX} {cc : ByteArray} {own : String} {nL fr lo : Nat} {μ : zMem} {pc : Nat} {L : List (Option Value)} {st : List Value} (F : zF g x cc own nL fr lo) {a n : Nat} (hd : decode cc pc = .ok (.arraylength, 1)) (hs : gs g a = (1, n))
    (k : PW g x μ (pc + 1) L (.int (nI n) :: st)) : PW g x μ pc L (.ref a :: st) := by
  obtain ⟨l, D, cs, sh⟩ := g
  obtain ⟨p, e, R, s, m, args, below, meth, c, cells, slots, Q, A⟩ := x
  intro H locs ls hP hS hl
  exact va_alen F.1 F.2.1 F.2.2.2.2.2.1 (zP1 (hP.cell hs rfl)) 0 0 rfl rfl rfl hd (k H locs ls hP hS hl)
-- values as longs
theorem lNc (n : Nat) : (Int64.ofNat n) = lN n := rfl
theorem tl_0 {it : It} (h : it.2.1 = 0) : tl it = 1099511627776 := by simp [tl, told, h]
theorem tl_1 {it : It} (h : it.2.1 = 1) : tl it = it.2.2.toInt64 := by
  have : ¬ it.2.1 = 0 := by rw [h]; decide
  simp [tl, told, h]
theorem tl_2 {it : It} {w : Nat} (h : isRef it w) (hw : w < 100) : tl it = lN (1099511627777 + w) := by
  obtain ⟨h1, h2⟩ := h
  have e0 : ¬ it.2.1 = 0 := by rw [h1]; decide
  have e1 : ¬ it.2.1 = 1 := by rw [h1]; decide
  unfold tl told
  rw [if_neg e0, if_neg e1, h2, nI_l (by omega), ← lN_add]
  rfl
theorem tl_int {kd : Nat → Nat} {it : It} (h : vOk kd it) : (it.2.1 = 0 ∧ it.2.2 = 0 ∧ (tl it).toInt = 1099511627776) ∨ (it.2.1 = 1 ∧ (tl it).toInt = it.2.2.toInt) ∨ ∃ w, w < 100 ∧ isRef it w ∧ kd w ≠ 0 ∧ (tl it).toInt = 1099511627777 + (w : Int) := by
  rcases h with ⟨h1, h2⟩ | h1 | ⟨h1, w, hw, hk, h2⟩
  · exact Or.inl ⟨h1, h2, by rw [tl_0 h1]; decide⟩
  · exact Or.inr (Or.inl ⟨h1, by rw [tl_1 h1, Int32.toInt_toInt64]⟩)
  · refine Or.inr (Or.inr ⟨w, hw, ⟨h1, h2⟩, hk, ?_⟩)
    rw [tl_2 ⟨h1, h2⟩ hw, pk_lT (by omega)]
    omega
theorem tl_inj {kd kd' : Nat → Nat} {it it' : It} (h : vOk kd it) (h' : vOk kd' it') (e : tl it = tl it') : it.2 = it'.2 := by
  have b1 := it.2.2.toInt_lt
  have b2 := it.2.2.le_toInt
  have b3 := it'.2.2.toInt_lt
  have b4 := it'.2.2.le_toInt
  have ei : (tl it).toInt = (tl it').toInt := by rw [e]
  rcases tl_int h with ⟨a1, a2, a3⟩ | ⟨a1, a3⟩ | ⟨w, hw, ⟨a1, a2⟩, -, a3⟩ <;> rcases tl_int h' with ⟨c1, c2, c3⟩ | ⟨c1, c3⟩ | ⟨w', hw', ⟨c1, c2⟩, -, c3⟩
  · exact Prod.ext (a1.trans c1.symm) (a2.trans c2.symm)
  · omega
  · omega
  · omega
  · exact Prod.ext (a1.trans c1.symm) (Int32.toInt_inj.mp (by omega))
  · omega
  · omega
  · omega
  · have : w = w' := by omega
    subst this
    exact Prod.ext (a1.trans c1.symm) (a2.trans c2.symm)
theorem in99 {o : Int32} : (0 ≤ o.toInt64 ∧ o.toInt64 ≤ 99) ↔ ∃ j, j < 100 ∧ o = nI j := by
  rw [Int64.le_iff_toInt_le, Int64.le_iff_toInt_le, Int32.toInt_toInt64]
  have z0 : (0 : Int64).toInt = 0 := by decide
  have z9 : (99 : Int64).toInt = 99 := by decide
  rw [z0, z9]
  constructor
  · rintro ⟨h1, h2⟩
    refine ⟨o.toInt.toNat, by omega, Int32.toInt_inj.mp ?_⟩
    rw [nI_toInt (by omega)]
    omega
  · rintro ⟨j, hj, rfl⟩
    rw [nI_toInt (by omega)]
    omega
theorem inL {k : Int32} {n : Nat} (hn : n ≤ 20) : (0 ≤ k.toInt64 ∧ k.toInt64 ≤ (nI n - nI 1).toInt64) ↔ ∃ i, i < n ∧ k = nI i := by
  rw [Int64.le_iff_toInt_le, Int64.le_iff_toInt_le, Int32.toInt_toInt64, Int32.toInt_toInt64, pk_sub_toInt (by omega) (by omega)]
  have z0 : (0 : Int64).toInt = 0 := by decide
  rw [z0]
  constructor
  · rintro ⟨h1, h2⟩
    refine ⟨k.toInt.toNat, by omega, Int32.toInt_inj.mp ?_⟩
    rw [nI_toInt (by omega)]
    omega
  · rintro ⟨i, hi, rfl⟩
    rw [nI_toInt (by omega)]
    omega
-- the state's cells in the reference's form
def mpO (μ : zMem) (b : Nat) (S : St) (o : Nat) : Prop := μ.1 (b + 1) o = nI (S.1 o) ∧ (S.1 o ≠ 0 → μ.1 (b + 2) o = nI (S.2.1 o).length ∧ ∀ j it, (S.2.1 o)[j]? = some it → μ.2.1 (b + 5) (20 * o + j) = tl it ∧ (S.1 o = 1 → μ.1 (b + 3) (8 * o + j) = it.1))
def rmt (μ : zMem) (b j : Nat) (it : It) : Prop := μ.1 (b + 4) j = it.1 ∧ μ.2.1 (b + 6) j = tl it
def RepM (μ : zMem) (b : Nat) (S : St) : Prop := (∀ o, o < 100 → mpO μ b S o) ∧ μ.1 b 0 = nI S.2.2.length ∧ ∀ j it, S.2.2[j]? = some it → rmt μ b j it
theorem RepM.kd {μ : zMem} {b : Nat} {S : St} (h : RepM μ b S) {o : Nat} (ho : o < 100) : μ.1 (b + 1) o = nI (S.1 o) := (h.1 o ho).1
theorem RepM.sz {μ : zMem} {b : Nat} {S : St} (h : RepM μ b S) {o : Nat} (ho : o < 100) (hk : S.1 o ≠ 0) : μ.1 (b + 2) o = nI (S.2.1 o).length := ((h.1 o ho).2 hk).1
theorem RepM.sl {μ : zMem} {b : Nat} {S : St} (h : RepM μ b S) {o j : Nat} {it : It} (ho : o < 100) (hk : S.1 o ≠ 0) (hi : (S.2.1 o)[j]? = some it) : μ.2.1 (b + 5) (20 * o + j) = tl it := (((h.1 o ho).2 hk).2 j it hi).1
theorem RepM.nm {μ : zMem} {b : Nat} {S : St} (h : RepM μ b S) {o j : Nat} {it : It} (ho : o < 100) (hk : S.1 o = 1) (hi : (S.2.1 o)[j]? = some it) : μ.1 (b + 3) (8 * o + j) = it.1 := (((h.1 o ho).2 (by omega)).2 j it hi).2 hk
theorem RepM.rs {μ : zMem} {b : Nat} {S : St} (h : RepM μ b S) : μ.1 b 0 = nI S.2.2.length := h.2.1
theorem RepM.rn {μ : zMem} {b : Nat} {S : St} (h : RepM μ b S) {j : Nat} {it : It} (hi : S.2.2[j]? = some it) : μ.1 (b + 4) j = it.1 := (h.2.2 j it hi).1
theorem RepM.rv {μ : zMem} {b : Nat} {S : St} (h : RepM μ b S) {j : Nat} {it : It} (hi : S.2.2[j]? = some it) : μ.2.1 (b + 6) j = tl it := (h.2.2 j it hi).2
theorem RepM.cg {μ μ' : zMem} {b : Nat} {S : St} (h : RepM μ b S) (e0 : μ'.1 b 0 = μ.1 b 0) (e : ∀ a, b < a → a < b + 7 → μ'.1 a = μ.1 a) (e' : ∀ a, b < a → a < b + 7 → μ'.2.1 a = μ.2.1 a) : RepM μ' b S := by
  unfold RepM mpO rmt
  rw [e0, e (b + 1) (by omega) (by omega), e (b + 2) (by omega) (by omega), e (b + 3) (by omega) (by omega), e (b + 4) (by omega) (by omega), e' (b + 5) (by omega) (by omega), e' (b + 6) (by omega) (by omega)]
  exact h
theorem RepM.out {μ μ' : zMem} {b lo n : Nat} {S : St} (h : RepM μ b S) (ho : zOut lo n μ μ') (hd : b + 7 ≤ lo ∨ lo + n ≤ b) : RepM μ' b S := h.cg (by rw [(ho b (by omega)).1]) (fun a h1 h2 => (ho a (by omega)).1) (fun a h1 h2 => (ho a (by omega)).2.1)
theorem RepM.mk {μ : zMem} {b : Nat} {S : St} (h : RepM μ b S) (o k : Nat) : RepM (mI (mI μ (b + 1) o (nI k)) (b + 2) o (nI 0)) b (mkS S o k) := by
  refine ⟨fun q hq => ?_, ?_, fun j it hj => ?_⟩
  · by_cases e : q = o
    · subst e
      refine ⟨by simp [mI_1, mkS, va_up], fun _ => ⟨by simp [mI_1, mkS, va_up], fun j it hj => ?_⟩⟩
      simp [mkS, va_up] at hj
    · obtain ⟨h1, h2⟩ := h.1 q hq
      refine ⟨by simp [mI_1, mkS, va_up, e, h1], fun hk => ?_⟩
      have hk : S.1 q ≠ 0 := by simpa [mkS, va_up, e] using hk
      obtain ⟨h3, h4⟩ := h2 hk
      refine ⟨by simp [mI_1, mkS, va_up, e, h3], fun j it hj => ?_⟩
      have hj : (S.2.1 q)[j]? = some it := by simpa [mkS, va_up, e] using hj
      obtain ⟨h5, h6⟩ := h4 j it hj
      refine ⟨by rw [mI_2, mI_2]; exact h5, fun h1 => ?_⟩
      rw [mI_ne _ _ (Or.inl (by omega)), mI_ne _ _ (Or.inl (by omega))]
      exact h6 (by simpa [mkS, va_up, e] using h1)
  · simpa [mI_1, mkS] using h.2.1
  · simpa [mI_1, mI_2, mkS, rmt] using h.2.2 j it hj
theorem RepM.upI {μ μ' : zMem} {b o : Nat} {S : St} {l : List It} (h : RepM μ b S) (hS : Inv S) (e0 : μ'.1 b 0 = μ.1 b 0) (e1 : μ'.1 (b + 1) = μ.1 (b + 1)) (e2 : μ'.1 (b + 2) o = nI l.length) (e3 : ∀ q, q ≠ o → μ'.1 (b + 2) q = μ.1 (b + 2) q)
    (e4 : ∀ j it, l[j]? = some it → μ'.2.1 (b + 5) (20 * o + j) = tl it ∧ (S.1 o = 1 → μ'.1 (b + 3) (8 * o + j) = it.1)) (e5 : ∀ i, (i < 20 * o ∨ 20 * o + 20 ≤ i) → μ'.2.1 (b + 5) i = μ.2.1 (b + 5) i) (e6 : ∀ i, (i < 8 * o ∨ 8 * o + 8 ≤ i) → μ'.1 (b + 3) i = μ.1 (b + 3) i) (e7 : μ'.1 (b + 4) = μ.1 (b + 4)) (e8 : μ'.2.1 (b + 6) = μ.2.1 (b + 6)) : RepM μ' b (updI S o l) := by
  refine ⟨fun q hq => ?_, e0.trans h.2.1, fun j it hj => ?_⟩
  · obtain ⟨h1, h2⟩ := h.1 q hq
    refine ⟨by rw [e1]; exact h1, fun hk => ?_⟩
    obtain ⟨h3, h4⟩ := h2 hk
    by_cases e : q = o
    · subst e
      exact ⟨by rw [e2]; simp [updI, va_up], fun j it hj => e4 j it (by simpa [updI, va_up] using hj)⟩
    · refine ⟨by rw [e3 q e, h3]; simp [updI, va_up, e], fun j it hj => ?_⟩
      have hj : (S.2.1 q)[j]? = some it := by simpa [updI, va_up, e] using hj
      have hjl := (List.getElem?_eq_some_iff.mp hj).1
      have hln := hS.ln hq
      obtain ⟨h5, h6⟩ := h4 j it hj
      refine ⟨by rw [e5 _ (by omega)]; exact h5, fun h1 => ?_⟩
      have hl8 := hS.l8 hq h1
      rw [e6 _ (by omega)]
      exact h6 h1
  · obtain ⟨h1, h2⟩ := h.2.2 j it hj
    exact ⟨by rw [e7]; exact h1, by rw [e8]; exact h2⟩
theorem RepM.upR {μ μ' : zMem} {b : Nat} {S : St} {l : List It} (h : RepM μ b S) (e0 : μ'.1 b 0 = nI l.length) (e1 : ∀ a, b + 1 ≤ a → a < b + 4 → μ'.1 a = μ.1 a) (e2 : μ'.2.1 (b + 5) = μ.2.1 (b + 5)) (e4 : ∀ j it, l[j]? = some it → rmt μ' b j it) : RepM μ' b (updR S l) := by
  refine ⟨fun q hq => ?_, e0, e4⟩
  have := h.1 q hq
  unfold mpO at this ⊢
  rw [e1 (b + 1) (by omega) (by omega), e1 (b + 2) (by omega) (by omega), e1 (b + 3) (by omega) (by omega), e2]
  exact this
theorem mCI_in (μ : zMem) (a0 a : Nat) {n i : Nat} (h : i < n) : (mCI μ a0 a n).1 a i = μ.1 a0 i := by
  unfold mCI
  show va_up μ.1 a _ a i = _
  rw [va_up_self, pk_cpy_in (Nat.zero_le _) (by omega)]
  simp
theorem mCL_in (μ : zMem) (a0 a : Nat) {n i : Nat} (h : i < n) : (mCL μ a0 a n).2.1 a i = μ.2.1 a0 i := by
  unfold mCL
  show va_up μ.2.1 a _ a i = _
  rw [va_up_self, pk_cpy_in (Nat.zero_le _) (by omega)]
  simp
theorem mCI_o (μ : zMem) (a0 : Nat) {a b : Nat} (n : Nat) (h : b ≠ a) : (mCI μ a0 a n).1 b = μ.1 b := va_up_ne _ _ h
theorem mCL_o (μ : zMem) (a0 : Nat) {a b : Nat} (n : Nat) (h : b ≠ a) : (mCL μ a0 a n).2.1 b = μ.2.1 b := va_up_ne _ _ h
theorem mCI_2 (μ : zMem) (a0 a n : Nat) : (mCI μ a0 a n).2 = μ.2 := rfl
theorem mCL_i (μ : zMem) (a0 a n : Nat) : (mCL μ a0 a n).1 = μ.1 := rfl
theorem mCL_r (μ : zMem) (a0 a n : Nat) : (mCL μ a0 a n).2.2 = μ.2.2 := rfl
theorem zOut.mCI {lo n a a0 k : Nat} {μ μ' : zMem} (h : zOut lo n μ μ') (h1 : lo ≤ a) (h2 : a < lo + n) : zOut lo n μ (mCI μ' a0 a k) := fun q hq => ⟨(mCI_o μ' a0 k (by omega)).trans (h q hq).1, (h q hq).2.1, (h q hq).2.2⟩
theorem zOut.mCL {lo n a a0 k : Nat} {μ μ' : zMem} (h : zOut lo n μ μ') (h1 : lo ≤ a) (h2 : a < lo + n) : zOut lo n μ (mCL μ' a0 a k) := fun q hq => ⟨(h q hq).1, (mCL_o μ' a0 k (by omega)).trans (h q hq).2.1, (h q hq).2.2⟩
def fmI : Option Nat → Int32
  | none => -1
  | some k => nI k
end
section
set_option maxRecDepth 4000 in
theorem c_MS_findRoot {g : zG} {b : Nat} {μ : zMem} {S : St} (hb : MSb g b) (hS : Inv S) (hK : RepM μ b S) (n : Int32) : zC g y_MS_findRoot b_MS_findRoot 3 (some .int) 0 0 [.ref b, .int n] μ (zI (ixI (fnd S.2.2 n)) (zS μ)) := by
  refine zC.of (by decide) (Nat.le_of_ble_eq_true rfl) [some (.ref b), some (.int n), none] rfl rfl (fun x F hR => ?_)
  have F : zF g x b_MS_findRoot R_MS 3 0 0 := F
  have hrl := hS.rl
  refine n_iconst F (n := 0) d_MS_findRoot_0 ?_
  refine s_istore_n F d_MS_findRoot_1 (Nat.le_of_ble_eq_true rfl) rfl rfl ?_
  refine lpU S.2.2.length (fun k (_ : Unit) => PW g x μ 2 [some (.ref b), some (.int n), some (.int (nI k))] []) (fun k _ => ∀ (j : Nat) (it : It), j < k → S.2.2[j]? = some it → it.1 ≠ n) (fun k _ hk hI ih => ?_) 0 () (Nat.zero_le _) (fun j it h => absurd h (Nat.not_lt_zero j))
  refine s_iload_n F d_MS_findRoot_2 rfl ?_
  refine s_aload_n F d_MS_findRoot_3 rfl ?_
  refine g_MS_37 F d_MS_findRoot_4 (ms_0 hb) (hK.rs) ?_
  refine n_icmp_ge F 28 d_MS_findRoot_7 (by decide) (by omega) (by omega) (fun h1 => ?_) (fun h2 => ?_)
  · refine n_iconst_m1 F d_MS_findRoot_28 ?_
    have e : fnd S.2.2 n = none := fnd_none (fun j it hj => hI j it (by have := (List.getElem?_eq_some_iff.mp hj).1; omega) hj)
    exact s_iret F hR d_MS_findRoot_29 (⟨by rw [e]; rfl, rfl⟩)
  · obtain ⟨it, hit⟩ := getIt h2
    refine s_aload_n F d_MS_findRoot_10 rfl ?_
    refine g_MS_21 F d_MS_findRoot_11 (ms_0 hb) ?_
    refine s_iload_n F d_MS_findRoot_14 rfl ?_
    refine s_iald F d_MS_findRoot_15 (ms_4 hb) (by omega) (by decide) (hK.rn hit) ?_
    refine s_iload_n F d_MS_findRoot_16 rfl ?_
    refine s_icmp_ne F 22 d_MS_findRoot_17 (by decide) (fun h3 => ?_) (fun h4 => ?_)
    · refine n_iinc F (n := 1) d_MS_findRoot_22 rfl rfl rfl ?_
      refine s_goto F 2 d_MS_findRoot_25 (by decide) ?_
      exact ih h2 () (fun j it' hj hit' => by
        by_cases e : j = k
        · subst e
          rw [hit] at hit'
          cases hit'
          exact h3
        · exact hI j it' (by omega) hit')
    · refine s_iload_n F d_MS_findRoot_20 rfl ?_
      exact s_iret F hR d_MS_findRoot_21 (⟨by rw [fnd_some hit h4 hI]; rfl, rfl⟩)
set_option maxRecDepth 4000 in
theorem c_MS_findField {g : zG} {b : Nat} {μ : zMem} {S : St} (hb : MSb g b) (hS : Inv S) (hK : RepM μ b S) {o : Nat} (ho : o < 100) (hk1 : S.1 o = 1) (n : Int32) : zC g y_MS_findField b_MS_findField 4 (some .int) 0 0 [.ref b, .int (nI o), .int n] μ (zI (ixI (fnd (S.2.1 o) n)) (zS μ)) := by
  refine zC.of (by decide) (Nat.le_of_ble_eq_true rfl) [some (.ref b), some (.int (nI o)), some (.int n), none] rfl rfl (fun x F hR => ?_)
  have F : zF g x b_MS_findField R_MS 4 0 0 := F
  have hln := hS.l8 ho hk1
  refine n_iconst F (n := 0) d_MS_findField_0 ?_
  refine s_istore_n F d_MS_findField_1 (Nat.le_of_ble_eq_true rfl) rfl rfl ?_
  refine lpU (S.2.1 o).length (fun k (_ : Unit) => PW g x μ 2 [some (.ref b), some (.int (nI o)), some (.int n), some (.int (nI k))] []) (fun k _ => ∀ (j : Nat) (it : It), j < k → (S.2.1 o)[j]? = some it → it.1 ≠ n) (fun k _ hk hI ih => ?_) 0 () (Nat.zero_le _) (fun j it h => absurd h (Nat.not_lt_zero j))
  refine s_iload_n F d_MS_findField_2 rfl ?_
  refine s_aload_n F d_MS_findField_3 rfl ?_
  refine g_MS_15 F d_MS_findField_4 (ms_0 hb) ?_
  refine s_iload_n F d_MS_findField_7 rfl ?_
  refine s_iald F d_MS_findField_8 (ms_2 hb) (by omega) (by decide) (hK.sz ho (by omega)) ?_
  refine n_icmp_ge F 35 d_MS_findField_9 (by decide) (by omega) (by omega) (fun h1 => ?_) (fun h2 => ?_)
  · refine n_iconst_m1 F d_MS_findField_35 ?_
    have e : fnd (S.2.1 o) n = none := fnd_none (fun j it hj => hI j it (by have := (List.getElem?_eq_some_iff.mp hj).1; omega) hj)
    exact s_iret F hR d_MS_findField_36 (⟨by rw [e]; rfl, rfl⟩)
  · obtain ⟨it, hit⟩ := getIt h2
    refine s_aload_n F d_MS_findField_12 rfl ?_
    refine g_MS_18 F d_MS_findField_13 (ms_0 hb) ?_
    refine n_bipush F (n := 8) d_MS_findField_16 rfl ?_
    refine s_iload_n F d_MS_findField_18 rfl ?_
    refine n_imul F d_MS_findField_19 ?_
    refine s_iload_n F d_MS_findField_20 rfl ?_
    refine n_iadd F d_MS_findField_21 ?_
    refine s_iald F d_MS_findField_22 (ms_3 hb) (by omega) (by decide) (hK.nm ho hk1 hit) ?_
    refine s_iload_n F d_MS_findField_23 rfl ?_
    refine s_icmp_ne F 29 d_MS_findField_24 (by decide) (fun h3 => ?_) (fun h4 => ?_)
    · refine n_iinc F (n := 1) d_MS_findField_29 rfl rfl rfl ?_
      refine s_goto F 2 d_MS_findField_32 (by decide) ?_
      exact ih h2 () (fun j it' hj hit' => by
        by_cases e : j = k
        · subst e
          rw [hit] at hit'
          cases hit'
          exact h3
        · exact hI j it' (by omega) hit')
    · refine s_iload_n F d_MS_findField_27 rfl ?_
      exact s_iret F hR d_MS_findField_28 (⟨by rw [fnd_some hit h4 hI]; rfl, rfl⟩)
set_option maxRecDepth 4000 in
theorem c_MS_isSame {g : zG} {b c : Nat} {μ : zMem} {S S' : St} (hb : MSb g b) (hc : MSb g c) (hS : Inv S) (hS' : Inv S') (hK : RepM μ b S) (hK' : RepM μ c S') {o : Nat} (ho : o < 100) (hk0 : S.1 o ≠ 0) : zC g y_MS_isSame b_MS_isSame 4 (some .boolean) 0 0 [.ref b, .int (nI o), .ref c] μ (zI (bI (sameO S S' o)) (zS μ)) := by
  refine zC.of (by decide) (Nat.le_of_ble_eq_true rfl) [some (.ref b), some (.int (nI o)), some (.ref c), none] rfl rfl (fun x F hR => ?_)
  have F : zF g x b_MS_isSame R_MS 4 0 0 := F
  have hln := hS.ln ho
  have hln' := hS'.ln ho
  have hkd := hS.kd ho
  have hkd' := hS'.kd ho
  refine s_aload_n F d_MS_isSame_0 rfl ?_
  refine g_MS_9 F d_MS_isSame_1 (ms_0 hb) ?_
  refine s_iload_n F d_MS_isSame_4 rfl ?_
  refine s_iald F d_MS_isSame_5 (ms_1 hb) (by omega) (by decide) (hK.kd ho) ?_
  refine s_aload_n F d_MS_isSame_6 rfl ?_
  refine g_MS_9 F d_MS_isSame_7 (ms_0 hc) ?_
  refine s_iload_n F d_MS_isSame_10 rfl ?_
  refine s_iald F d_MS_isSame_11 (ms_1 hc) (by omega) (by decide) (hK'.kd ho) ?_
  refine n_icmp_ne F 30 d_MS_isSame_12 (by decide) (by omega) (by omega) (fun h1 => ?_) (fun h1 => ?_)
  · refine n_iconst F (n := 0) d_MS_isSame_30 ?_
    have e : sameO S S' o = false := by simp [sameO, h1]
    exact s_zret F hR d_MS_isSame_31 (by decide) (⟨by rw [e]; rfl, rfl⟩)
  have hk0' : S'.1 o ≠ 0 := by omega
  refine s_aload_n F d_MS_isSame_15 rfl ?_
  refine g_MS_15 F d_MS_isSame_16 (ms_0 hb) ?_
  refine s_iload_n F d_MS_isSame_19 rfl ?_
  refine s_iald F d_MS_isSame_20 (ms_2 hb) (by omega) (by decide) (hK.sz ho hk0) ?_
  refine s_aload_n F d_MS_isSame_21 rfl ?_
  refine g_MS_15 F d_MS_isSame_22 (ms_0 hc) ?_
  refine s_iload_n F d_MS_isSame_25 rfl ?_
  refine s_iald F d_MS_isSame_26 (ms_2 hc) (by omega) (by decide) (hK'.sz ho hk0') ?_
  refine n_icmp_eq F 32 d_MS_isSame_27 (by decide) (by omega) (by omega) (fun h2 => ?_) (fun h2 => ?_)
  case refine_2.refine_2 =>
    refine n_iconst F (n := 0) d_MS_isSame_30 ?_
    have e : sameO S S' o = false := by
      simp only [sameO, decide_eq_false_iff_not]
      rintro ⟨-, q⟩
      exact h2 (by rw [q])
    exact s_zret F hR d_MS_isSame_31 (by decide) (⟨by rw [e]; rfl, rfl⟩)
  refine n_iconst F (n := 0) d_MS_isSame_32 ?_
  refine s_istore_n F d_MS_isSame_33 (Nat.le_of_ble_eq_true rfl) rfl rfl ?_
  refine lpU (S.2.1 o).length (fun k (_ : Unit) => PW g x μ 34 [some (.ref b), some (.int (nI o)), some (.ref c), some (.int (nI k))] []) (fun k _ => ∀ j, j < k → (S.2.1 o)[j]? = (S'.2.1 o)[j]?) (fun k _ hk hI ih => ?_) 0 () (Nat.zero_le _) (fun j h => absurd h (Nat.not_lt_zero j))
  refine s_iload_n F d_MS_isSame_34 rfl ?_
  refine s_aload_n F d_MS_isSame_35 rfl ?_
  refine g_MS_15 F d_MS_isSame_36 (ms_0 hb) ?_
  refine s_iload_n F d_MS_isSame_39 rfl ?_
  refine s_iald F d_MS_isSame_40 (ms_2 hb) (by omega) (by decide) (hK.sz ho hk0) ?_
  refine n_icmp_ge F 113 d_MS_isSame_41 (by decide) (by omega) (by omega) (fun h3 => ?_) (fun h4 => ?_)
  · refine n_iconst F (n := 1) d_MS_isSame_113 ?_
    have e : sameO S S' o = true := by
      simp only [sameO, decide_eq_true_eq]
      refine ⟨h1, List.ext_getElem? (fun j => ?_)⟩
      by_cases hj : j < k
      · exact hI j hj
      · rw [List.getElem?_eq_none (by omega), List.getElem?_eq_none (by omega)]
    exact s_zret F hR d_MS_isSame_114 (by decide) (⟨by rw [e]; rfl, rfl⟩)
  obtain ⟨it, hit⟩ := getIt h4
  obtain ⟨it', hit'⟩ := getIt (l := S'.2.1 o) (k := k) (by omega)
  have hv := hS.ok ho (List.mem_of_getElem? hit)
  have hv' := hS'.ok ho (List.mem_of_getElem? hit')
  have no : it ≠ it' → sameO S S' o = false := fun hne => by
    simp only [sameO, decide_eq_false_iff_not]
    rintro ⟨-, q⟩
    rw [q] at hit
    rw [hit] at hit'
    exact hne (Option.some.inj hit')
  have go : it = it' → PW g x μ 107 [some (.ref b), some (.int (nI o)), some (.ref c), some (.int (nI k))] [] := fun eq => by
    refine n_iinc F (n := 1) d_MS_isSame_107 rfl rfl rfl ?_
    refine s_goto F 34 d_MS_isSame_110 (by decide) ?_
    exact ih h4 () (fun j hj => by
      by_cases e : j = k
      · subst e
        rw [hit, hit', eq]
      · exact hI j (by omega))
  refine s_aload_n F d_MS_isSame_44 rfl ?_
  refine g_MS_24 F d_MS_isSame_45 (ms_0 hb) ?_
  refine n_bipush F (n := 20) d_MS_isSame_48 rfl ?_
  refine s_iload_n F d_MS_isSame_50 rfl ?_
  refine n_imul F d_MS_isSame_51 ?_
  refine s_iload_n F d_MS_isSame_52 rfl ?_
  refine n_iadd F d_MS_isSame_53 ?_
  refine s_lald F d_MS_isSame_54 (ms_5 hb) (by omega) (by decide) (hK.sl ho hk0 hit) ?_
  refine s_aload_n F d_MS_isSame_55 rfl ?_
  refine g_MS_24 F d_MS_isSame_56 (ms_0 hc) ?_
  refine n_bipush F (n := 20) d_MS_isSame_59 rfl ?_
  refine s_iload_n F d_MS_isSame_61 rfl ?_
  refine n_imul F d_MS_isSame_62 ?_
  refine s_iload_n F d_MS_isSame_63 rfl ?_
  refine n_iadd F d_MS_isSame_64 ?_
  refine s_lald F d_MS_isSame_65 (ms_5 hc) (by omega) (by decide) (hK'.sl ho hk0' hit') ?_
  refine s_lcmp F d_MS_isSame_66 ?_
  refine s_if_ne F 105 d_MS_isSame_67 (by decide) (fun h5 => ?_) (fun h5 => ?_)
  · refine n_iconst F (n := 0) d_MS_isSame_105 ?_
    exact s_zret F hR d_MS_isSame_106 (by decide) (⟨by rw [no (fun q => h5 (by rw [q]; exact (lg_cmp_eq _ _).mpr rfl))]; rfl, rfl⟩)
  have h5 := tl_inj hv hv' ((lg_cmp_eq _ _).mp h5)
  refine s_aload_n F d_MS_isSame_70 rfl ?_
  refine g_MS_9 F d_MS_isSame_71 (ms_0 hb) ?_
  refine s_iload_n F d_MS_isSame_74 rfl ?_
  refine s_iald F d_MS_isSame_75 (ms_1 hb) (by omega) (by decide) (hK.kd ho) ?_
  refine n_iconst F (n := 1) d_MS_isSame_76 ?_
  refine n_icmp_ne F 107 d_MS_isSame_77 (by decide) (by omega) (by omega) (fun h6 => ?_) (fun h6 => ?_)
  · exact go (Prod.ext ((hS.n0 ho (by omega) (List.mem_of_getElem? hit)).trans (hS'.n0 ho (by omega) (List.mem_of_getElem? hit')).symm) h5)
  have hl8 := hS.l8 ho h6
  refine s_aload_n F d_MS_isSame_80 rfl ?_
  refine g_MS_18 F d_MS_isSame_81 (ms_0 hb) ?_
  refine n_bipush F (n := 8) d_MS_isSame_84 rfl ?_
  refine s_iload_n F d_MS_isSame_86 rfl ?_
  refine n_imul F d_MS_isSame_87 ?_
  refine s_iload_n F d_MS_isSame_88 rfl ?_
  refine n_iadd F d_MS_isSame_89 ?_
  refine s_iald F d_MS_isSame_90 (ms_3 hb) (by omega) (by decide) (hK.nm ho h6 hit) ?_
  refine s_aload_n F d_MS_isSame_91 rfl ?_
  refine g_MS_18 F d_MS_isSame_92 (ms_0 hc) ?_
  refine n_bipush F (n := 8) d_MS_isSame_95 rfl ?_
  refine s_iload_n F d_MS_isSame_97 rfl ?_
  refine n_imul F d_MS_isSame_98 ?_
  refine s_iload_n F d_MS_isSame_99 rfl ?_
  refine n_iadd F d_MS_isSame_100 ?_
  refine s_iald F d_MS_isSame_101 (ms_3 hc) (by omega) (by decide) (hK'.nm ho (by omega) hit') ?_
  refine s_icmp_eq F 107 d_MS_isSame_102 (by decide) (fun h7 => ?_) (fun h7 => ?_)
  · exact go (Prod.ext h7 h5)
  · refine n_iconst F (n := 0) d_MS_isSame_105 ?_
    exact s_zret F hR d_MS_isSame_106 (by decide) (⟨by rw [no (fun q => h7 (by rw [q]))]; rfl, rfl⟩)
set_option maxRecDepth 4000 in
theorem c_MS_bytesBehind {g : zG} {b c : Nat} {μ : zMem} {S S' : St} (hb : MSb g b) (hc : MSb g c) (hS : Inv S) (hS' : Inv S') (hK : RepM μ b S) (hK' : RepM μ c S') : zC g y_MS_bytesBehind b_MS_bytesBehind 5 (some .int) 1 23 [.ref b, .ref c] μ (zI (nI (chg S S' - 8)) (zS μ)) := by
  refine zC.of (by decide) (Nat.le_of_ble_eq_true rfl) [some (.ref b), some (.ref c), none, none, none] rfl rfl (fun x F hR => ?_)
  have F : zF g x b_MS_bytesBehind R_MS 5 1 23 := F
  have hrl := hS.rl
  have hrl' := hS'.rl
  refine n_iconst F (n := 0) d_MS_bytesBehind_0 ?_
  refine s_istore_n F d_MS_bytesBehind_1 (Nat.le_of_ble_eq_true rfl) rfl rfl ?_
  refine n_iconst F (n := 0) d_MS_bytesBehind_2 ?_
  refine s_istore_n F d_MS_bytesBehind_3 (Nat.le_of_ble_eq_true rfl) rfl rfl ?_
  refine lpU 100 (fun k (_ : Unit) => PW g x μ 4 [some (.ref b), some (.ref c), some (.int (nI (16 * cnt (ochg S S') k))), some (.int (nI k)), none] []) (fun k _ => True) (fun k _ hk hI ih => ?_) 0 () (Nat.zero_le _) trivial
  have hcn := cnt_le (ochg S S') k
  refine s_iload_n F d_MS_bytesBehind_4 rfl ?_
  refine n_bipush F (n := 100) d_MS_bytesBehind_5 rfl ?_
  refine n_icmp_ge F 37 d_MS_bytesBehind_7 (by decide) (by omega) (by omega) (fun h1 => ?_) (fun h1 => ?_)
  rotate_left
  · have hkd := hS.kd h1
    have ih := ih h1 () trivial
    refine s_aload_n F d_MS_bytesBehind_10 rfl ?_
    refine g_MS_9 F d_MS_bytesBehind_11 (ms_0 hb) ?_
    refine s_iload_n F d_MS_bytesBehind_14 rfl ?_
    refine s_iald F d_MS_bytesBehind_15 (ms_1 hb) (by omega) (by decide) (hK.kd h1) ?_
    refine n_if_eq F 31 d_MS_bytesBehind_16 (by decide) (by omega) (fun h3 => ?_) (fun h3 => ?_)
    · rw [cnt_f (by simp [ochg, h3])] at ih
      refine n_iinc F (n := 1) d_MS_bytesBehind_31 rfl rfl rfl ?_
      refine s_goto F 4 d_MS_bytesBehind_34 (by decide) ?_
      exact ih
    refine s_aload_n F d_MS_bytesBehind_19 rfl ?_
    refine s_iload_n F d_MS_bytesBehind_20 rfl ?_
    refine s_aload_n F d_MS_bytesBehind_21 rfl ?_
    refine c_ViR F (c_MS_isSame hb hc hS hS' hK hK' h1 h3) ok_MS_isSame k_382 (ci := 1) rfl (oMS (ms_0 hb)) rfl rfl rfl (Nat.le_of_ble_eq_true rfl) (by decide) d_MS_bytesBehind_22 ?_
    cases hs : sameO S S' k with
    | true =>
      rw [cnt_f (by simp [ochg, hs])] at ih
      refine n_if_ne F 31 d_MS_bytesBehind_25 (a := 1) (by decide) (by omega) (fun _ => ?_) (fun q => by omega)
      refine n_iinc F (n := 1) d_MS_bytesBehind_31 rfl rfl rfl ?_
      refine s_goto F 4 d_MS_bytesBehind_34 (by decide) ?_
      exact ih
    | false =>
      rw [cnt_t (by simp [ochg, hs, h3])] at ih
      refine n_if_ne F 31 d_MS_bytesBehind_25 (a := 0) (by decide) (by omega) (fun q => absurd rfl q) (fun _ => ?_)
      refine n_iinc F (n := 16) d_MS_bytesBehind_28 rfl rfl rfl ?_
      refine n_iinc F (n := 1) d_MS_bytesBehind_31 rfl rfl rfl ?_
      refine s_goto F 4 d_MS_bytesBehind_34 (by decide) ?_
      exact ih
  have e : k = 100 := by omega
  subst e
  refine n_iconst F (n := 0) d_MS_bytesBehind_37 ?_
  refine s_istore_n F d_MS_bytesBehind_38 (Nat.le_of_ble_eq_true rfl) rfl rfl ?_
  refine lpU (σ := Option Value) S.2.2.length (fun k v => PW g x μ 39 [some (.ref b), some (.ref c), some (.int (nI (16 * cnt (ochg S S') 100 + 6 * cl (rc1 S') S.2.2 k))), some (.int (nI k)), v] []) (fun k _ => True) (fun k v hk hI ih => ?_) 0 none (Nat.zero_le _) trivial
  have hc1 := cl_le (rc1 S') S.2.2 k
  refine s_iload_n F d_MS_bytesBehind_39 rfl ?_
  refine s_aload_n F d_MS_bytesBehind_40 rfl ?_
  refine g_MS_37 F d_MS_bytesBehind_41 (ms_0 hb) (hK.rs) ?_
  refine n_icmp_ge F 90 d_MS_bytesBehind_44 (by decide) (by omega) (by omega) (fun h1 => ?_) (fun h2 => ?_)
  · have e : k = S.2.2.length := by omega
    subst e
    refine n_iconst F (n := 0) d_MS_bytesBehind_90 ?_
    refine s_istore_n F d_MS_bytesBehind_91 (Nat.le_of_ble_eq_true rfl) rfl rfl ?_
    refine lpU S'.2.2.length (fun k (_ : Unit) => PW g x μ 92 [some (.ref b), some (.ref c), some (.int (nI (16 * cnt (ochg S S') 100 + 6 * cl (rc1 S') S.2.2 S.2.2.length + 6 * cl (rc2 S) S'.2.2 k))), some (.int (nI k)), v] []) (fun k _ => True) (fun k _ hk hI ih => ?_) 0 () (Nat.zero_le _) trivial
    have hc2 := cl_le (rc2 S) S'.2.2 k
    refine s_iload_n F d_MS_bytesBehind_92 rfl ?_
    refine s_aload_n F d_MS_bytesBehind_93 rfl ?_
    refine g_MS_37 F d_MS_bytesBehind_94 (ms_0 hc) (hK'.rs) ?_
    refine n_icmp_ge F 122 d_MS_bytesBehind_97 (by decide) (by omega) (by omega) (fun h1 => ?_) (fun h2 => ?_)
    · have e : k = S'.2.2.length := by omega
      subst e
      refine s_iload_n F d_MS_bytesBehind_122 rfl ?_
      exact s_iret F hR d_MS_bytesBehind_123 (⟨by rw [show chg S S' - 8 = 16 * cnt (ochg S S') 100 + 6 * cl (rc1 S') S.2.2 S.2.2.length + 6 * cl (rc2 S) S'.2.2 S'.2.2.length by unfold chg rchg; omega], rfl⟩)
    · obtain ⟨it, hit⟩ := getIt h2
      refine s_aload_n F d_MS_bytesBehind_100 rfl ?_
      refine s_aload_n F d_MS_bytesBehind_101 rfl ?_
      refine g_MS_21 F d_MS_bytesBehind_102 (ms_0 hc) ?_
      refine s_iload_n F d_MS_bytesBehind_105 rfl ?_
      refine s_iald F d_MS_bytesBehind_106 (ms_4 hc) (by omega) (by decide) (hK'.rn hit) ?_
      refine c_ViR F (c_MS_findRoot hb hS hK it.1) ok_MS_findRoot k_386 (ci := 1) rfl (oMS (ms_0 hb)) rfl rfl rfl (Nat.le_of_ble_eq_true rfl) (by decide) d_MS_bytesBehind_107 ?_
      have ih := ih h2 () trivial
      cases hf : fnd S.2.2 it.1 with
      | none =>
        rw [cl_t hit (by simp [rc2, hf])] at ih
        refine m_if_ge F 116 d_MS_bytesBehind_110 (by decide) ?_
        refine n_iinc F (n := 6) d_MS_bytesBehind_113 rfl rfl rfl ?_
        refine n_iinc F (n := 1) d_MS_bytesBehind_116 rfl rfl rfl ?_
        refine s_goto F 92 d_MS_bytesBehind_119 (by decide) ?_
        exact ih
      | some i =>
        rw [cl_f hit (by simp [rc2, hf])] at ih
        have hlt := (fnd_spec hf).1
        refine n_if_geT F 116 d_MS_bytesBehind_110 (by decide) (by omega) ?_
        refine n_iinc F (n := 1) d_MS_bytesBehind_116 rfl rfl rfl ?_
        refine s_goto F 92 d_MS_bytesBehind_119 (by decide) ?_
        exact ih
  · obtain ⟨it, hit⟩ := getIt h2
    refine s_aload_n F d_MS_bytesBehind_47 rfl ?_
    refine s_aload_n F d_MS_bytesBehind_48 rfl ?_
    refine g_MS_21 F d_MS_bytesBehind_49 (ms_0 hb) ?_
    refine s_iload_n F d_MS_bytesBehind_52 rfl ?_
    refine s_iald F d_MS_bytesBehind_53 (ms_4 hb) (by omega) (by decide) (hK.rn hit) ?_
    refine c_ViR F (c_MS_findRoot hc hS' hK' it.1) ok_MS_findRoot k_386 (ci := 1) rfl (oMS (ms_0 hc)) rfl rfl rfl (Nat.le_of_ble_eq_true rfl) (by decide) d_MS_bytesBehind_54 ?_
    refine s_istore F d_MS_bytesBehind_57 (Nat.le_of_ble_eq_true rfl) rfl rfl ?_
    refine s_iload F d_MS_bytesBehind_59 rfl ?_
    cases hf : fnd S'.2.2 it.1 with
    | none =>
      have ih := ih h2 (some (.int (-1))) trivial
      rw [cl_t hit (by simp [rc1, hf])] at ih
      refine m_if_lt F 81 d_MS_bytesBehind_61 (by decide) ?_
      refine n_iinc F (n := 6) d_MS_bytesBehind_81 rfl rfl rfl ?_
      refine n_iinc F (n := 1) d_MS_bytesBehind_84 rfl rfl rfl ?_
      refine s_goto F 39 d_MS_bytesBehind_87 (by decide) ?_
      exact ih
    | some i =>
      obtain ⟨hlt, it', hit', -⟩ := fnd_spec hf
      have ih := ih h2 (some (.int (nI i))) trivial
      have ht : it'.2 ≠ it.2 → rc1 S' it = true := fun q => by simp only [rc1, hf, getD_of hit']; simpa using q
      refine n_if_ltF F 81 d_MS_bytesBehind_61 (by decide) (by omega) ?_
      refine s_aload_n F d_MS_bytesBehind_64 rfl ?_
      refine g_MS_28 F d_MS_bytesBehind_65 (ms_0 hc) ?_
      refine s_iload F d_MS_bytesBehind_68 rfl ?_
      refine s_lald F d_MS_bytesBehind_70 (ms_6 hc) (by omega) (by decide) (hK'.rv hit') ?_
      refine s_aload_n F d_MS_bytesBehind_71 rfl ?_
      refine g_MS_28 F d_MS_bytesBehind_72 (ms_0 hb) ?_
      refine s_iload_n F d_MS_bytesBehind_75 rfl ?_
      refine s_lald F d_MS_bytesBehind_76 (ms_6 hb) (by omega) (by decide) (hK.rv hit) ?_
      refine s_lcmp F d_MS_bytesBehind_77 ?_
      refine s_if_eq F 84 d_MS_bytesBehind_78 (by decide) (fun h6 => ?_) (fun h6 => ?_)
      · have h6 := tl_inj (hS'.rok (List.mem_of_getElem? hit')) (hS.rok (List.mem_of_getElem? hit)) ((lg_cmp_eq _ _).mp h6)
        rw [cl_f hit (by simp only [rc1, hf, getD_of hit']; simpa using h6)] at ih
        refine n_iinc F (n := 1) d_MS_bytesBehind_84 rfl rfl rfl ?_
        refine s_goto F 39 d_MS_bytesBehind_87 (by decide) ?_
        exact ih
      · rw [cl_t hit (ht (fun q => h6 ((lg_cmp_eq _ _).mpr (by unfold tl; rw [q]))))] at ih
        refine n_iinc F (n := 6) d_MS_bytesBehind_81 rfl rfl rfl ?_
        refine n_iinc F (n := 1) d_MS_bytesBehind_84 rfl rfl rfl ?_
        refine s_goto F 39 d_MS_bytesBehind_87 (by decide) ?_
        exact ih
set_option maxRecDepth 4000 in
theorem c_MS_copy {g : zG} {b c : Nat} {μ : zMem} {S : St} (hb : MSb g b) (hc : MSb g c) (hd : b + 7 ≤ c ∨ c + 7 ≤ b) (hS : Inv S) (hK : RepM μ c S) : zC g y_MS_copy b_MS_copy 2 none 1 40 [.ref b, .ref c] μ (zV (fun μ' => RepM μ' b S ∧ zOut b 7 μ μ')) := by
  refine zC.of (by decide) (Nat.le_of_ble_eq_true rfl) [some (.ref b), some (.ref c)] rfl rfl (fun x F hR => ?_)
  have F : zF g x b_MS_copy R_MS 2 1 40 := F
  refine s_aload_n F d_MS_copy_0 rfl ?_
  refine g_MS_9 F d_MS_copy_1 (ms_0 hc) ?_
  refine n_iconst F (n := 0) d_MS_copy_4 ?_
  refine s_aload_n F d_MS_copy_5 rfl ?_
  refine g_MS_9 F d_MS_copy_6 (ms_0 hb) ?_
  refine n_iconst F (n := 0) d_MS_copy_9 ?_
  refine n_bipush F (n := 100) d_MS_copy_10 rfl ?_
  refine s_copyI F (ms_1 hc) (ms_1 hb) (by decide) (by decide) rfl (by decide) (by decide) d_MS_copy_12 ?_
  refine s_aload_n F d_MS_copy_15 rfl ?_
  refine g_MS_15 F d_MS_copy_16 (ms_0 hc) ?_
  refine n_iconst F (n := 0) d_MS_copy_19 ?_
  refine s_aload_n F d_MS_copy_20 rfl ?_
  refine g_MS_15 F d_MS_copy_21 (ms_0 hb) ?_
  refine n_iconst F (n := 0) d_MS_copy_24 ?_
  refine n_bipush F (n := 100) d_MS_copy_25 rfl ?_
  refine s_copyI F (ms_2 hc) (ms_2 hb) (by decide) (by decide) rfl (by decide) (by decide) d_MS_copy_27 ?_
  refine s_aload_n F d_MS_copy_30 rfl ?_
  refine g_MS_18 F d_MS_copy_31 (ms_0 hc) ?_
  refine n_iconst F (n := 0) d_MS_copy_34 ?_
  refine s_aload_n F d_MS_copy_35 rfl ?_
  refine g_MS_18 F d_MS_copy_36 (ms_0 hb) ?_
  refine n_iconst F (n := 0) d_MS_copy_39 ?_
  refine n_sipush F (n := 800) d_MS_copy_40 rfl ?_
  refine s_copyI F (ms_3 hc) (ms_3 hb) (by decide) (by decide) rfl (by decide) (by decide) d_MS_copy_43 ?_
  refine s_aload_n F d_MS_copy_46 rfl ?_
  refine g_MS_24 F d_MS_copy_47 (ms_0 hc) ?_
  refine n_iconst F (n := 0) d_MS_copy_50 ?_
  refine s_aload_n F d_MS_copy_51 rfl ?_
  refine g_MS_24 F d_MS_copy_52 (ms_0 hb) ?_
  refine n_iconst F (n := 0) d_MS_copy_55 ?_
  refine n_sipush F (n := 2000) d_MS_copy_56 rfl ?_
  refine s_copyL F (ms_5 hc) (ms_5 hb) (by decide) (by decide) rfl (by decide) (by decide) d_MS_copy_59 ?_
  refine s_aload_n F d_MS_copy_62 rfl ?_
  refine g_MS_21 F d_MS_copy_63 (ms_0 hc) ?_
  refine n_iconst F (n := 0) d_MS_copy_66 ?_
  refine s_aload_n F d_MS_copy_67 rfl ?_
  refine g_MS_21 F d_MS_copy_68 (ms_0 hb) ?_
  refine n_iconst F (n := 0) d_MS_copy_71 ?_
  refine n_bipush F (n := 12) d_MS_copy_72 rfl ?_
  refine s_copyI F (ms_4 hc) (ms_4 hb) (by decide) (by decide) rfl (by decide) (by decide) d_MS_copy_74 ?_
  refine s_aload_n F d_MS_copy_77 rfl ?_
  refine g_MS_28 F d_MS_copy_78 (ms_0 hc) ?_
  refine n_iconst F (n := 0) d_MS_copy_81 ?_
  refine s_aload_n F d_MS_copy_82 rfl ?_
  refine g_MS_28 F d_MS_copy_83 (ms_0 hb) ?_
  refine n_iconst F (n := 0) d_MS_copy_86 ?_
  refine n_bipush F (n := 12) d_MS_copy_87 rfl ?_
  refine s_copyL F (ms_6 hc) (ms_6 hb) (by decide) (by decide) rfl (by decide) (by decide) d_MS_copy_89 ?_
  have hO : zOut b 7 μ (mCL (mCI (mCL (mCI (mCI (mCI μ (c + 1) (b + 1) 100) (c + 2) (b + 2) 100) (c + 3) (b + 3) 800) (c + 5) (b + 5) 2000) (c + 4) (b + 4) 12) (c + 6) (b + 6) 12) := (((((zOut.rf.mCI (by omega) (by omega)).mCI (by omega) (by omega)).mCI (by omega) (by omega)).mCL (by omega) (by omega)).mCI (by omega) (by omega)).mCL (by omega) (by omega)
  refine s_aload_n F d_MS_copy_92 rfl ?_
  refine s_aload_n F d_MS_copy_93 rfl ?_
  refine g_MS_37 F d_MS_copy_94 (ms_0 hc) ((hK.out hO (by omega)).rs) ?_
  refine p_MS_37 F d_MS_copy_97 (ms_0 hb) ?_
  refine s_vret F hR d_MS_copy_100 ?_
  refine ⟨rfl, ⟨fun o ho => ⟨?_, fun hk => ⟨?_, fun j it hj => ?_⟩⟩, mI_eq _ _ _ _, fun j it hj => ?_⟩, hO.mI (by omega) (by omega)⟩
  · rw [mI_o _ _ _ (by omega), mCL_i, mCI_o _ _ _ (by omega), mCL_i, mCI_o _ _ _ (by omega), mCI_o _ _ _ (by omega), mCI_in _ _ _ (by omega)]
    exact hK.kd ho
  · rw [mI_o _ _ _ (by omega), mCL_i, mCI_o _ _ _ (by omega), mCL_i, mCI_o _ _ _ (by omega), mCI_in _ _ _ (by omega), mCI_o _ _ _ (by omega)]
    exact hK.sz ho hk
  · have hjl := (List.getElem?_eq_some_iff.mp hj).1
    have hln := hS.ln ho
    refine ⟨?_, fun h1 => ?_⟩
    · rw [mI_2, mCL_o _ _ _ (by omega), mCI_2, mCL_in _ _ _ (by omega), mCI_2, mCI_2, mCI_2]
      exact hK.sl ho hk hj
    · have hl8 := hS.l8 ho h1
      rw [mI_o _ _ _ (by omega), mCL_i, mCI_o _ _ _ (by omega), mCL_i, mCI_in _ _ _ (by omega), mCI_o _ _ _ (by omega), mCI_o _ _ _ (by omega)]
      exact hK.nm ho h1 hj
  · have hjl := (List.getElem?_eq_some_iff.mp hj).1
    have hrl := hS.rl
    refine ⟨?_, ?_⟩
    · rw [mI_o _ _ _ (by omega), mCL_i, mCI_in _ _ _ (by omega), mCL_i, mCI_o _ _ _ (by omega), mCI_o _ _ _ (by omega), mCI_o _ _ _ (by omega)]
      exact hK.rn hj
    · rw [mI_2, mCL_in _ _ _ (by omega), mCI_2, mCL_o _ _ _ (by omega), mCI_2, mCI_2, mCI_2]
      exact hK.rv hj
end
section
theorem told_pln (s v : Int32) : told s (pln s v) = told s v := by
  unfold told pln
  by_cases h : s = 0
  · simp [h]
  · simp [h]
theorem tl_pln (n s v : Int32) : tl (n, s, pln s v) = told s v := told_pln s v
set_option maxRecDepth 4000 in
theorem c_M_in {g : zG} {μ : zMem} (a l h : Int64) : zC g y_M_in b_M_in 6 (some .boolean) 0 0 [.long a, .long l, .long h] μ (zI (bI (pb (l ≤ a ∧ a ≤ h))) (zS μ)) := by
  refine zC.of (by decide) (Nat.le_of_ble_eq_true rfl) [some (.long a), none, some (.long l), none, some (.long h), none] rfl rfl (fun x F hR => ?_)
  have F : zF g x b_M_in R_M 6 0 0 := F
  refine s_lload_n F d_M_in_0 rfl ?_
  refine s_lload_n F d_M_in_1 rfl ?_
  refine s_lcmp F d_M_in_2 ?_
  refine s_if_lt F 17 d_M_in_3 (by decide) (fun h1 => ?_) (fun h1 => ?_)
  · refine n_iconst F (n := 0) d_M_in_17 ?_
    exact s_zret F hR d_M_in_18 (by decide) (⟨by rw [pb_f (fun q => Int64.not_le.mpr ((lg_cmp_lt _ _).mp h1) q.1)]; rfl, rfl⟩)
  have h1 : l ≤ a := Int64.not_lt.mp (fun q => h1 ((lg_cmp_lt _ _).mpr q))
  refine s_lload_n F d_M_in_6 rfl ?_
  refine s_lload F d_M_in_7 rfl ?_
  refine s_lcmp F d_M_in_9 ?_
  refine s_if_gt F 17 d_M_in_10 (by decide) (fun h2 => ?_) (fun h2 => ?_)
  · refine n_iconst F (n := 0) d_M_in_17 ?_
    exact s_zret F hR d_M_in_18 (by decide) (⟨by rw [pb_f (fun q => Int64.not_le.mpr ((lg_cmp_gt _ _).mp h2) q.2)]; rfl, rfl⟩)
  have h2 : a ≤ h := Int64.not_lt.mp (fun q => h2 ((lg_cmp_gt _ _).mpr q))
  refine n_iconst F (n := 1) d_M_in_13 ?_
  refine s_goto F 18 d_M_in_14 (by decide) ?_
  exact s_zret F hR d_M_in_18 (by decide) (⟨by rw [pb_t ⟨h1, h2⟩]; rfl, rfl⟩)
set_option maxRecDepth 4000 in
theorem c_M_is {g : zG} {z : Nat} {μ : zMem} {S : St} (hz : MOb g z) (hS : Inv S) (hK : RepM μ (z + 1) S) (o : Int32) (k : Nat) (hk : k ≤ 2) : zC g y_M_is b_M_is 3 (some .boolean) 1 25 [.ref z, .int o, .int (nI k)] μ (zI (bI (pb (pIs S o k))) (zS μ)) := by
  refine zC.of (by decide) (Nat.le_of_ble_eq_true rfl) [some (.ref z), some (.int o), some (.int (nI k))] rfl rfl (fun x F hR => ?_)
  have F : zF g x b_M_is R_M 3 1 25 := F
  refine s_iload_n F d_M_is_0 rfl ?_
  refine s_i2l F d_M_is_1 ?_
  refine s_lconst F (v := 0) d_M_is_2 rfl ?_
  refine s_ldc2 F k_320 d_M_is_3 ?_
  refine c_SiR F (c_M_in o.toInt64 0 99) ok_M_in k_321 rfl rfl rfl rfl (Nat.le_of_ble_eq_true rfl) (by decide) d_M_is_6 ?_
  by_cases h : 0 ≤ o.toInt64 ∧ o.toInt64 ≤ 99
  · rw [pb_t h]
    obtain ⟨j, hj, rfl⟩ := in99.mp h
    have hkd := hS.kd hj
    refine n_if_eq F 29 d_M_is_9 (a := 1) (by decide) (by omega) (fun q => by omega) (fun _ => ?_)
    refine s_aload_n F d_M_is_12 rfl ?_
    refine g_M_10 F d_M_is_13 (mz_0 hz) ?_
    refine g_M_40 F d_M_is_16 (ms_0 (mz_1 hz)) ?_
    refine s_iload_n F d_M_is_19 rfl ?_
    refine s_iald F d_M_is_20 (ms_1 (mz_1 hz)) (by omega) (by decide) (hK.kd hj) ?_
    refine s_iload_n F d_M_is_21 rfl ?_
    refine n_icmp_ne F 29 d_M_is_22 (by decide) (by omega) (by omega) (fun h1 => ?_) (fun h1 => ?_)
    · refine n_iconst F (n := 0) d_M_is_29 ?_
      exact s_zret F hR d_M_is_30 (by decide) (⟨by rw [pb_f (fun q => h1 ((pIs.iff hj).mp q))]; rfl, rfl⟩)
    · refine n_iconst F (n := 1) d_M_is_25 ?_
      refine s_goto F 30 d_M_is_26 (by decide) ?_
      exact s_zret F hR d_M_is_30 (by decide) (⟨by rw [pb_t ((pIs.iff hj).mpr h1)]; rfl, rfl⟩)
  · rw [pb_f h]
    refine n_if_eq F 29 d_M_is_9 (a := 0) (by decide) (by omega) (fun _ => ?_) (fun q => absurd rfl q)
    refine n_iconst F (n := 0) d_M_is_29 ?_
    exact s_zret F hR d_M_is_30 (by decide) (⟨by rw [pb_f (fun ⟨j, hj, e, _⟩ => h (in99.mpr ⟨j, hj, e⟩))]; rfl, rfl⟩)
set_option maxRecDepth 4000 in
theorem c_M_isThere {g : zG} {z : Nat} {μ : zMem} {S : St} (hz : MOb g z) (hS : Inv S) (hK : RepM μ (z + 1) S) (o : Int32) : zC g y_M_isThere b_M_isThere 2 (some .boolean) 1 25 [.ref z, .int o] μ (zI (bI (pb (pTh S o))) (zS μ)) := by
  refine zC.of (by decide) (Nat.le_of_ble_eq_true rfl) [some (.ref z), some (.int o)] rfl rfl (fun x F hR => ?_)
  have F : zF g x b_M_isThere R_M 2 1 25 := F
  refine s_iload_n F d_M_isThere_0 rfl ?_
  refine s_i2l F d_M_isThere_1 ?_
  refine s_lconst F (v := 0) d_M_isThere_2 rfl ?_
  refine s_ldc2 F k_320 d_M_isThere_3 ?_
  refine c_SiR F (c_M_in o.toInt64 0 99) ok_M_in k_321 rfl rfl rfl rfl (Nat.le_of_ble_eq_true rfl) (by decide) d_M_isThere_6 ?_
  by_cases h : 0 ≤ o.toInt64 ∧ o.toInt64 ≤ 99
  · rw [pb_t h]
    obtain ⟨j, hj, rfl⟩ := in99.mp h
    have hkd := hS.kd hj
    refine n_if_eq F 28 d_M_isThere_9 (a := 1) (by decide) (by omega) (fun q => by omega) (fun _ => ?_)
    refine s_aload_n F d_M_isThere_12 rfl ?_
    refine g_M_10 F d_M_isThere_13 (mz_0 hz) ?_
    refine g_M_40 F d_M_isThere_16 (ms_0 (mz_1 hz)) ?_
    refine s_iload_n F d_M_isThere_19 rfl ?_
    refine s_iald F d_M_isThere_20 (ms_1 (mz_1 hz)) (by omega) (by decide) (hK.kd hj) ?_
    refine n_if_eq F 28 d_M_isThere_21 (by decide) (by omega) (fun h1 => ?_) (fun h1 => ?_)
    · refine n_iconst F (n := 0) d_M_isThere_28 ?_
      exact s_zret F hR d_M_isThere_29 (by decide) (⟨by rw [pb_f (fun q => (pTh.iff hj).mp q h1)]; rfl, rfl⟩)
    · refine n_iconst F (n := 1) d_M_isThere_24 ?_
      refine s_goto F 29 d_M_isThere_25 (by decide) ?_
      exact s_zret F hR d_M_isThere_29 (by decide) (⟨by rw [pb_t ((pTh.iff hj).mpr h1)]; rfl, rfl⟩)
  · rw [pb_f h]
    refine n_if_eq F 28 d_M_isThere_9 (a := 0) (by decide) (by omega) (fun _ => ?_) (fun q => absurd rfl q)
    refine n_iconst F (n := 0) d_M_isThere_28 ?_
    exact s_zret F hR d_M_isThere_29 (by decide) (⟨by rw [pb_f (fun ⟨j, hj, e, _⟩ => h (in99.mpr ⟨j, hj, e⟩))]; rfl, rfl⟩)
set_option maxRecDepth 4000 in
theorem c_M_isValue {g : zG} {z : Nat} {μ : zMem} {S : St} (hz : MOb g z) (hS : Inv S) (hK : RepM μ (z + 1) S) (s v : Int32) : zC g y_M_isValue b_M_isValue 3 (some .boolean) 2 46 [.ref z, .int s, .int v] μ (zI (bI (pb (pVal S s v))) (zS μ)) := by
  refine zC.of (by decide) (Nat.le_of_ble_eq_true rfl) [some (.ref z), some (.int s), some (.int v)] rfl rfl (fun x F hR => ?_)
  have F : zF g x b_M_isValue R_M 3 2 46 := F
  refine s_iload_n F d_M_isValue_0 rfl ?_
  refine s_if_eq F 22 d_M_isValue_1 (by decide) (fun h1 => ?_) (fun h1 => ?_)
  · refine n_iconst F (n := 1) d_M_isValue_22 ?_
    refine s_goto F 27 d_M_isValue_23 (by decide) ?_
    exact s_zret F hR d_M_isValue_27 (by decide) (⟨by rw [pb_t (show pVal S s v from Or.inl h1)]; rfl, rfl⟩)
  refine s_iload_n F d_M_isValue_4 rfl ?_
  refine s_iconst F (v := 1) d_M_isValue_5 (by decide) ?_
  refine s_icmp_eq F 22 d_M_isValue_6 (by decide) (fun h2 => ?_) (fun h2 => ?_)
  · refine n_iconst F (n := 1) d_M_isValue_22 ?_
    refine s_goto F 27 d_M_isValue_23 (by decide) ?_
    exact s_zret F hR d_M_isValue_27 (by decide) (⟨by rw [pb_t (show pVal S s v from Or.inr (Or.inl h2))]; rfl, rfl⟩)
  refine s_iload_n F d_M_isValue_9 rfl ?_
  refine s_iconst F (v := 2) d_M_isValue_10 (by decide) ?_
  refine s_icmp_ne F 26 d_M_isValue_11 (by decide) (fun h3 => ?_) (fun h3 => ?_)
  · refine n_iconst F (n := 0) d_M_isValue_26 ?_
    have hn : ¬ pVal S s v := fun q => by
      rcases q with q | q | q
      · exact h1 q
      · exact h2 q
      · exact h3 q.1
    exact s_zret F hR d_M_isValue_27 (by decide) (⟨by rw [pb_f hn]; rfl, rfl⟩)
  refine s_aload_n F d_M_isValue_14 rfl ?_
  refine s_iload_n F d_M_isValue_15 rfl ?_
  refine c_ViR F (c_M_isThere hz hS hK v) ok_M_isThere k_328 (ci := 3) rfl (oM (mz_0 hz)) rfl rfl rfl (Nat.le_of_ble_eq_true rfl) (by decide) d_M_isValue_16 ?_
  by_cases h4 : pTh S v
  · rw [pb_t h4]
    refine n_if_eq F 26 d_M_isValue_19 (a := 1) (by decide) (by omega) (fun q => by omega) (fun _ => ?_)
    refine n_iconst F (n := 1) d_M_isValue_22 ?_
    refine s_goto F 27 d_M_isValue_23 (by decide) ?_
    exact s_zret F hR d_M_isValue_27 (by decide) (⟨by rw [pb_t (show pVal S s v from Or.inr (Or.inr ⟨h3, h4⟩))]; rfl, rfl⟩)
  rw [pb_f h4]
  refine n_if_eq F 26 d_M_isValue_19 (a := 0) (by decide) (by omega) (fun _ => ?_) (fun q => absurd rfl q)
  refine n_iconst F (n := 0) d_M_isValue_26 ?_
  have hn : ¬ pVal S s v := fun q => by
    rcases q with q | q | q
    · exact h1 q
    · exact h2 q
    · exact h4 q.2
  exact s_zret F hR d_M_isValue_27 (by decide) (⟨by rw [pb_f hn]; rfl, rfl⟩)
set_option maxRecDepth 4000 in
theorem c_M_value {g : zG} {μ : zMem} (s v : Int32) : zC g y_M_value b_M_value 2 (some .long) 0 0 [.int s, .int v] μ (zJ (told s v) (zS μ)) := by
  refine zC.of (by decide) (Nat.le_of_ble_eq_true rfl) [some (.int s), some (.int v)] rfl rfl (fun x F hR => ?_)
  have F : zF g x b_M_value R_M 2 0 0 := F
  refine s_iload_n F d_M_value_0 rfl ?_
  refine s_if_ne F 10 d_M_value_1 (by decide) (fun h1 => ?_) (fun h1 => ?_)
  · refine s_iload_n F d_M_value_10 rfl ?_
    refine s_iconst F (v := 1) d_M_value_11 (by decide) ?_
    refine s_icmp_ne F 20 d_M_value_12 (by decide) (fun h2 => ?_) (fun h2 => ?_)
    · refine s_ldc2 F k_340 d_M_value_20 ?_
      refine s_iload_n F d_M_value_23 rfl ?_
      refine s_i2l F d_M_value_24 ?_
      refine s_ladd F d_M_value_25 ?_
      exact s_lret F hR d_M_value_26 (⟨by simp [told, h1, h2], rfl⟩)
    · refine s_iload_n F d_M_value_15 rfl ?_
      refine s_i2l F d_M_value_16 ?_
      refine s_goto F 26 d_M_value_17 (by decide) ?_
      exact s_lret F hR d_M_value_26 (⟨by simp [told, h1, h2], rfl⟩)
  · refine s_ldc2 F k_339 d_M_value_4 ?_
    refine s_goto F 26 d_M_value_7 (by decide) ?_
    exact s_lret F hR d_M_value_26 (⟨by simp [told, h1], rfl⟩)
set_option maxRecDepth 4000 in
theorem c_M_make {g : zG} {z : Nat} {μ : zMem} {S : St} (hz : MOb g z) (hS : Inv S) (hK : RepM μ (z + 1) S) (r : Int32) : zC g y_M_make b_M_make 3 (some .int) 0 0 [.ref z, .int r] μ (zI (fMake S r).1 (fun μ' => RepM μ' (z + 1) (fMake S r).2 ∧ zOut (z + 1) 7 μ μ')) := by
  refine zC.of (by decide) (Nat.le_of_ble_eq_true rfl) [some (.ref z), some (.int r), none] rfl rfl (fun x F hR => ?_)
  have F : zF g x b_M_make R_M 3 0 0 := F
  refine n_iconst F (n := 0) d_M_make_0 ?_
  refine s_istore_n F d_M_make_1 (Nat.le_of_ble_eq_true rfl) rfl rfl ?_
  refine lpU 100 (fun k (_ : Unit) => PW g x μ 2 [some (.ref z), some (.int r), some (.int (nI k))] []) (fun k _ => ffree S.1 100 0 = ffree S.1 (100 - k) k) (fun k _ hk hI ih => ?_) 0 () (Nat.zero_le _) rfl
  refine s_iload_n F d_M_make_2 rfl ?_
  refine n_bipush F (n := 100) d_M_make_3 rfl ?_
  refine n_icmp_ge F 59 d_M_make_5 (by decide) (by omega) (by omega) (fun h1 => ?_) (fun h2 => ?_)
  · have e : k = 100 := by omega
    subst e
    have e : ffree S.1 100 0 = none := hI
    have e2 : fMake S r = (-3, S) := by simp [fMake, e]
    refine s_bipush F (v := -3) d_M_make_59 (by decide) ?_
    exact s_iret F hR d_M_make_61 (⟨by rw [e2], by rw [e2]; exact ⟨hK, zOut.rf⟩⟩)
  have hkd := hS.kd h2
  have hI := hI.trans (show ffree S.1 (100 - k) k = (if S.1 k = 0 then some k else ffree S.1 (99 - k) (k + 1)) by rw [show 100 - k = (99 - k) + 1 by omega]; rfl)
  refine s_aload_n F d_M_make_8 rfl ?_
  refine g_M_10 F d_M_make_9 (mz_0 hz) ?_
  refine g_M_40 F d_M_make_12 (ms_0 (mz_1 hz)) ?_
  refine s_iload_n F d_M_make_15 rfl ?_
  refine s_iald F d_M_make_16 (ms_1 (mz_1 hz)) (by omega) (by decide) (hK.kd h2) ?_
  refine n_if_eq F 23 d_M_make_17 (by decide) (by omega) (fun h3 => ?_) (fun h4 => ?_)
  · rw [if_pos h3] at hI
    have fin : ∀ kk : Nat, kk = (if r = 0 then 1 else 2) → PW g x μ 40 [some (.ref z), some (.int r), some (.int (nI k))] [.int (nI kk), .int (nI k), .ref (z + 1 + 1)] := by
      intro kk hkk
      have e2 : fMake S r = (nI k, mkS S k kk) := by simp [fMake, hI, hkk]
      refine s_iast F d_M_make_40 (ms_1 (mz_1 hz)) (by omega) (by decide) ?_
      refine s_aload_n F d_M_make_41 rfl ?_
      refine g_M_10 F d_M_make_42 (mz_0 hz) ?_
      refine g_M_51 F d_M_make_45 (ms_0 (mz_1 hz)) ?_
      refine s_iload_n F d_M_make_48 rfl ?_
      refine n_iconst F (n := 0) d_M_make_49 ?_
      refine s_iast F d_M_make_50 (ms_2 (mz_1 hz)) (by omega) (by decide) ?_
      refine s_iload_n F d_M_make_51 rfl ?_
      exact s_iret F hR d_M_make_52 (⟨by rw [e2], by rw [e2]; exact ⟨hK.mk k kk, (zOut.rf.mI (by omega) (by omega)).mI (by omega) (by omega)⟩⟩)
    refine s_aload_n F d_M_make_23 rfl ?_
    refine g_M_10 F d_M_make_24 (mz_0 hz) ?_
    refine g_M_40 F d_M_make_27 (ms_0 (mz_1 hz)) ?_
    refine s_iload_n F d_M_make_30 rfl ?_
    refine s_iload_n F d_M_make_31 rfl ?_
    refine s_if_eq F 39 d_M_make_32 (by decide) (fun h5 => ?_) (fun h5 => ?_)
    · refine n_iconst F (n := 1) d_M_make_39 ?_
      exact fin 1 (by rw [if_pos h5])
    · refine n_iconst F (n := 2) d_M_make_35 ?_
      refine s_goto F 40 d_M_make_36 (by decide) ?_
      exact fin 2 (by rw [if_neg h5])
  · rw [if_neg h4] at hI
    refine s_goto F 53 d_M_make_20 (by decide) ?_
    refine n_iinc F (n := 1) d_M_make_53 rfl rfl rfl ?_
    refine s_goto F 2 d_M_make_56 (by decide) ?_
    exact ih h2 () (by rw [hI, show 99 - k = 100 - (k + 1) by omega])
set_option maxRecDepth 4000 in
theorem c_M_get {g : zG} {z : Nat} {μ : zMem} {S : St} (hz : MOb g z) (hS : Inv S) (hK : RepM μ (z + 1) S) (o n : Int32) : zC g y_M_get b_M_get 4 (some .long) 2 47 [.ref z, .int o, .int n] μ (zJ (fGet S o n) (zS μ)) := by
  refine zC.of (by decide) (Nat.le_of_ble_eq_true rfl) [some (.ref z), some (.int o), some (.int n), none] rfl rfl (fun x F hR => ?_)
  have F : zF g x b_M_get R_M 4 2 47 := F
  refine s_aload_n F d_M_get_0 rfl ?_
  refine s_iload_n F d_M_get_1 rfl ?_
  refine n_iconst F (n := 1) d_M_get_2 ?_
  refine c_ViR F (c_M_is hz hS hK o 1 (by decide)) ok_M_is k_316 (ci := 3) rfl (oM (mz_0 hz)) rfl rfl rfl (Nat.le_of_ble_eq_true rfl) (by decide) d_M_get_3 ?_
  by_cases h1 : pIs S o 1
  rotate_left
  · rw [pb_f h1]
    have e : fGet S o n = -1099511627776 := cif_f h1
    refine n_if_ne F 13 d_M_get_6 (a := 0) (by decide) (by omega) (fun q => absurd rfl q) (fun _ => ?_)
    refine s_ldc2 F k_345 d_M_get_9 ?_
    exact s_lret F hR d_M_get_12 (⟨by rw [e], rfl⟩)
  rw [pb_t h1]
  refine n_if_ne F 13 d_M_get_6 (a := 1) (by decide) (by omega) (fun _ => ?_) (fun q => by omega)
  have e0 : fGet S o n = gt (S.2.1 o.toNatClampNeg) n := cif_t h1
  obtain ⟨j, hj, rfl, hkj⟩ := h1
  rw [clampJ hj] at e0
  have hln := hS.ln hj
  refine s_aload_n F d_M_get_13 rfl ?_
  refine g_M_10 F d_M_get_14 (mz_0 hz) ?_
  refine s_iload_n F d_M_get_17 rfl ?_
  refine s_iload_n F d_M_get_18 rfl ?_
  refine c_ViR F (c_MS_findField (mz_1 hz) hS hK hj hkj n) ok_MS_findField k_332 (ci := 1) rfl (oMS (ms_0 (mz_1 hz))) rfl rfl rfl (Nat.le_of_ble_eq_true rfl) (by decide) d_M_get_19 ?_
  refine s_istore_n F d_M_get_22 (Nat.le_of_ble_eq_true rfl) rfl rfl ?_
  refine s_iload_n F d_M_get_23 rfl ?_
  cases hf : fnd (S.2.1 j) n with
  | none =>
    refine m_if_ge F 33 d_M_get_24 (by decide) ?_
    refine s_ldc2 F k_339 d_M_get_27 ?_
    refine s_goto F 47 d_M_get_30 (by decide) ?_
    exact s_lret F hR d_M_get_47 (⟨by rw [e0]; simp only [gt, hf], rfl⟩)
  | some k =>
    obtain ⟨hkl, it, hit, -⟩ := fnd_spec hf
    refine n_if_geT F 33 d_M_get_24 (by decide) (by omega) ?_
    refine s_aload_n F d_M_get_33 rfl ?_
    refine g_M_10 F d_M_get_34 (mz_0 hz) ?_
    refine g_M_68 F d_M_get_37 (ms_0 (mz_1 hz)) ?_
    refine n_bipush F (n := 20) d_M_get_40 rfl ?_
    refine s_iload_n F d_M_get_42 rfl ?_
    refine n_imul F d_M_get_43 ?_
    refine s_iload_n F d_M_get_44 rfl ?_
    refine n_iadd F (a := 20 * j) (b := k) d_M_get_45 ?_
    refine s_lald F d_M_get_46 (ms_5 (mz_1 hz)) (by omega) (by decide) (hK.sl hj (by omega) hit) ?_
    exact s_lret F hR d_M_get_47 (⟨by rw [e0]; simp only [gt, hf, getD_of hit], rfl⟩)
set_option maxRecDepth 4000 in
theorem c_M_push {g : zG} {z : Nat} {μ : zMem} {S : St} (hz : MOb g z) (hS : Inv S) (hK : RepM μ (z + 1) S) (o s v : Int32) : zC g y_M_push b_M_push 4 (some .int) 3 68 [.ref z, .int o, .int s, .int v] μ (zI (fPush S o s v).1 (fun μ' => RepM μ' (z + 1) (fPush S o s v).2 ∧ zOut (z + 1) 7 μ μ')) := by
  refine zC.of (by decide) (Nat.le_of_ble_eq_true rfl) [some (.ref z), some (.int o), some (.int s), some (.int v)] rfl rfl (fun x F hR => ?_)
  have F : zF g x b_M_push R_M 4 3 68 := F
  refine s_aload_n F d_M_push_0 rfl ?_
  refine s_iload_n F d_M_push_1 rfl ?_
  refine n_iconst F (n := 2) d_M_push_2 ?_
  refine c_ViR F (c_M_is hz hS hK o 2 (by decide)) ok_M_is k_316 (ci := 3) rfl (oM (mz_0 hz)) rfl rfl rfl (Nat.le_of_ble_eq_true rfl) (by decide) d_M_push_3 ?_
  by_cases h1 : pIs S o 2
  rotate_left
  · rw [pb_f h1]
    have e : fPush S o s v = (-1, S) := cif_f (fun q => h1 q.1)
    refine n_if_eq F 18 d_M_push_6 (a := 0) (by decide) (by omega) (fun _ => ?_) (fun q => absurd rfl q)
    refine n_iconst_m1 F d_M_push_18 ?_
    exact s_iret F hR d_M_push_19 (⟨by rw [e], by rw [e]; exact ⟨hK, zOut.rf⟩⟩)
  rw [pb_t h1]
  refine n_if_eq F 18 d_M_push_6 (a := 1) (by decide) (by omega) (fun q => by omega) (fun _ => ?_)
  refine s_aload_n F d_M_push_9 rfl ?_
  refine s_iload_n F d_M_push_10 rfl ?_
  refine s_iload_n F d_M_push_11 rfl ?_
  refine c_ViR F (c_M_isValue hz hS hK s v) ok_M_isValue k_324 (ci := 3) rfl (oM (mz_0 hz)) rfl rfl rfl (Nat.le_of_ble_eq_true rfl) (by decide) d_M_push_12 ?_
  by_cases h2 : pVal S s v
  rotate_left
  · rw [pb_f h2]
    have e : fPush S o s v = (-1, S) := cif_f (fun q => h2 q.2)
    refine n_if_ne F 20 d_M_push_15 (a := 0) (by decide) (by omega) (fun q => absurd rfl q) (fun _ => ?_)
    refine n_iconst_m1 F d_M_push_18 ?_
    exact s_iret F hR d_M_push_19 (⟨by rw [e], by rw [e]; exact ⟨hK, zOut.rf⟩⟩)
  rw [pb_t h2]
  refine n_if_ne F 20 d_M_push_15 (a := 1) (by decide) (by omega) (fun _ => ?_) (fun q => by omega)
  have e0 : fPush S o s v = aPush S o.toNatClampNeg s (pln s v) := cif_t ⟨h1, h2⟩
  obtain ⟨j, hj, rfl, hkj⟩ := h1
  rw [clampJ hj] at e0
  have hln := hS.ln hj
  have hsz := hK.sz hj (by omega)
  refine s_aload_n F d_M_push_20 rfl ?_
  refine g_M_10 F d_M_push_21 (mz_0 hz) ?_
  refine g_M_51 F d_M_push_24 (ms_0 (mz_1 hz)) ?_
  refine s_iload_n F d_M_push_27 rfl ?_
  refine s_iald F d_M_push_28 (ms_2 (mz_1 hz)) (by omega) (by decide) (hsz) ?_
  refine n_bipush F (n := 20) d_M_push_29 rfl ?_
  refine n_icmp_ne F 37 d_M_push_31 (by decide) (by omega) (by omega) (fun h3 => ?_) (fun h3 => ?_)
  rotate_left
  · refine s_bipush F (v := -3) d_M_push_34 (by decide) ?_
    exact s_iret F hR d_M_push_36 (⟨by rw [e0]; simp [aPush, h3], by rw [e0]; simp only [aPush, h3, if_true]; exact ⟨hK, zOut.rf⟩⟩)
  have e1 : fPush S (nI j) s v = (nI ((S.2.1 j).length + 1), updI S j (S.2.1 j ++ [(0, s, pln s v)])) := by rw [e0]; simp [aPush, h3]
  refine s_aload_n F d_M_push_37 rfl ?_
  refine g_M_10 F d_M_push_38 (mz_0 hz) ?_
  refine g_M_68 F d_M_push_41 (ms_0 (mz_1 hz)) ?_
  refine n_bipush F (n := 20) d_M_push_44 rfl ?_
  refine s_iload_n F d_M_push_46 rfl ?_
  refine n_imul F d_M_push_47 ?_
  refine s_aload_n F d_M_push_48 rfl ?_
  refine g_M_10 F d_M_push_49 (mz_0 hz) ?_
  refine g_M_51 F d_M_push_52 (ms_0 (mz_1 hz)) ?_
  refine s_iload_n F d_M_push_55 rfl ?_
  refine s_iald F d_M_push_56 (ms_2 (mz_1 hz)) (by omega) (by decide) (hsz) ?_
  refine n_iadd F d_M_push_57 ?_
  refine s_iload_n F d_M_push_58 rfl ?_
  refine s_iload_n F d_M_push_59 rfl ?_
  refine c_SlR F (c_M_value s v) ok_M_value k_336 rfl rfl rfl rfl (Nat.le_of_ble_eq_true rfl) (by decide) d_M_push_60 ?_
  refine s_last F d_M_push_63 (ms_5 (mz_1 hz)) (by omega) (by decide) ?_
  refine s_aload_n F d_M_push_64 rfl ?_
  refine g_M_10 F d_M_push_65 (mz_0 hz) ?_
  refine g_M_51 F d_M_push_68 (ms_0 (mz_1 hz)) ?_
  refine s_iload_n F d_M_push_71 rfl ?_
  refine s_dup2 F d_M_push_72 rfl rfl ?_
  refine s_iald F d_M_push_73 (ms_2 (mz_1 hz)) (by omega) (by decide) (hsz) ?_
  refine n_iconst F (n := 1) d_M_push_74 ?_
  refine n_iadd F d_M_push_75 ?_
  refine s_iast F d_M_push_76 (ms_2 (mz_1 hz)) (by omega) (by decide) ?_
  refine s_aload_n F d_M_push_77 rfl ?_
  refine g_M_10 F d_M_push_78 (mz_0 hz) ?_
  refine g_M_51 F d_M_push_81 (ms_0 (mz_1 hz)) ?_
  refine s_iload_n F d_M_push_84 rfl ?_
  refine s_iald F d_M_push_85 (ms_2 (mz_1 hz)) (by omega) (by decide) (mI_eq _ _ _ _) ?_
  refine s_iret F hR d_M_push_86 ?_
  refine ⟨by rw [e1], ?_, (zOut.rf.mL (by omega) (by omega)).mI (by omega) (by omega)⟩
  rw [e1]
  refine hK.upI hS (by rw [mI_o _ _ _ (by omega), mL_i]) (by rw [mI_o _ _ _ (by omega), mL_i]) (by rw [mI_eq]; simp) (fun q hq => by rw [mI_ne _ _ (Or.inr hq), mL_i]) (fun i it hi => ⟨?_, fun h1 => by omega⟩) (fun i hi => by rw [mI_2, mL_ne _ _ (Or.inr (by omega))]) (fun i hi => by rw [mI_o _ _ _ (by omega), mL_i]) (by rw [mI_o _ _ _ (by omega), mL_i]) (by rw [mI_2, mL_o _ _ _ (by omega)])
  rw [mI_2]
  by_cases hil : i < (S.2.1 j).length
  · rw [List.getElem?_append_left hil] at hi
    rw [mL_ne _ _ (Or.inr (by omega))]
    exact hK.sl hj (by omega) hi
  · have hi1 := (List.getElem?_eq_some_iff.mp hi).1
    simp only [List.length_append, List.length_cons, List.length_nil] at hi1
    have : i = (S.2.1 j).length := by omega
    subst this
    simp at hi
    subst hi
    rw [mL_eq, tl_pln]
set_option maxRecDepth 4000 in
theorem c_M_pop {g : zG} {z : Nat} {μ : zMem} {S : St} (hz : MOb g z) (hS : Inv S) (hK : RepM μ (z + 1) S) (o : Int32) : zC g y_M_pop b_M_pop 2 (some .long) 2 47 [.ref z, .int o] μ (zJ (fPop S o).1 (fun μ' => RepM μ' (z + 1) (fPop S o).2 ∧ zOut (z + 1) 7 μ μ')) := by
  refine zC.of (by decide) (Nat.le_of_ble_eq_true rfl) [some (.ref z), some (.int o)] rfl rfl (fun x F hR => ?_)
  have F : zF g x b_M_pop R_M 2 2 47 := F
  refine s_aload_n F d_M_pop_0 rfl ?_
  refine s_iload_n F d_M_pop_1 rfl ?_
  refine n_iconst F (n := 2) d_M_pop_2 ?_
  refine c_ViR F (c_M_is hz hS hK o 2 (by decide)) ok_M_is k_316 (ci := 3) rfl (oM (mz_0 hz)) rfl rfl rfl (Nat.le_of_ble_eq_true rfl) (by decide) d_M_pop_3 ?_
  by_cases h1 : pIs S o 2
  rotate_left
  · rw [pb_f h1]
    have e : fPop S o = (-1099511627776, S) := cif_f (fun q => h1 q.1)
    refine n_if_eq F 21 d_M_pop_6 (a := 0) (by decide) (by omega) (fun _ => ?_) (fun q => absurd rfl q)
    refine s_ldc2 F k_345 d_M_pop_21 ?_
    exact s_lret F hR d_M_pop_24 (⟨by rw [e], by rw [e]; exact ⟨hK, zOut.rf⟩⟩)
  rw [pb_t h1]
  refine n_if_eq F 21 d_M_pop_6 (a := 1) (by decide) (by omega) (fun q => by omega) (fun _ => ?_)
  have h1' := h1
  obtain ⟨j, hj, rfl, hkj⟩ := h1
  have hln := hS.ln hj
  have hsz := hK.sz hj (by omega)
  refine s_aload_n F d_M_pop_9 rfl ?_
  refine g_M_10 F d_M_pop_10 (mz_0 hz) ?_
  refine g_M_51 F d_M_pop_13 (ms_0 (mz_1 hz)) ?_
  refine s_iload_n F d_M_pop_16 rfl ?_
  refine s_iald F d_M_pop_17 (ms_2 (mz_1 hz)) (by omega) (by decide) (hsz) ?_
  refine n_if_ne F 25 d_M_pop_18 (by decide) (by omega) (fun h2 => ?_) (fun h2 => ?_)
  rotate_left
  · have e : fPop S (nI j) = (-1099511627776, S) := cif_f (fun q => by rw [clampJ hj] at q; exact q.2 h2)
    refine s_ldc2 F k_345 d_M_pop_21 ?_
    exact s_lret F hR d_M_pop_24 (⟨by rw [e], by rw [e]; exact ⟨hK, zOut.rf⟩⟩)
  have e0 : fPop S (nI j) = aPop S j := by
    have := cif_t (a := aPop S (nI j).toNatClampNeg) (b := (-1099511627776, S)) (P := pIs S (nI j) 2 ∧ (S.2.1 (nI j).toNatClampNeg).length ≠ 0) ⟨h1', by rw [clampJ hj]; exact h2⟩
    rw [clampJ hj] at this
    unfold fPop
    rw [clampJ hj]
    exact this
  obtain ⟨it, hit⟩ := getIt (l := S.2.1 j) (k := (S.2.1 j).length - 1) (by omega)
  refine s_aload_n F d_M_pop_25 rfl ?_
  refine g_M_10 F d_M_pop_26 (mz_0 hz) ?_
  refine g_M_51 F d_M_pop_29 (ms_0 (mz_1 hz)) ?_
  refine s_iload_n F d_M_pop_32 rfl ?_
  refine s_dup2 F d_M_pop_33 rfl rfl ?_
  refine s_iald F d_M_pop_34 (ms_2 (mz_1 hz)) (by omega) (by decide) (hsz) ?_
  refine n_iconst F (n := 1) d_M_pop_35 ?_
  refine n_isub F d_M_pop_36 (by omega) ?_
  refine s_iast F d_M_pop_37 (ms_2 (mz_1 hz)) (by omega) (by decide) ?_
  refine s_aload_n F d_M_pop_38 rfl ?_
  refine g_M_10 F d_M_pop_39 (mz_0 hz) ?_
  refine g_M_68 F d_M_pop_42 (ms_0 (mz_1 hz)) ?_
  refine n_bipush F (n := 20) d_M_pop_45 rfl ?_
  refine s_iload_n F d_M_pop_47 rfl ?_
  refine n_imul F d_M_pop_48 ?_
  refine s_aload_n F d_M_pop_49 rfl ?_
  refine g_M_10 F d_M_pop_50 (mz_0 hz) ?_
  refine g_M_51 F d_M_pop_53 (ms_0 (mz_1 hz)) ?_
  refine s_iload_n F d_M_pop_56 rfl ?_
  refine s_iald F d_M_pop_57 (ms_2 (mz_1 hz)) (by omega) (by decide) (mI_eq _ _ _ _) ?_
  refine n_iadd F d_M_pop_58 ?_
  refine s_lald F d_M_pop_59 (ms_5 (mz_1 hz)) (by omega) (by decide) (hK.sl hj (by omega) hit) ?_
  refine s_lret F hR d_M_pop_60 ?_
  refine ⟨by rw [e0]; simp only [aPop, getD_of hit], ?_, zOut.rf.mI (by omega) (by omega)⟩
  rw [e0]
  refine hK.upI hS (by rw [mI_o _ _ _ (by omega)]) (by rw [mI_o _ _ _ (by omega)]) (by rw [mI_eq]; simp) (fun q hq => mI_ne _ _ (Or.inr hq)) (fun i it hi => ⟨?_, fun h1 => by omega⟩) (fun i hi => rfl) (fun i hi => by rw [mI_o _ _ _ (by omega)]) (by rw [mI_o _ _ _ (by omega)]) rfl
  rw [List.getElem?_dropLast] at hi
  split at hi
  · exact hK.sl hj (by omega) hi
  · cases hi
set_option maxRecDepth 4000 in
theorem c_M_put {g : zG} {z : Nat} {μ : zMem} {S : St} (hz : MOb g z) (hS : Inv S) (hK : RepM μ (z + 1) S) (o k s v : Int32) : zC g y_M_put b_M_put 5 (some .int) 3 68 [.ref z, .int o, .int k, .int s, .int v] μ (zI (fPut S o k s v).1 (fun μ' => RepM μ' (z + 1) (fPut S o k s v).2 ∧ zOut (z + 1) 7 μ μ')) := by
  refine zC.of (by decide) (Nat.le_of_ble_eq_true rfl) [some (.ref z), some (.int o), some (.int k), some (.int s), some (.int v)] rfl rfl (fun x F hR => ?_)
  have F : zF g x b_M_put R_M 5 3 68 := F
  have no : ¬ (pItem S o k ∧ pVal S s v) → PW g x μ 40 [some (.ref z), some (.int o), some (.int k), some (.int s), some (.int v)] [] := fun h => by
    have e : fPut S o k s v = (-1, S) := cif_f h
    refine n_iconst_m1 F d_M_put_40 ?_
    exact s_iret F hR d_M_put_41 (⟨by rw [e], by rw [e]; exact ⟨hK, zOut.rf⟩⟩)
  refine s_aload_n F d_M_put_0 rfl ?_
  refine s_iload_n F d_M_put_1 rfl ?_
  refine n_iconst F (n := 2) d_M_put_2 ?_
  refine c_ViR F (c_M_is hz hS hK o 2 (by decide)) ok_M_is k_316 (ci := 3) rfl (oM (mz_0 hz)) rfl rfl rfl (Nat.le_of_ble_eq_true rfl) (by decide) d_M_put_3 ?_
  by_cases h1 : pIs S o 2
  rotate_left
  · rw [pb_f h1]
    refine n_if_eq F 40 d_M_put_6 (a := 0) (by decide) (by omega) (fun _ => ?_) (fun q => absurd rfl q)
    exact no (fun ⟨⟨j, i, hj, ho, hk, _⟩, _⟩ => h1 ⟨j, hj, ho, hk⟩)
  rw [pb_t h1]
  refine n_if_eq F 40 d_M_put_6 (a := 1) (by decide) (by omega) (fun q => by omega) (fun _ => ?_)
  obtain ⟨j, hj, rfl, hkj⟩ := h1
  have hln := hS.ln hj
  have hsz := hK.sz hj (by omega)
  refine s_iload_n F d_M_put_9 rfl ?_
  refine s_i2l F d_M_put_10 ?_
  refine s_lconst F (v := 0) d_M_put_11 rfl ?_
  refine s_aload_n F d_M_put_12 rfl ?_
  refine g_M_10 F d_M_put_13 (mz_0 hz) ?_
  refine g_M_51 F d_M_put_16 (ms_0 (mz_1 hz)) ?_
  refine s_iload_n F d_M_put_19 rfl ?_
  refine s_iald F d_M_put_20 (ms_2 (mz_1 hz)) (by omega) (by decide) (hsz) ?_
  refine n_iconst F (n := 1) d_M_put_21 ?_
  refine s_isub F d_M_put_22 ?_
  refine s_i2l F d_M_put_23 ?_
  refine c_SiR F (c_M_in k.toInt64 0 (nI (S.2.1 j).length - nI 1).toInt64) ok_M_in k_321 rfl rfl rfl rfl (Nat.le_of_ble_eq_true rfl) (by decide) d_M_put_24 ?_
  by_cases h3 : 0 ≤ k.toInt64 ∧ k.toInt64 ≤ (nI (S.2.1 j).length - nI 1).toInt64
  rotate_left
  · rw [pb_f h3]
    refine n_if_eq F 40 d_M_put_27 (a := 0) (by decide) (by omega) (fun _ => ?_) (fun q => absurd rfl q)
    refine no (fun ⟨⟨j', i, hj', ho, hk, hi, e⟩, _⟩ => h3 ((inL hln).mpr ⟨i, ?_, e⟩))
    rw [nI_inj (by omega) (by omega) ho]
    exact hi
  rw [pb_t h3]
  refine n_if_eq F 40 d_M_put_27 (a := 1) (by decide) (by omega) (fun q => by omega) (fun _ => ?_)
  obtain ⟨i, hi, rfl⟩ := (inL hln).mp h3
  refine s_aload_n F d_M_put_30 rfl ?_
  refine s_iload_n F d_M_put_31 rfl ?_
  refine s_iload F d_M_put_32 rfl ?_
  refine c_ViR F (c_M_isValue hz hS hK s v) ok_M_isValue k_324 (ci := 3) rfl (oM (mz_0 hz)) rfl rfl rfl (Nat.le_of_ble_eq_true rfl) (by decide) d_M_put_34 ?_
  by_cases h2 : pVal S s v
  rotate_left
  · rw [pb_f h2]
    refine n_if_ne F 42 d_M_put_37 (a := 0) (by decide) (by omega) (fun q => absurd rfl q) (fun _ => ?_)
    exact no (fun q => h2 q.2)
  rw [pb_t h2]
  refine n_if_ne F 42 d_M_put_37 (a := 1) (by decide) (by omega) (fun _ => ?_) (fun q => by omega)
  have e0 : fPut S (nI j) (nI i) s v = (nI 0, updI S (nI j).toNatClampNeg ((S.2.1 (nI j).toNatClampNeg).set (nI i).toNatClampNeg (0, s, pln s v))) := cif_t ⟨⟨j, i, hj, rfl, hkj, hi, rfl⟩, h2⟩
  rw [clampJ hj, nI_clamp (n := i) (by omega)] at e0
  refine s_aload_n F d_M_put_42 rfl ?_
  refine g_M_10 F d_M_put_43 (mz_0 hz) ?_
  refine g_M_68 F d_M_put_46 (ms_0 (mz_1 hz)) ?_
  refine n_bipush F (n := 20) d_M_put_49 rfl ?_
  refine s_iload_n F d_M_put_51 rfl ?_
  refine n_imul F d_M_put_52 ?_
  refine s_iload_n F d_M_put_53 rfl ?_
  refine n_iadd F d_M_put_54 ?_
  refine s_iload_n F d_M_put_55 rfl ?_
  refine s_iload F d_M_put_56 rfl ?_
  refine c_SlR F (c_M_value s v) ok_M_value k_336 rfl rfl rfl rfl (Nat.le_of_ble_eq_true rfl) (by decide) d_M_put_58 ?_
  refine s_last F d_M_put_61 (ms_5 (mz_1 hz)) (by omega) (by decide) ?_
  refine n_iconst F (n := 0) d_M_put_62 ?_
  refine s_iret F hR d_M_put_63 ?_
  refine ⟨by rw [e0], ?_, zOut.rf.mL (by omega) (by omega)⟩
  rw [e0]
  refine hK.upI hS rfl rfl (by rw [mL_i, hsz]; simp) (fun q hq => rfl) (fun q it hq => ⟨?_, fun h1 => by omega⟩) (fun q hq => mL_ne _ _ (Or.inr (by omega))) (fun q hq => rfl) rfl (mL_o _ _ _ (by omega))
  by_cases ej : q = i
  · subst ej
    rw [List.getElem?_set_self hi] at hq
    cases hq
    rw [mL_eq, tl_pln]
  · rw [List.getElem?_set_ne (Ne.symm ej)] at hq
    rw [mL_ne _ _ (Or.inr (by omega))]
    exact hK.sl hj (by omega) hq
set_option maxRecDepth 4000 in
theorem c_M_item {g : zG} {z : Nat} {μ : zMem} {S : St} (hz : MOb g z) (hS : Inv S) (hK : RepM μ (z + 1) S) (o k : Int32) : zC g y_M_item b_M_item 3 (some .long) 2 47 [.ref z, .int o, .int k] μ (zJ (fItem S o k) (zS μ)) := by
  refine zC.of (by decide) (Nat.le_of_ble_eq_true rfl) [some (.ref z), some (.int o), some (.int k)] rfl rfl (fun x F hR => ?_)
  have F : zF g x b_M_item R_M 3 2 47 := F
  have no : ¬ pItem S o k → PW g x μ 47 [some (.ref z), some (.int o), some (.int k)] [] := fun h => by
    have e : fItem S o k = -1099511627776 := cif_f h
    refine s_ldc2 F k_345 d_M_item_47 ?_
    exact s_lret F hR d_M_item_50 (⟨by rw [e], rfl⟩)
  refine s_aload_n F d_M_item_0 rfl ?_
  refine s_iload_n F d_M_item_1 rfl ?_
  refine n_iconst F (n := 2) d_M_item_2 ?_
  refine c_ViR F (c_M_is hz hS hK o 2 (by decide)) ok_M_is k_316 (ci := 3) rfl (oM (mz_0 hz)) rfl rfl rfl (Nat.le_of_ble_eq_true rfl) (by decide) d_M_item_3 ?_
  by_cases h1 : pIs S o 2
  rotate_left
  · rw [pb_f h1]
    refine n_if_eq F 47 d_M_item_6 (a := 0) (by decide) (by omega) (fun _ => ?_) (fun q => absurd rfl q)
    exact no (fun ⟨j, i, hj, ho, hk, _⟩ => h1 ⟨j, hj, ho, hk⟩)
  rw [pb_t h1]
  refine n_if_eq F 47 d_M_item_6 (a := 1) (by decide) (by omega) (fun q => by omega) (fun _ => ?_)
  obtain ⟨j, hj, rfl, hkj⟩ := h1
  have hln := hS.ln hj
  have hsz := hK.sz hj (by omega)
  refine s_iload_n F d_M_item_9 rfl ?_
  refine s_i2l F d_M_item_10 ?_
  refine s_lconst F (v := 0) d_M_item_11 rfl ?_
  refine s_aload_n F d_M_item_12 rfl ?_
  refine g_M_10 F d_M_item_13 (mz_0 hz) ?_
  refine g_M_51 F d_M_item_16 (ms_0 (mz_1 hz)) ?_
  refine s_iload_n F d_M_item_19 rfl ?_
  refine s_iald F d_M_item_20 (ms_2 (mz_1 hz)) (by omega) (by decide) (hsz) ?_
  refine n_iconst F (n := 1) d_M_item_21 ?_
  refine s_isub F d_M_item_22 ?_
  refine s_i2l F d_M_item_23 ?_
  refine c_SiR F (c_M_in k.toInt64 0 (nI (S.2.1 j).length - nI 1).toInt64) ok_M_in k_321 rfl rfl rfl rfl (Nat.le_of_ble_eq_true rfl) (by decide) d_M_item_24 ?_
  by_cases h3 : 0 ≤ k.toInt64 ∧ k.toInt64 ≤ (nI (S.2.1 j).length - nI 1).toInt64
  rotate_left
  · rw [pb_f h3]
    refine n_if_eq F 47 d_M_item_27 (a := 0) (by decide) (by omega) (fun _ => ?_) (fun q => absurd rfl q)
    refine no (fun ⟨j', i, hj', ho, hk, hi, e⟩ => h3 ((inL hln).mpr ⟨i, ?_, e⟩))
    rw [nI_inj (by omega) (by omega) ho]
    exact hi
  rw [pb_t h3]
  refine n_if_eq F 47 d_M_item_27 (a := 1) (by decide) (by omega) (fun q => by omega) (fun _ => ?_)
  obtain ⟨i, hi, rfl⟩ := (inL hln).mp h3
  have e0 : fItem S (nI j) (nI i) = tl ((S.2.1 (nI j).toNatClampNeg).getD (nI i).toNatClampNeg (0, 0, 0)) := cif_t ⟨j, i, hj, rfl, hkj, hi, rfl⟩
  rw [clampJ hj, nI_clamp (n := i) (by omega)] at e0
  obtain ⟨it, hit⟩ := getIt hi
  refine s_aload_n F d_M_item_30 rfl ?_
  refine g_M_10 F d_M_item_31 (mz_0 hz) ?_
  refine g_M_68 F d_M_item_34 (ms_0 (mz_1 hz)) ?_
  refine n_bipush F (n := 20) d_M_item_37 rfl ?_
  refine s_iload_n F d_M_item_39 rfl ?_
  refine n_imul F d_M_item_40 ?_
  refine s_iload_n F d_M_item_41 rfl ?_
  refine n_iadd F d_M_item_42 ?_
  refine s_lald F d_M_item_43 (ms_5 (mz_1 hz)) (by omega) (by decide) (hK.sl hj (by omega) hit) ?_
  refine s_goto F 50 d_M_item_44 (by decide) ?_
  exact s_lret F hR d_M_item_50 (⟨by rw [e0, getD_of hit], rfl⟩)
set_option maxRecDepth 4000 in
theorem c_M_rooted {g : zG} {z : Nat} {μ : zMem} {S : St} (hz : MOb g z) (hS : Inv S) (hK : RepM μ (z + 1) S) (n : Int32) : zC g y_M_rooted b_M_rooted 3 (some .long) 1 22 [.ref z, .int n] μ (zJ (gt S.2.2 n) (zS μ)) := by
  refine zC.of (by decide) (Nat.le_of_ble_eq_true rfl) [some (.ref z), some (.int n), none] rfl rfl (fun x F hR => ?_)
  have F : zF g x b_M_rooted R_M 3 1 22 := F
  have hrl := hS.rl
  refine s_aload_n F d_M_rooted_0 rfl ?_
  refine g_M_10 F d_M_rooted_1 (mz_0 hz) ?_
  refine s_iload_n F d_M_rooted_4 rfl ?_
  refine c_ViR F (c_MS_findRoot (mz_1 hz) hS hK n) ok_MS_findRoot k_366 (ci := 1) rfl (oMS (ms_0 (mz_1 hz))) rfl rfl rfl (Nat.le_of_ble_eq_true rfl) (by decide) d_M_rooted_5 ?_
  refine s_istore_n F d_M_rooted_8 (Nat.le_of_ble_eq_true rfl) rfl rfl ?_
  refine s_iload_n F d_M_rooted_9 rfl ?_
  cases hf : fnd S.2.2 n with
  | none =>
    refine m_if_ge F 19 d_M_rooted_10 (by decide) ?_
    refine s_ldc2 F k_339 d_M_rooted_13 ?_
    refine s_goto F 28 d_M_rooted_16 (by decide) ?_
    exact s_lret F hR d_M_rooted_28 (⟨by simp only [gt, hf], rfl⟩)
  | some k =>
    obtain ⟨hkl, it, hit, -⟩ := fnd_spec hf
    refine n_if_geT F 19 d_M_rooted_10 (by decide) (by omega) ?_
    refine s_aload_n F d_M_rooted_19 rfl ?_
    refine g_M_10 F d_M_rooted_20 (mz_0 hz) ?_
    refine g_M_89 F d_M_rooted_23 (ms_0 (mz_1 hz)) ?_
    refine s_iload_n F (v := nI k) d_M_rooted_26 rfl ?_
    refine s_lald F d_M_rooted_27 (ms_6 (mz_1 hz)) (by omega) (by decide) (hK.rv hit) ?_
    exact s_lret F hR d_M_rooted_28 (⟨by simp only [gt, hf, getD_of hit], rfl⟩)
set_option maxRecDepth 4000 in
theorem c_M_kind {g : zG} {z : Nat} {μ : zMem} {S : St} (hz : MOb g z) (hK : RepM μ (z + 1) S) (o : Int32) : zC g y_M_kind b_M_kind 2 (some .int) 1 25 [.ref z, .int o] μ (zI (fKind S o) (zS μ)) := by
  refine zC.of (by decide) (Nat.le_of_ble_eq_true rfl) [some (.ref z), some (.int o)] rfl rfl (fun x F hR => ?_)
  have F : zF g x b_M_kind R_M 2 1 25 := F
  refine s_iload_n F d_M_kind_0 rfl ?_
  refine s_i2l F d_M_kind_1 ?_
  refine s_lconst F (v := 0) d_M_kind_2 rfl ?_
  refine s_ldc2 F k_320 d_M_kind_3 ?_
  refine c_SiR F (c_M_in o.toInt64 0 99) ok_M_in k_321 rfl rfl rfl rfl (Nat.le_of_ble_eq_true rfl) (by decide) d_M_kind_6 ?_
  by_cases h : 0 ≤ o.toInt64 ∧ o.toInt64 ≤ 99
  · rw [pb_t h]
    obtain ⟨j, hj, rfl⟩ := in99.mp h
    have e : fKind S (nI j) = nI (S.1 (nI j).toNatClampNeg) := cif_t ⟨j, hj, rfl⟩
    rw [clampJ hj] at e
    refine n_if_eq F 24 d_M_kind_9 (a := 1) (by decide) (by omega) (fun q => by omega) (fun _ => ?_)
    refine s_aload_n F d_M_kind_12 rfl ?_
    refine g_M_10 F d_M_kind_13 (mz_0 hz) ?_
    refine g_M_40 F d_M_kind_16 (ms_0 (mz_1 hz)) ?_
    refine s_iload_n F d_M_kind_19 rfl ?_
    refine s_iald F d_M_kind_20 (ms_1 (mz_1 hz)) (by omega) (by decide) (hK.kd hj) ?_
    refine s_goto F 25 d_M_kind_21 (by decide) ?_
    exact s_iret F hR d_M_kind_25 (⟨by rw [e], rfl⟩)
  · rw [pb_f h]
    have e : fKind S o = -1 := cif_f (fun q => h (in99.mpr q))
    refine n_if_eq F 24 d_M_kind_9 (a := 0) (by decide) (by omega) (fun _ => ?_) (fun q => absurd rfl q)
    refine n_iconst_m1 F d_M_kind_24 ?_
    exact s_iret F hR d_M_kind_25 (⟨by rw [e], rfl⟩)
set_option maxRecDepth 4000 in
theorem c_M_size {g : zG} {z : Nat} {μ : zMem} {S : St} (hz : MOb g z) (hS : Inv S) (hK : RepM μ (z + 1) S) (o : Int32) : zC g y_M_size b_M_size 2 (some .int) 2 46 [.ref z, .int o] μ (zI (fSize S o) (zS μ)) := by
  refine zC.of (by decide) (Nat.le_of_ble_eq_true rfl) [some (.ref z), some (.int o)] rfl rfl (fun x F hR => ?_)
  have F : zF g x b_M_size R_M 2 2 46 := F
  refine s_aload_n F d_M_size_0 rfl ?_
  refine s_iload_n F d_M_size_1 rfl ?_
  refine c_ViR F (c_M_isThere hz hS hK o) ok_M_isThere k_328 (ci := 3) rfl (oM (mz_0 hz)) rfl rfl rfl (Nat.le_of_ble_eq_true rfl) (by decide) d_M_size_2 ?_
  by_cases h : pTh S o
  · rw [pb_t h]
    have e : fSize S o = nI (S.2.1 o.toNatClampNeg).length := cif_t h
    obtain ⟨j, hj, rfl, hk⟩ := h
    rw [clampJ hj] at e
    refine n_if_eq F 20 d_M_size_5 (a := 1) (by decide) (by omega) (fun q => by omega) (fun _ => ?_)
    refine s_aload_n F d_M_size_8 rfl ?_
    refine g_M_10 F d_M_size_9 (mz_0 hz) ?_
    refine g_M_51 F d_M_size_12 (ms_0 (mz_1 hz)) ?_
    refine s_iload_n F d_M_size_15 rfl ?_
    refine s_iald F d_M_size_16 (ms_2 (mz_1 hz)) (by omega) (by decide) (hK.sz hj hk) ?_
    refine s_goto F 21 d_M_size_17 (by decide) ?_
    exact s_iret F hR d_M_size_21 (⟨by rw [e], rfl⟩)
  · rw [pb_f h]
    have e : fSize S o = -1 := cif_f h
    refine n_if_eq F 20 d_M_size_5 (a := 0) (by decide) (by omega) (fun _ => ?_) (fun q => absurd rfl q)
    refine n_iconst_m1 F d_M_size_20 ?_
    exact s_iret F hR d_M_size_21 (⟨by rw [e], rfl⟩)
end
section
set_option maxRecDepth 4000 in
theorem c_M_set {g : zG} {z : Nat} {μ : zMem} {S : St} (hz : MOb g z) (hS : Inv S) (hK : RepM μ (z + 1) S) (o n s v : Int32) : zC g y_M_set b_M_set 9 (some .int) 3 68 [.ref z, .int o, .int n, .int s, .int v] μ (zI (fSet S o n s v).1 (fun μ' => RepM μ' (z + 1) (fSet S o n s v).2 ∧ zOut (z + 1) 7 μ μ')) := by
  refine zC.of (by decide) (Nat.le_of_ble_eq_true rfl) [some (.ref z), some (.int o), some (.int n), some (.int s), some (.int v), none, none, none, none] rfl rfl (fun x F hR => ?_)
  have F : zF g x b_M_set R_M 9 3 68 := F
  refine s_aload_n F d_M_set_0 rfl ?_
  refine s_iload_n F d_M_set_1 rfl ?_
  refine n_iconst F (n := 1) d_M_set_2 ?_
  refine c_ViR F (c_M_is hz hS hK o 1 (by decide)) ok_M_is k_316 (ci := 3) rfl (oM (mz_0 hz)) rfl rfl rfl (Nat.le_of_ble_eq_true rfl) (by decide) d_M_set_3 ?_
  by_cases h1 : pIs S o 1
  rotate_left
  · rw [pb_f h1]
    have e : fSet S o n s v = (-1, S) := cif_f (fun q => h1 q.1)
    refine n_if_eq F 19 d_M_set_6 (a := 0) (by decide) (by omega) (fun _ => ?_) (fun q => absurd rfl q)
    refine n_iconst_m1 F d_M_set_19 ?_
    exact s_iret F hR d_M_set_20 (⟨by rw [e], by rw [e]; exact ⟨hK, zOut.rf⟩⟩)
  rw [pb_t h1]
  refine n_if_eq F 19 d_M_set_6 (a := 1) (by decide) (by omega) (fun q => by omega) (fun _ => ?_)
  refine s_aload_n F d_M_set_9 rfl ?_
  refine s_iload_n F d_M_set_10 rfl ?_
  refine s_iload F d_M_set_11 rfl ?_
  refine c_ViR F (c_M_isValue hz hS hK s v) ok_M_isValue k_324 (ci := 3) rfl (oM (mz_0 hz)) rfl rfl rfl (Nat.le_of_ble_eq_true rfl) (by decide) d_M_set_13 ?_
  by_cases h2 : pVal S s v
  rotate_left
  · rw [pb_f h2]
    have e : fSet S o n s v = (-1, S) := cif_f (fun q => h2 q.2)
    refine n_if_ne F 21 d_M_set_16 (a := 0) (by decide) (by omega) (fun q => absurd rfl q) (fun _ => ?_)
    refine n_iconst_m1 F d_M_set_19 ?_
    exact s_iret F hR d_M_set_20 (⟨by rw [e], by rw [e]; exact ⟨hK, zOut.rf⟩⟩)
  rw [pb_t h2]
  refine n_if_ne F 21 d_M_set_16 (a := 1) (by decide) (by omega) (fun _ => ?_) (fun q => by omega)
  have e0 : fSet S o n s v = aSet S o.toNatClampNeg n s (pln s v) := cif_t ⟨h1, h2⟩
  obtain ⟨j, hj, rfl, hkj⟩ := h1
  rw [clampJ hj] at e0
  have hln := hS.l8 hj hkj
  have hsz := hK.sz hj (by omega)
  refine s_aload_n F d_M_set_21 rfl ?_
  refine g_M_10 F d_M_set_22 (mz_0 hz) ?_
  refine s_iload_n F d_M_set_25 rfl ?_
  refine s_iload_n F d_M_set_26 rfl ?_
  refine c_ViR F (c_MS_findField (mz_1 hz) hS hK hj hkj n) ok_MS_findField k_332 (ci := 1) rfl (oMS (ms_0 (mz_1 hz))) rfl rfl rfl (Nat.le_of_ble_eq_true rfl) (by decide) d_M_set_27 ?_
  refine s_istore F d_M_set_30 (Nat.le_of_ble_eq_true rfl) rfl rfl ?_
  refine n_bipush F (n := 8) d_M_set_32 rfl ?_
  refine s_iload_n F d_M_set_34 rfl ?_
  refine n_imul F d_M_set_35 ?_
  refine s_istore F d_M_set_36 (Nat.le_of_ble_eq_true rfl) rfl rfl ?_
  refine n_bipush F (n := 20) d_M_set_38 rfl ?_
  refine s_iload_n F d_M_set_40 rfl ?_
  refine n_imul F d_M_set_41 ?_
  refine s_istore F d_M_set_42 (Nat.le_of_ble_eq_true rfl) rfl rfl ?_
  refine s_iload_n F d_M_set_44 rfl ?_
  cases hf : fnd (S.2.1 j) n with
  | none =>
    refine s_if_ne F 166 d_M_set_45 (by decide) (fun h3 => ?_) (fun h3 => ?_)
    · refine s_iload F d_M_set_166 rfl ?_
      refine m_if_ge F 226 d_M_set_168 (by decide) ?_
      refine s_aload_n F d_M_set_171 rfl ?_
      refine g_M_10 F d_M_set_172 (mz_0 hz) ?_
      refine g_M_51 F d_M_set_175 (ms_0 (mz_1 hz)) ?_
      refine s_iload_n F d_M_set_178 rfl ?_
      refine s_iald F d_M_set_179 (ms_2 (mz_1 hz)) (by omega) (by decide) (hsz) ?_
      refine n_bipush F (n := 8) d_M_set_180 rfl ?_
      refine n_icmp_ne F 188 d_M_set_182 (by decide) (by omega) (by omega) (fun h4 => ?_) (fun h4 => ?_)
      · have e : setF S j n s (pln s v) = (true, updI S j (S.2.1 j ++ [(n, s, pln s v)])) := by simp [setF, hf, h3, h4]
        have e1 : fSet S (nI j) n s v = (nI ((S.2.1 j).length + 1), updI S j (S.2.1 j ++ [(n, s, pln s v)])) := by rw [e0]; simp [aSet, e, updI, va_up]
        refine s_aload_n F d_M_set_188 rfl ?_
        refine g_M_10 F d_M_set_189 (mz_0 hz) ?_
        refine g_M_51 F d_M_set_192 (ms_0 (mz_1 hz)) ?_
        refine s_iload_n F d_M_set_195 rfl ?_
        refine s_iald F d_M_set_196 (ms_2 (mz_1 hz)) (by omega) (by decide) (hsz) ?_
        refine s_istore F d_M_set_197 (Nat.le_of_ble_eq_true rfl) rfl rfl ?_
        refine s_aload_n F d_M_set_199 rfl ?_
        refine g_M_10 F d_M_set_200 (mz_0 hz) ?_
        refine g_M_51 F d_M_set_203 (ms_0 (mz_1 hz)) ?_
        refine s_iload_n F d_M_set_206 rfl ?_
        refine s_dup2 F d_M_set_207 rfl rfl ?_
        refine s_iald F d_M_set_208 (ms_2 (mz_1 hz)) (by omega) (by decide) (hsz) ?_
        refine n_iconst F (n := 1) d_M_set_209 ?_
        refine n_iadd F d_M_set_210 ?_
        refine s_iast F d_M_set_211 (ms_2 (mz_1 hz)) (by omega) (by decide) ?_
        refine s_aload_n F d_M_set_212 rfl ?_
        refine g_M_10 F d_M_set_213 (mz_0 hz) ?_
        refine g_M_65 F d_M_set_216 (ms_0 (mz_1 hz)) ?_
        refine s_iload F d_M_set_219 rfl ?_
        refine s_iload F d_M_set_221 rfl ?_
        refine n_iadd F d_M_set_223 ?_
        refine s_iload_n F d_M_set_224 rfl ?_
        refine s_iast F d_M_set_225 (ms_3 (mz_1 hz)) (by omega) (by decide) ?_
        refine s_aload_n F d_M_set_226 rfl ?_
        refine g_M_10 F d_M_set_227 (mz_0 hz) ?_
        refine g_M_68 F d_M_set_230 (ms_0 (mz_1 hz)) ?_
        refine s_iload F d_M_set_233 rfl ?_
        refine s_iload F d_M_set_235 rfl ?_
        refine n_iadd F d_M_set_237 ?_
        refine s_iload_n F d_M_set_238 rfl ?_
        refine s_iload F d_M_set_239 rfl ?_
        refine c_SlR F (c_M_value s v) ok_M_value k_336 rfl rfl rfl rfl (Nat.le_of_ble_eq_true rfl) (by decide) d_M_set_241 ?_
        refine s_last F d_M_set_244 (ms_5 (mz_1 hz)) (by omega) (by decide) ?_
        refine s_aload_n F d_M_set_245 rfl ?_
        refine g_M_10 F d_M_set_246 (mz_0 hz) ?_
        refine g_M_51 F d_M_set_249 (ms_0 (mz_1 hz)) ?_
        refine s_iload_n F d_M_set_252 rfl ?_
        refine s_iald F d_M_set_253 (ms_2 (mz_1 hz)) (by omega) (by decide) ((mI_ne _ _ (Or.inl (by omega))).trans (mI_eq _ _ _ _)) ?_
        refine s_iret F hR d_M_set_254 ?_
        refine ⟨by rw [e1], ?_, ((zOut.rf.mI (by omega) (by omega)).mI (by omega) (by omega)).mL (by omega) (by omega)⟩
        rw [e1]
        refine hK.upI hS (by rw [mL_i, mI_o _ _ _ (by omega), mI_o _ _ _ (by omega)]) (by rw [mL_i, mI_o _ _ _ (by omega), mI_o _ _ _ (by omega)]) (by rw [mL_i, mI_o _ _ _ (by omega), mI_eq]; simp) (fun q hq => by rw [mL_i, mI_o _ _ _ (by omega), mI_ne _ _ (Or.inr hq)]) (fun i it hi => ?_) (fun i hi => by rw [mL_ne _ _ (Or.inr (by omega)), mI_2, mI_2]) (fun i hi => by rw [mL_i, mI_ne _ _ (Or.inr (by omega)), mI_o _ _ _ (by omega)]) (by rw [mL_i, mI_o _ _ _ (by omega), mI_o _ _ _ (by omega)]) (by rw [mL_o _ _ _ (by omega), mI_2, mI_2])
        by_cases hil : i < (S.2.1 j).length
        · rw [List.getElem?_append_left hil] at hi
          refine ⟨?_, fun _ => ?_⟩
          · rw [mL_ne _ _ (Or.inr (by omega)), mI_2, mI_2]
            exact hK.sl hj (by omega) hi
          · rw [mL_i, mI_ne _ _ (Or.inr (by omega)), mI_o _ _ _ (by omega)]
            exact hK.nm hj hkj hi
        · have hi1 := (List.getElem?_eq_some_iff.mp hi).1
          simp only [List.length_append, List.length_cons, List.length_nil] at hi1
          have : i = (S.2.1 j).length := by omega
          subst this
          simp at hi
          subst hi
          refine ⟨?_, fun _ => ?_⟩
          · rw [mL_eq, tl_pln]
          · rw [mL_i, mI_eq]
      · have e : setF S j n s (pln s v) = (false, S) := by simp [setF, hf, h3, h4]
        have e1 : fSet S (nI j) n s v = (-3, S) := by rw [e0]; simp [aSet, e]
        refine s_bipush F (v := -3) d_M_set_185 (by decide) ?_
        exact s_iret F hR d_M_set_187 (⟨by rw [e1], by rw [e1]; exact ⟨hK, zOut.rf⟩⟩)
    · have e : setF S j n s (pln s v) = (true, S) := by simp [setF, hf, h3]
      have e1 : fSet S (nI j) n s v = (nI (S.2.1 j).length, S) := by rw [e0]; simp [aSet, e]
      refine s_iload F d_M_set_48 rfl ?_
      refine m_if_ge F 63 d_M_set_50 (by decide) ?_
      refine s_aload_n F d_M_set_53 rfl ?_
      refine g_M_10 F d_M_set_54 (mz_0 hz) ?_
      refine g_M_51 F d_M_set_57 (ms_0 (mz_1 hz)) ?_
      refine s_iload_n F d_M_set_60 rfl ?_
      refine s_iald F d_M_set_61 (ms_2 (mz_1 hz)) (by omega) (by decide) (hsz) ?_
      exact s_iret F hR d_M_set_62 (⟨by rw [e1], by rw [e1]; exact ⟨hK, zOut.rf⟩⟩)
  | some k =>
    obtain ⟨hkl, it0, hit0, hn0⟩ := fnd_spec hf
    refine s_if_ne F 166 d_M_set_45 (by decide) (fun h3 => ?_) (fun h3 => ?_)
    · have e : setF S j n s (pln s v) = (true, updI S j ((S.2.1 j).set k (n, s, pln s v))) := by simp [setF, hf, h3]
      have e1 : fSet S (nI j) n s v = (nI (S.2.1 j).length, updI S j ((S.2.1 j).set k (n, s, pln s v))) := by rw [e0]; simp [aSet, e, updI, va_up]
      refine s_iload F d_M_set_166 rfl ?_
      refine n_if_geT F 226 d_M_set_168 (by decide) (by omega) ?_
      refine s_aload_n F d_M_set_226 rfl ?_
      refine g_M_10 F d_M_set_227 (mz_0 hz) ?_
      refine g_M_68 F d_M_set_230 (ms_0 (mz_1 hz)) ?_
      refine s_iload F (v := nI (20 * j)) d_M_set_233 rfl ?_
      refine s_iload F (v := nI k) d_M_set_235 rfl ?_
      refine n_iadd F d_M_set_237 ?_
      refine s_iload_n F d_M_set_238 rfl ?_
      refine s_iload F d_M_set_239 rfl ?_
      refine c_SlR F (c_M_value s v) ok_M_value k_336 rfl rfl rfl rfl (Nat.le_of_ble_eq_true rfl) (by decide) d_M_set_241 ?_
      refine s_last F d_M_set_244 (ms_5 (mz_1 hz)) (by omega) (by decide) ?_
      refine s_aload_n F d_M_set_245 rfl ?_
      refine g_M_10 F d_M_set_246 (mz_0 hz) ?_
      refine g_M_51 F d_M_set_249 (ms_0 (mz_1 hz)) ?_
      refine s_iload_n F d_M_set_252 rfl ?_
      refine s_iald F d_M_set_253 (ms_2 (mz_1 hz)) (by omega) (by decide) (hsz) ?_
      refine s_iret F hR d_M_set_254 ?_
      refine ⟨by rw [e1], ?_, zOut.rf.mL (by omega) (by omega)⟩
      rw [e1]
      refine hK.upI hS rfl rfl (by rw [mL_i, hsz]; simp) (fun q hq => rfl) (fun i it hi => ?_) (fun i hi => mL_ne _ _ (Or.inr (by omega))) (fun i hi => rfl) rfl (mL_o _ _ _ (by omega))
      by_cases ej : i = k
      · subst ej
        rw [List.getElem?_set_self hkl] at hi
        cases hi
        refine ⟨by rw [mL_eq, tl_pln], fun _ => ?_⟩
        rw [mL_i]
        exact (hK.nm hj hkj hit0).trans hn0
      · rw [List.getElem?_set_ne (Ne.symm ej)] at hi
        refine ⟨?_, fun _ => hK.nm hj hkj hi⟩
        rw [mL_ne _ _ (Or.inr (by omega))]
        exact hK.sl hj (by omega) hi
    · have e : setF S j n s (pln s v) = (true, updI S j ((S.2.1 j).eraseIdx k)) := by simp [setF, hf, h3]
      have hel : ((S.2.1 j).eraseIdx k).length = (S.2.1 j).length - 1 := by rw [List.length_eraseIdx, if_pos hkl]
      have e1 : fSet S (nI j) n s v = (nI ((S.2.1 j).length - 1), updI S j ((S.2.1 j).eraseIdx k)) := by rw [e0]; simp [aSet, e, updI, va_up, hel]
      refine s_iload F d_M_set_48 rfl ?_
      refine n_if_geT F 63 d_M_set_50 (by decide) (by omega) ?_
      refine s_aload_n F d_M_set_63 rfl ?_
      refine g_M_10 F d_M_set_64 (mz_0 hz) ?_
      refine g_M_51 F d_M_set_67 (ms_0 (mz_1 hz)) ?_
      refine s_iload_n F d_M_set_70 rfl ?_
      refine s_dup2 F d_M_set_71 rfl rfl ?_
      refine s_iald F d_M_set_72 (ms_2 (mz_1 hz)) (by omega) (by decide) (hsz) ?_
      refine n_iconst F (n := 1) d_M_set_73 ?_
      refine n_isub F d_M_set_74 (by omega) ?_
      refine s_iast F d_M_set_75 (ms_2 (mz_1 hz)) (by omega) (by decide) ?_
      refine s_iload F d_M_set_76 rfl ?_
      refine s_istore F d_M_set_78 (Nat.le_of_ble_eq_true rfl) rfl rfl ?_
      refine lpG (σ := Nat × zMem) (fun q => PW g x q.2 80 [some (.ref z), some (.int (nI j)), some (.int n), some (.int s), some (.int v), some (.int (nI k)), some (.int (nI (8 * j))), some (.int (nI (20 * j))), some (.int (nI q.1))] []) (fun q => k ≤ q.1 ∧ q.1 < (S.2.1 j).length ∧ zOut (z + 1) 7 μ q.2 ∧ q.2.1 (z + 1 + 2) j = nI ((S.2.1 j).length - 1) ∧ (∀ i, i ≠ j → q.2.1 (z + 1 + 2) i = μ.1 (z + 1 + 2) i) ∧ (∀ a, a ≤ z + 1 + 1 ∨ z + 1 + 4 ≤ a → q.2.1 a = μ.1 a) ∧ (∀ a, a ≠ z + 1 + 5 → q.2.2.1 a = μ.2.1 a) ∧ (∀ i, (i < 20 * j ∨ 20 * j + 20 ≤ i) → q.2.2.1 (z + 1 + 5) i = μ.2.1 (z + 1 + 5) i) ∧ (∀ i, (i < 8 * j ∨ 8 * j + 8 ≤ i) → q.2.1 (z + 1 + 3) i = μ.1 (z + 1 + 3) i) ∧ (∀ (i : Nat) (it : It), i < q.1 → ((S.2.1 j).eraseIdx k)[i]? = some it → q.2.2.1 (z + 1 + 5) (20 * j + i) = tl it ∧ q.2.1 (z + 1 + 3) (8 * j + i) = it.1) ∧ (∀ (i : Nat) (it : It), q.1 ≤ i → (S.2.1 j)[i]? = some it → q.2.2.1 (z + 1 + 5) (20 * j + i) = tl it ∧ q.2.1 (z + 1 + 3) (8 * j + i) = it.1)) (fun q => (S.2.1 j).length - q.1) (fun q hI ih => ?_) (k, mI μ (z + 1 + 2) j (nI ((S.2.1 j).length - 1))) ?_
      rotate_left
      · dsimp only
        refine ⟨Nat.le_refl _, hkl, zOut.rf.mI (by omega) (by omega), mI_eq _ _ _ _, fun i hi => mI_ne _ _ (Or.inr hi), fun a ha => mI_o _ _ _ (by omega), fun a ha => rfl, fun i hi => rfl, fun i hi => by rw [mI_o _ _ _ (by omega)], fun i it hi hi' => ?_, fun i it hi hi' => ⟨hK.sl hj (by omega) hi', by rw [mI_o _ _ _ (by omega)]; exact hK.nm hj hkj hi'⟩⟩
        rw [List.getElem?_eraseIdx, if_pos hi] at hi'
        exact ⟨hK.sl hj (by omega) hi', by rw [mI_o _ _ _ (by omega)]; exact hK.nm hj hkj hi'⟩
      obtain ⟨jj, μ1⟩ := q
      obtain ⟨g1, g2, g3, g4, g5, g6, g7, g8, g9, g10, g11⟩ := hI
      dsimp only at g1 g2 g3 g4 g5 g6 g7 g8 g9 g10 g11 ih ⊢
      refine s_iload F d_M_set_80 rfl ?_
      refine s_aload_n F d_M_set_82 rfl ?_
      refine g_M_10 F d_M_set_83 (mz_0 hz) ?_
      refine g_M_51 F d_M_set_86 (ms_0 (mz_1 hz)) ?_
      refine s_iload_n F d_M_set_89 rfl ?_
      refine s_iald F d_M_set_90 (ms_2 (mz_1 hz)) (by omega) (by decide) (g4) ?_
      refine n_icmp_ge F 156 d_M_set_91 (by decide) (by omega) (by omega) (fun h4 => ?_) (fun h4 => ?_)
      · refine s_aload_n F d_M_set_156 rfl ?_
        refine g_M_10 F d_M_set_157 (mz_0 hz) ?_
        refine g_M_51 F d_M_set_160 (ms_0 (mz_1 hz)) ?_
        refine s_iload_n F d_M_set_163 rfl ?_
        refine s_iald F d_M_set_164 (ms_2 (mz_1 hz)) (by omega) (by decide) (g4) ?_
        refine s_iret F hR d_M_set_165 ?_
        refine ⟨by rw [e1], ?_, g3⟩
        rw [e1]
        refine hK.upI hS (by rw [g6 _ (by omega)]) (g6 _ (by omega)) (by rw [g4, hel]) g5 (fun i it hi => ?_) g8 g9 (g6 _ (by omega)) (g7 _ (by omega))
        obtain ⟨r1, r2⟩ := g10 i it (by have := (List.getElem?_eq_some_iff.mp hi).1; omega) hi
        exact ⟨r1, fun _ => r2⟩
      · obtain ⟨it, hit⟩ := getIt (l := S.2.1 j) (k := jj + 1) (by omega)
        obtain ⟨r1, r2⟩ := g11 (jj + 1) it (by omega) hit
        refine s_aload_n F d_M_set_94 rfl ?_
        refine g_M_10 F d_M_set_95 (mz_0 hz) ?_
        refine g_M_65 F d_M_set_98 (ms_0 (mz_1 hz)) ?_
        refine s_iload F d_M_set_101 rfl ?_
        refine s_iload F d_M_set_103 rfl ?_
        refine n_iadd F d_M_set_105 ?_
        refine s_aload_n F d_M_set_106 rfl ?_
        refine g_M_10 F d_M_set_107 (mz_0 hz) ?_
        refine g_M_65 F d_M_set_110 (ms_0 (mz_1 hz)) ?_
        refine s_iload F d_M_set_113 rfl ?_
        refine s_iload F d_M_set_115 rfl ?_
        refine n_iadd F d_M_set_117 ?_
        refine n_iconst F (n := 1) d_M_set_118 ?_
        refine n_iadd F d_M_set_119 ?_
        refine s_iald F d_M_set_120 (ms_3 (mz_1 hz)) (by omega) (by decide) (r2) ?_
        refine s_iast F d_M_set_121 (ms_3 (mz_1 hz)) (by omega) (by decide) ?_
        refine s_aload_n F d_M_set_122 rfl ?_
        refine g_M_10 F d_M_set_123 (mz_0 hz) ?_
        refine g_M_68 F d_M_set_126 (ms_0 (mz_1 hz)) ?_
        refine s_iload F d_M_set_129 rfl ?_
        refine s_iload F d_M_set_131 rfl ?_
        refine n_iadd F d_M_set_133 ?_
        refine s_aload_n F d_M_set_134 rfl ?_
        refine g_M_10 F d_M_set_135 (mz_0 hz) ?_
        refine g_M_68 F d_M_set_138 (ms_0 (mz_1 hz)) ?_
        refine s_iload F d_M_set_141 rfl ?_
        refine s_iload F d_M_set_143 rfl ?_
        refine n_iadd F d_M_set_145 ?_
        refine n_iconst F (n := 1) d_M_set_146 ?_
        refine n_iadd F d_M_set_147 ?_
        refine s_lald F d_M_set_148 (ms_5 (mz_1 hz)) (by omega) (by decide) (r1) ?_
        refine s_last F d_M_set_149 (ms_5 (mz_1 hz)) (by omega) (by decide) ?_
        refine n_iinc F (n := 1) d_M_set_150 rfl rfl rfl ?_
        refine s_goto F 80 d_M_set_153 (by decide) ?_
        refine ih (jj + 1, mL (mI μ1 (z + 1 + 3) (8 * j + jj) it.1) (z + 1 + 5) (20 * j + jj) (tl it)) ?_ (by dsimp only; omega)
        dsimp only
        refine ⟨by omega, by omega, (g3.mI (by omega) (by omega)).mL (by omega) (by omega), by rw [mL_i, mI_o _ _ _ (by omega)]; exact g4, fun i hi => by rw [mL_i, mI_o _ _ _ (by omega)]; exact g5 i hi, fun a ha => by rw [mL_i, mI_o _ _ _ (by omega)]; exact g6 a ha, fun a ha => by rw [mL_o _ _ _ ha]; exact g7 a ha, fun i hi => by rw [mL_ne _ _ (Or.inr (by omega))]; exact g8 i hi, fun i hi => by rw [mL_i, mI_ne _ _ (Or.inr (by omega))]; exact g9 i hi, fun i it' hi hi' => ?_, fun i it' hi hi' => ?_⟩
        · by_cases ej : i = jj
          · subst ej
            rw [List.getElem?_eraseIdx, if_neg (by omega), hit] at hi'
            cases hi'
            exact ⟨mL_eq _ _ _ _, mI_eq _ _ _ _⟩
          · obtain ⟨w1, w2⟩ := g10 i it' (by omega) hi'
            exact ⟨by rw [mL_ne _ _ (Or.inr (by omega))]; exact w1, by rw [mL_i, mI_ne _ _ (Or.inr (by omega))]; exact w2⟩
        · obtain ⟨w1, w2⟩ := g11 i it' (by omega) hi'
          exact ⟨by rw [mL_ne _ _ (Or.inr (by omega))]; exact w1, by rw [mL_i, mI_ne _ _ (Or.inr (by omega))]; exact w2⟩
set_option maxRecDepth 4000 in
theorem c_M_root {g : zG} {z : Nat} {μ : zMem} {S : St} (hz : MOb g z) (hS : Inv S) (hK : RepM μ (z + 1) S) (n s v : Int32) : zC g y_M_root b_M_root 5 (some .int) 3 68 [.ref z, .int n, .int s, .int v] μ (zI (fRoot S n s v).1 (fun μ' => RepM μ' (z + 1) (fRoot S n s v).2 ∧ zOut (z + 1) 7 μ μ')) := by
  refine zC.of (by decide) (Nat.le_of_ble_eq_true rfl) [some (.ref z), some (.int n), some (.int s), some (.int v), none] rfl rfl (fun x F hR => ?_)
  have F : zF g x b_M_root R_M 5 3 68 := F
  have hrl := hS.rl
  refine s_aload_n F d_M_root_0 rfl ?_
  refine s_iload_n F d_M_root_1 rfl ?_
  refine s_iload_n F d_M_root_2 rfl ?_
  refine c_ViR F (c_M_isValue hz hS hK s v) ok_M_isValue k_324 (ci := 3) rfl (oM (mz_0 hz)) rfl rfl rfl (Nat.le_of_ble_eq_true rfl) (by decide) d_M_root_3 ?_
  by_cases h2 : pVal S s v
  rotate_left
  · rw [pb_f h2]
    have e : fRoot S n s v = (-1, S) := cif_f h2
    refine n_if_ne F 11 d_M_root_6 (a := 0) (by decide) (by omega) (fun q => absurd rfl q) (fun _ => ?_)
    refine n_iconst_m1 F d_M_root_9 ?_
    exact s_iret F hR d_M_root_10 (⟨by rw [e], by rw [e]; exact ⟨hK, zOut.rf⟩⟩)
  rw [pb_t h2]
  refine n_if_ne F 11 d_M_root_6 (a := 1) (by decide) (by omega) (fun _ => ?_) (fun q => by omega)
  have e0 : fRoot S n s v = aRoot S n s (pln s v) := cif_t h2
  refine s_aload_n F d_M_root_11 rfl ?_
  refine g_M_10 F d_M_root_12 (mz_0 hz) ?_
  refine s_iload_n F d_M_root_15 rfl ?_
  refine c_ViR F (c_MS_findRoot (mz_1 hz) hS hK n) ok_MS_findRoot k_366 (ci := 1) rfl (oMS (ms_0 (mz_1 hz))) rfl rfl rfl (Nat.le_of_ble_eq_true rfl) (by decide) d_M_root_16 ?_
  refine s_istore F d_M_root_19 (Nat.le_of_ble_eq_true rfl) rfl rfl ?_
  refine s_iload_n F d_M_root_21 rfl ?_
  cases hf : fnd S.2.2 n with
  | none =>
    refine s_if_ne F 109 d_M_root_22 (by decide) (fun h3 => ?_) (fun h3 => ?_)
    · refine s_iload F d_M_root_109 rfl ?_
      refine m_if_ge F 162 d_M_root_111 (by decide) ?_
      refine s_aload_n F d_M_root_114 rfl ?_
      refine g_M_10 F d_M_root_115 (mz_0 hz) ?_
      refine g_M_82 F d_M_root_118 (ms_0 (mz_1 hz)) (hK.rs) ?_
      refine n_bipush F (n := 12) d_M_root_121 rfl ?_
      refine n_icmp_ne F 129 d_M_root_123 (by decide) (by omega) (by omega) (fun h4 => ?_) (fun h4 => ?_)
      · have e : rootF S n s (pln s v) = (true, updR S (S.2.2 ++ [(n, s, pln s v)])) := by simp [rootF, hf, h3, h4]
        have e1 : fRoot S n s v = (nI (S.2.2.length + 1), updR S (S.2.2 ++ [(n, s, pln s v)])) := by rw [e0]; simp [aRoot, e, updR]
        refine s_aload_n F d_M_root_129 rfl ?_
        refine g_M_10 F d_M_root_130 (mz_0 hz) ?_
        refine g_M_82 F d_M_root_133 (ms_0 (mz_1 hz)) (hK.rs) ?_
        refine s_istore F d_M_root_136 (Nat.le_of_ble_eq_true rfl) rfl rfl ?_
        refine s_aload_n F d_M_root_138 rfl ?_
        refine g_M_10 F d_M_root_139 (mz_0 hz) ?_
        refine s_dup F d_M_root_142 rfl ?_
        refine g_M_82 F d_M_root_143 (ms_0 (mz_1 hz)) (hK.rs) ?_
        refine n_iconst F (n := 1) d_M_root_146 ?_
        refine n_iadd F d_M_root_147 ?_
        refine p_M_82 F d_M_root_148 (ms_0 (mz_1 hz)) ?_
        refine s_aload_n F d_M_root_151 rfl ?_
        refine g_M_10 F d_M_root_152 (mz_0 hz) ?_
        refine g_M_86 F d_M_root_155 (ms_0 (mz_1 hz)) ?_
        refine s_iload F d_M_root_158 rfl ?_
        refine s_iload_n F d_M_root_160 rfl ?_
        refine s_iast F d_M_root_161 (ms_4 (mz_1 hz)) (by omega) (by decide) ?_
        refine s_aload_n F d_M_root_162 rfl ?_
        refine g_M_10 F d_M_root_163 (mz_0 hz) ?_
        refine g_M_89 F d_M_root_166 (ms_0 (mz_1 hz)) ?_
        refine s_iload F d_M_root_169 rfl ?_
        refine s_iload_n F d_M_root_171 rfl ?_
        refine s_iload_n F d_M_root_172 rfl ?_
        refine c_SlR F (c_M_value s v) ok_M_value k_336 rfl rfl rfl rfl (Nat.le_of_ble_eq_true rfl) (by decide) d_M_root_173 ?_
        refine s_last F d_M_root_176 (ms_6 (mz_1 hz)) (by omega) (by decide) ?_
        refine s_aload_n F d_M_root_177 rfl ?_
        refine g_M_10 F d_M_root_178 (mz_0 hz) ?_
        refine g_M_82 F d_M_root_181 (ms_0 (mz_1 hz)) ((mI_ne _ _ (Or.inl (by omega))).trans (mI_eq _ _ _ _)) ?_
        refine s_iret F hR d_M_root_184 ?_
        refine ⟨by rw [e1], ?_, ((zOut.rf.mI (by omega) (by omega)).mI (by omega) (by omega)).mL (by omega) (by omega)⟩
        rw [e1]
        refine hK.upR (by rw [mL_i, mI_ne _ _ (Or.inl (by omega)), mI_eq]; simp) (fun a h1 h2 => by rw [mL_i, mI_o _ _ _ (by omega), mI_o _ _ _ (by omega)]) (by rw [mL_o _ _ _ (by omega), mI_2, mI_2]) (fun i it hi => ?_)
        by_cases hil : i < S.2.2.length
        · rw [List.getElem?_append_left hil] at hi
          refine ⟨?_, ?_⟩
          · rw [mL_i, mI_ne _ _ (Or.inr (by omega)), mI_o _ _ _ (by omega)]
            exact hK.rn hi
          · rw [mL_ne _ _ (Or.inr (by omega)), mI_2, mI_2]
            exact hK.rv hi
        · have hi1 := (List.getElem?_eq_some_iff.mp hi).1
          simp only [List.length_append, List.length_cons, List.length_nil] at hi1
          have : i = S.2.2.length := by omega
          subst this
          simp at hi
          subst hi
          refine ⟨?_, ?_⟩
          · rw [mL_i, mI_eq]
          · rw [mL_eq, tl_pln]
      · have e : rootF S n s (pln s v) = (false, S) := by simp [rootF, hf, h3, h4]
        have e1 : fRoot S n s v = (-3, S) := by rw [e0]; simp [aRoot, e]
        refine s_bipush F (v := -3) d_M_root_126 (by decide) ?_
        exact s_iret F hR d_M_root_128 (⟨by rw [e1], by rw [e1]; exact ⟨hK, zOut.rf⟩⟩)
    · have e : rootF S n s (pln s v) = (true, S) := by simp [rootF, hf, h3]
      have e1 : fRoot S n s v = (nI S.2.2.length, S) := by rw [e0]; simp [aRoot, e]
      refine s_iload F d_M_root_25 rfl ?_
      refine m_if_ge F 38 d_M_root_27 (by decide) ?_
      refine s_aload_n F d_M_root_30 rfl ?_
      refine g_M_10 F d_M_root_31 (mz_0 hz) ?_
      refine g_M_82 F d_M_root_34 (ms_0 (mz_1 hz)) (hK.rs) ?_
      exact s_iret F hR d_M_root_37 (⟨by rw [e1], by rw [e1]; exact ⟨hK, zOut.rf⟩⟩)
  | some k =>
    obtain ⟨hkl, it0, hit0, hn0⟩ := fnd_spec hf
    refine s_if_ne F 109 d_M_root_22 (by decide) (fun h3 => ?_) (fun h3 => ?_)
    · have e : rootF S n s (pln s v) = (true, updR S (S.2.2.set k (n, s, pln s v))) := by simp [rootF, hf, h3]
      have e1 : fRoot S n s v = (nI S.2.2.length, updR S (S.2.2.set k (n, s, pln s v))) := by rw [e0]; simp [aRoot, e, updR]
      refine s_iload F d_M_root_109 rfl ?_
      refine n_if_geT F 162 d_M_root_111 (by decide) (by omega) ?_
      refine s_aload_n F d_M_root_162 rfl ?_
      refine g_M_10 F d_M_root_163 (mz_0 hz) ?_
      refine g_M_89 F d_M_root_166 (ms_0 (mz_1 hz)) ?_
      refine s_iload F (v := nI k) d_M_root_169 rfl ?_
      refine s_iload_n F d_M_root_171 rfl ?_
      refine s_iload_n F d_M_root_172 rfl ?_
      refine c_SlR F (c_M_value s v) ok_M_value k_336 rfl rfl rfl rfl (Nat.le_of_ble_eq_true rfl) (by decide) d_M_root_173 ?_
      refine s_last F d_M_root_176 (ms_6 (mz_1 hz)) (by omega) (by decide) ?_
      refine s_aload_n F d_M_root_177 rfl ?_
      refine g_M_10 F d_M_root_178 (mz_0 hz) ?_
      refine g_M_82 F d_M_root_181 (ms_0 (mz_1 hz)) (hK.rs) ?_
      refine s_iret F hR d_M_root_184 ?_
      refine ⟨by rw [e1], ?_, zOut.rf.mL (by omega) (by omega)⟩
      rw [e1]
      refine hK.upR (by rw [mL_i, hK.rs]; simp) (fun a h1 h2 => rfl) (mL_o _ _ _ (by omega)) (fun i it hi => ?_)
      by_cases ej : i = k
      · subst ej
        rw [List.getElem?_set_self hkl] at hi
        cases hi
        exact ⟨(hK.rn hit0).trans hn0, by rw [mL_eq, tl_pln]⟩
      · rw [List.getElem?_set_ne (Ne.symm ej)] at hi
        exact ⟨hK.rn hi, by rw [mL_ne _ _ (Or.inr ej)]; exact hK.rv hi⟩
    · obtain ⟨la, hla⟩ := getIt (l := S.2.2) (k := S.2.2.length - 1) (by omega)
      have e : rootF S n s (pln s v) = (true, updR S ((S.2.2.set k la).dropLast)) := by simp only [rootF, hf, h3, if_true, getD_of hla]
      have e1 : fRoot S n s v = (nI (S.2.2.length - 1), updR S ((S.2.2.set k la).dropLast)) := by rw [e0]; simp [aRoot, e, updR]
      refine s_iload F d_M_root_25 rfl ?_
      refine n_if_geT F 38 d_M_root_27 (by decide) (by omega) ?_
      refine s_aload_n F d_M_root_38 rfl ?_
      refine g_M_10 F d_M_root_39 (mz_0 hz) ?_
      refine s_dup F d_M_root_42 rfl ?_
      refine g_M_82 F d_M_root_43 (ms_0 (mz_1 hz)) (hK.rs) ?_
      refine n_iconst F (n := 1) d_M_root_46 ?_
      refine n_isub F d_M_root_47 (by omega) ?_
      refine p_M_82 F d_M_root_48 (ms_0 (mz_1 hz)) ?_
      refine s_aload_n F d_M_root_51 rfl ?_
      refine g_M_10 F d_M_root_52 (mz_0 hz) ?_
      refine g_M_86 F d_M_root_55 (ms_0 (mz_1 hz)) ?_
      refine s_iload F (v := nI k) d_M_root_58 rfl ?_
      refine s_aload_n F d_M_root_60 rfl ?_
      refine g_M_10 F d_M_root_61 (mz_0 hz) ?_
      refine g_M_86 F d_M_root_64 (ms_0 (mz_1 hz)) ?_
      refine s_aload_n F d_M_root_67 rfl ?_
      refine g_M_10 F d_M_root_68 (mz_0 hz) ?_
      refine g_M_82 F d_M_root_71 (ms_0 (mz_1 hz)) (mI_eq _ _ _ _) ?_
      refine s_iald F d_M_root_74 (ms_4 (mz_1 hz)) (by omega) (by decide) ((mI_ne _ _ (Or.inl (by omega))).trans (hK.rn hla)) ?_
      refine s_iast F d_M_root_75 (ms_4 (mz_1 hz)) (by omega) (by decide) ?_
      refine s_aload_n F d_M_root_76 rfl ?_
      refine g_M_10 F d_M_root_77 (mz_0 hz) ?_
      refine g_M_89 F d_M_root_80 (ms_0 (mz_1 hz)) ?_
      refine s_iload F (v := nI k) d_M_root_83 rfl ?_
      refine s_aload_n F d_M_root_85 rfl ?_
      refine g_M_10 F d_M_root_86 (mz_0 hz) ?_
      refine g_M_89 F d_M_root_89 (ms_0 (mz_1 hz)) ?_
      refine s_aload_n F d_M_root_92 rfl ?_
      refine g_M_10 F d_M_root_93 (mz_0 hz) ?_
      refine g_M_82 F d_M_root_96 (ms_0 (mz_1 hz)) ((mI_ne _ _ (Or.inl (by omega))).trans (mI_eq _ _ _ _)) ?_
      refine s_lald F d_M_root_99 (ms_6 (mz_1 hz)) (by omega) (by decide) (hK.rv hla) ?_
      refine s_last F d_M_root_100 (ms_6 (mz_1 hz)) (by omega) (by decide) ?_
      refine s_aload_n F d_M_root_101 rfl ?_
      refine g_M_10 F d_M_root_102 (mz_0 hz) ?_
      refine g_M_82 F d_M_root_105 (ms_0 (mz_1 hz)) ((mI_ne _ _ (Or.inl (by omega))).trans (mI_eq _ _ _ _)) ?_
      refine s_iret F hR d_M_root_108 ?_
      refine ⟨by rw [e1], ?_, ((zOut.rf.mI (by omega) (by omega)).mI (by omega) (by omega)).mL (by omega) (by omega)⟩
      rw [e1]
      refine hK.upR (by rw [mL_i, mI_ne _ _ (Or.inl (by omega)), mI_eq]; simp) (fun a h1 h2 => by rw [mL_i, mI_o _ _ _ (by omega), mI_o _ _ _ (by omega)]) (by rw [mL_o _ _ _ (by omega), mI_2, mI_2]) (fun i it hi => ?_)
      have hil := (List.getElem?_eq_some_iff.mp hi).1
      simp only [List.length_dropLast, List.length_set] at hil
      rw [List.getElem?_dropLast, if_pos (by simp; omega)] at hi
      by_cases ej : i = k
      · subst ej
        rw [List.getElem?_set_self hkl] at hi
        cases hi
        exact ⟨by rw [mL_i, mI_eq], mL_eq _ _ _ _⟩
      · rw [List.getElem?_set_ne (Ne.symm ej)] at hi
        exact ⟨by rw [mL_i, mI_ne _ _ (Or.inr ej), mI_o _ _ _ (by omega)]; exact hK.rn hi, by rw [mL_ne _ _ (Or.inr ej), mI_2, mI_2]; exact hK.rv hi⟩
end
section
def bPi (μ : zMem) (z : Nat) (π : Nat → Nat) : Prop := (∀ k, k < 8 → π k < 8 ∧ μ.2.2 (z + 22) k = some (z + 25 + 7 * π k)) ∧ ∀ i j, i < 8 → j < 8 → π i = π j → i = j
def RepMH (μ : zMem) (z : Nat) (T : Ts) : Prop := RepM μ (z + 1) T.1 ∧ RepM μ (z + 8) T.2.1 ∧ RepM μ (z + 15) T.2.2.1 ∧ μ.1 z 0 = nI T.2.2.2.1.length ∧ μ.1 z 1 = T.2.2.2.2.toInt32 ∧ ∃ π : Nat → Nat, bPi μ z π ∧ ∀ k e, T.2.2.2.1[k]? = some e → RepM μ (z + 25 + 7 * π k) e.1 ∧ μ.1 (z + 25 + 7 * π k) 1 = nI e.2
theorem RepM.cgA {μ μ' : zMem} {b : Nat} {S : St} (h : RepM μ b S) (e : ∀ a, b ≤ a → a < b + 7 → μ'.1 a = μ.1 a) (e' : ∀ a, b ≤ a → a < b + 7 → μ'.2.1 a = μ.2.1 a) : RepM μ' b S := h.cg (by rw [e b (by omega) (by omega)]) (fun a h1 h2 => e a (by omega) h2) (fun a h1 h2 => e' a (by omega) h2)
/-- only the state that is there changes, and the marks and the path -/
theorem RepMH.now {μ μ' : zMem} {z : Nat} {T : Ts} {S' : St} (h : RepMH μ z T) (ho : ∀ a, (a < z + 1 ∨ z + 8 ≤ a) → a ≠ z + 23 → a ≠ z + 24 → μ'.1 a = μ.1 a ∧ μ'.2.1 a = μ.2.1 a ∧ μ'.2.2 a = μ.2.2 a) (hS : RepM μ' (z + 1) S') : RepMH μ' z (S', T.2) := by
  obtain ⟨-, h2, h3, h4, h5, π, h6, h7⟩ := h
  refine ⟨hS, h2.cgA (fun a h1 h2 => (ho a (by omega) (by omega) (by omega)).1) (fun a h1 h2 => (ho a (by omega) (by omega) (by omega)).2.1), h3.cgA (fun a h1 h2 => (ho a (by omega) (by omega) (by omega)).1) (fun a h1 h2 => (ho a (by omega) (by omega) (by omega)).2.1), by rw [(ho z (by omega) (by omega) (by omega)).1]; exact h4, by rw [(ho z (by omega) (by omega) (by omega)).1]; exact h5, π, ⟨fun k hk => ⟨(h6.1 k hk).1, by rw [(ho (z + 22) (by omega) (by omega) (by omega)).2.2]; exact (h6.1 k hk).2⟩, h6.2⟩, fun k e he => ⟨(h7 k e he).1.cgA (fun a h1 h2 => (ho a (by omega) (by omega) (by omega)).1) (fun a h1 h2 => (ho a (by omega) (by omega) (by omega)).2.1), by rw [(ho (z + 25 + 7 * π k) (by omega) (by omega) (by omega)).1]; exact (h7 k e he).2⟩⟩
theorem RepMH.nowO {μ μ' : zMem} {z : Nat} {T : Ts} {S' : St} (h : RepMH μ z T) (ho : zOut (z + 1) 7 μ μ') (hS : RepM μ' (z + 1) S') : RepMH μ' z (S', T.2) := h.now (fun a h1 _ _ => ho a (by omega)) hS
theorem Reach.live {S : St} (hS : Inv S) {q : Nat} (h : Reach S q) : q < 100 ∧ S.1 q ≠ 0 := by
  have ok : ∀ it w, vOk S.1 it → w < 100 → isRef it w → S.1 w ≠ 0 := by
    intro it w hv hw hr
    rcases hv with h1 | h1 | ⟨-, w', hw', hk, h2⟩
    · rw [hr.1] at h1; exact absurd h1.1 (by decide)
    · rw [hr.1] at h1; exact absurd h1 (by decide)
    · rw [nI_inj (by omega) (by omega) (hr.2.symm.trans h2)]; exact hk
  exact h (fun q => q < 100 ∧ S.1 q ≠ 0) (fun it w hi hw hr => ⟨hw, ok it w (hS.rok hi) hw hr⟩) (fun q it w hq hi hw hr => ⟨hw, ok it w (hS.ok hq.1 hi) hw hr⟩)
def swM (μ : zMem) (z : Nat) (se : Nat → Bool) (pa : List Nat) : Prop := (∀ o, o < 100 → μ.1 (z + 23) o = bI (se o)) ∧ ∀ j w, pa[j]? = some w → μ.1 (z + 24) j = nI w
theorem rpR.drop {it : It} {se se' : Nat → Bool} {pa pa' : List Nat} {k : Nat} (h : rpR it se pa se' pa') (hk : k ≤ pa.length) : rpR it se (pa.drop k) se' (pa'.drop k) := by
  rcases h with ⟨h1, rfl, h3⟩ | ⟨w, hw, hr, hs, h1, rfl⟩
  · exact Or.inl ⟨h1, rfl, h3⟩
  · refine Or.inr ⟨w, hw, hr, hs, h1, ?_⟩
    rw [List.drop_append_of_le_length hk]
theorem rpR.get {it : It} {se se' : Nat → Bool} {pa pa' : List Nat} {k q : Nat} (h : rpR it se pa se' pa') (hk : pa[k]? = some q) : pa'[k]? = some q := by
  rcases h with ⟨-, rfl, -⟩ | ⟨w, -, -, -, -, rfl⟩
  · exact hk
  · rw [List.getElem?_append_left (List.getElem?_eq_some_iff.mp hk).1]; exact hk
theorem rpR.len {it : It} {se se' : Nat → Bool} {pa pa' : List Nat} (h : rpR it se pa se' pa') : pa.length ≤ pa'.length := by
  rcases h with ⟨-, rfl, -⟩ | ⟨w, -, -, -, -, rfl⟩
  · exact Nat.le_refl _
  · rw [List.length_append]; omega
theorem reach_ix (w : Nat) : (lN (1099511627777 + w) - 1099511627776 - 1).toInt32 = nI w := by
  have e1 : (1099511627776 : Int64) = lN 1099511627776 := rfl
  have e2 : (1 : Int64) = lN 1 := rfl
  rw [e1, lN_sub (by omega), e2, lN_sub (by omega), lN_i]
  exact congrArg nI (by omega)
/-- nothing but the marks and the path has changed -/
def zMk (z : Nat) (μ μ' : zMem) : Prop := (∀ a, a ≠ z + 23 → a ≠ z + 24 → μ'.1 a = μ.1 a) ∧ μ'.2 = μ.2
theorem zMk.rf {z : Nat} {μ : zMem} : zMk z μ μ := ⟨fun _ _ _ => rfl, rfl⟩
theorem zMk.tr {z : Nat} {μ μ' μ'' : zMem} (h : zMk z μ μ') (h' : zMk z μ' μ'') : zMk z μ μ'' := ⟨fun a h1 h2 => (h'.1 a h1 h2).trans (h.1 a h1 h2), h'.2.trans h.2⟩
theorem zMk.mI {z a i : Nat} {v : Int32} {μ μ' : zMem} (h : zMk z μ μ') (ha : a = z + 23 ∨ a = z + 24) : zMk z μ (mI μ' a i v) := ⟨fun q h1 h2 => (mI_o _ _ _ (by omega)).trans (h.1 q h1 h2), h.2⟩
theorem RepM.mk' {z : Nat} {μ μ' : zMem} {S : St} (h : RepM μ (z + 1) S) (hm : zMk z μ μ') : RepM μ' (z + 1) S := h.cgA (fun a h1 h2 => hm.1 a (by omega) (by omega)) (fun a h1 h2 => by rw [hm.2])
end
section
set_option maxRecDepth 4000 in
theorem c_M_reach {g : zG} {z : Nat} {μ : zMem} {kd : Nat → Nat} {se : Nat → Bool} {pa : List Nat} (hz : MOb g z) (hW : swM μ z se pa) (hl : pa.length ≤ cnt se 100) {it : It} (hv : vOk kd it) : zC g y_M_reach b_M_reach 4 (some .int) 0 0 [.ref z, .long (tl it), .int (nI pa.length)] μ (fun v μ' => ∃ se' pa', v = some (.int (nI pa'.length)) ∧ zMk z μ μ' ∧ swM μ' z se' pa' ∧ rpR it se pa se' pa') := by
  obtain ⟨w1, w3⟩ := hW
  have hcl := cnt_le se 100
  by_cases hs : it.2.1 = 2
  · have hv2 : ∃ w, w < 100 ∧ it.2.2 = nI w := by
      rcases hv with h | h | ⟨-, w, h1, -, h2⟩
      · rw [hs] at h; exact absurd h.1 (by decide)
      · rw [hs] at h; exact absurd h (by decide)
      · exact ⟨w, h1, h2⟩
    obtain ⟨w, hw, he⟩ := hv2
    have hr : isRef it w := ⟨hs, he⟩
    rw [tl_2 hr hw]
    refine zC.of (by decide) (Nat.le_of_ble_eq_true rfl) [some (.ref z), some (.long (lN (1099511627777 + w))), none, some (.int (nI pa.length))] rfl rfl (fun x F hR => ?_)
    have F : zF g x b_M_reach R_M 4 0 0 := F
    refine s_lload_n F d_M_reach_0 rfl ?_
    refine s_ldc2 F k_339 d_M_reach_1 ?_
    refine s_lcmp F d_M_reach_4 ?_
    refine s_if_le F 24 d_M_reach_5 (by decide) (fun h => absurd ((lg_cmp_le _ _).mp h) ?_) (fun _ => ?_)
    · have e1 : (1099511627776 : Int64) = lN 1099511627776 := rfl
      rw [e1, pk_lLE (by omega) (by omega)]
      omega
    refine s_aload_n F d_M_reach_8 rfl ?_
    refine g_M_26 F d_M_reach_9 (mz_0 hz) ?_
    refine s_lload_n F d_M_reach_12 rfl ?_
    refine s_ldc2 F k_339 d_M_reach_13 ?_
    refine s_lsub F d_M_reach_16 ?_
    refine s_lconst F (v := 1) d_M_reach_17 rfl ?_
    refine s_lsub F d_M_reach_18 ?_
    refine s_l2i F d_M_reach_19 ?_
    refine s_vali (reach_ix w) ?_
    refine s_zald F d_M_reach_20 (mz_23 hz) (by omega) (by decide) (w1 w hw) ?_
    cases hse : se w with
    | true =>
      refine n_if_eq F 26 d_M_reach_21 (a := 1) (by decide) (by omega) (fun h => by omega) (fun _ => ?_)
      refine s_iload_n F d_M_reach_24 rfl ?_
      exact s_iret F hR d_M_reach_25 (⟨se, pa, rfl, zMk.rf, ⟨w1, w3⟩, Or.inl ⟨rfl, rfl, fun q hq hrq => by rw [hrq.un hr hq hw]; exact hse⟩⟩)
    | false =>
      refine n_if_eq F 26 d_M_reach_21 (a := 0) (by decide) (by omega) (fun _ => ?_) (fun h => absurd rfl h)
      have hroom := cnt_room hse hw
      refine s_aload_n F d_M_reach_26 rfl ?_
      refine g_M_26 F d_M_reach_27 (mz_0 hz) ?_
      refine s_lload_n F d_M_reach_30 rfl ?_
      refine s_ldc2 F k_339 d_M_reach_31 ?_
      refine s_lsub F d_M_reach_34 ?_
      refine s_lconst F (v := 1) d_M_reach_35 rfl ?_
      refine s_lsub F d_M_reach_36 ?_
      refine s_l2i F d_M_reach_37 ?_
      refine s_vali (reach_ix w) ?_
      refine n_iconst F (n := 1) d_M_reach_38 ?_
      refine s_zast F d_M_reach_39 (mz_23 hz) (by omega) (by decide) (by decide) ?_
      refine s_aload_n F d_M_reach_40 rfl ?_
      refine g_M_30 F d_M_reach_41 (mz_0 hz) ?_
      refine s_iload_n F d_M_reach_44 rfl ?_
      refine s_lload_n F d_M_reach_45 rfl ?_
      refine s_ldc2 F k_339 d_M_reach_46 ?_
      refine s_lsub F d_M_reach_49 ?_
      refine s_lconst F (v := 1) d_M_reach_50 rfl ?_
      refine s_lsub F d_M_reach_51 ?_
      refine s_l2i F d_M_reach_52 ?_
      refine s_vali (reach_ix w) ?_
      refine s_iast F d_M_reach_53 (mz_24 hz) (by omega) (by decide) ?_
      refine s_iload_n F d_M_reach_54 rfl ?_
      refine n_iconst F (n := 1) d_M_reach_55 ?_
      refine n_iadd F d_M_reach_56 ?_
      refine s_iret F hR d_M_reach_57 ?_
      refine ⟨va_up se w true, pa ++ [w], by rw [List.length_append]; rfl, (zMk.rf.mI (Or.inl rfl)).mI (Or.inr rfl), ⟨fun o ho => ?_, fun j q hj => ?_⟩, Or.inr ⟨w, hw, hr, hse, rfl, rfl⟩⟩
      · rw [mI_ne _ _ (Or.inl (by omega))]
        by_cases e : o = w
        · subst e; rw [mI_eq, va_up_self]; rfl
        · rw [mI_ne _ _ (Or.inr e), va_up_ne _ _ e]; exact w1 o ho
      · by_cases hjl : j < pa.length
        · rw [List.getElem?_append_left hjl] at hj
          rw [mI_ne _ _ (Or.inr (by omega)), mI_ne _ _ (Or.inl (by omega))]
          exact w3 j q hj
        · have hj1 := (List.getElem?_eq_some_iff.mp hj).1
          simp only [List.length_append, List.length_cons, List.length_nil] at hj1
          have : j = pa.length := by omega
          subst this
          simp at hj
          subst hj
          exact mI_eq _ _ _ _
  · refine zC.of (by decide) (Nat.le_of_ble_eq_true rfl) [some (.ref z), some (.long (tl it)), none, some (.int (nI pa.length))] rfl rfl (fun x F hR => ?_)
    have F : zF g x b_M_reach R_M 4 0 0 := F
    refine s_lload_n F d_M_reach_0 rfl ?_
    refine s_ldc2 F k_339 d_M_reach_1 ?_
    refine s_lcmp F d_M_reach_4 ?_
    have hle : tl it ≤ 1099511627776 := by
      rw [Int64.le_iff_toInt_le]
      have e1 : (1099511627776 : Int64).toInt = 1099511627776 := by decide
      have b1 := it.2.2.toInt_lt
      rw [e1]
      rcases tl_int hv with ⟨a1, a2, a3⟩ | ⟨a1, a3⟩ | ⟨w, hw, ⟨a1, a2⟩, -, a3⟩
      · omega
      · omega
      · exact absurd a1 hs
    refine s_if_le F 24 d_M_reach_5 (by decide) (fun _ => ?_) (fun h => absurd ((lg_cmp_le _ _).mpr hle) h)
    refine s_iload_n F d_M_reach_24 rfl ?_
    exact s_iret F hR d_M_reach_25 (⟨se, pa, rfl, zMk.rf, ⟨w1, w3⟩, Or.inl ⟨rfl, rfl, fun q hq hrq => absurd hrq.1 hs⟩⟩)
set_option maxRecDepth 4000 in
theorem c_M_keep {g : zG} {z : Nat} {μ : zMem} {T : Ts} (hz : MOb g z) (hT : InvT T) (hK : RepMH μ z T) {n : Nat} (hn : n ≤ 2000) : zC g y_M_keep b_M_keep 4 none 2 61 [.ref z, .int (nI n)] μ (zV (fun μ' => RepMH μ' z (wrF T n) ∧ zOut z 81 μ μ')) := by
  refine zC.of (by decide) (Nat.le_of_ble_eq_true rfl) [some (.ref z), some (.int (nI n)), none, none] rfl rfl (fun x F hR => ?_)
  have F : zF g x b_M_keep R_M 4 2 61 := F
  have tail : ∀ (μ1 : zMem) (sf : St) (wl : List (St × Nat)) (v2 v3 : Option Value), RepMH μ1 z (T.1, T.1, sf, wl, T.2.2.2.2 + (nI n).toInt64) → zOut z 81 μ μ1 → wl.length < 8 → (T.1, T.1, sf, wl ++ [(T.1, n)], T.2.2.2.2 + (nI n).toInt64) = wrF T n → PW g x μ1 91 [some (.ref z), some (.int (nI n)), v2, v3] [] := by
    intro μ1 sf wl v2 v3 hK1 hO1 hw hE
    obtain ⟨k1, k2, k3, k4, k5, π, ⟨p1, p2⟩, k7⟩ := hK1
    obtain ⟨hp, hpa⟩ := p1 wl.length hw
    have hAw := mz_a hz (π wl.length) hp
    refine s_aload_n F d_M_keep_91 rfl ?_
    refine g_M_22 F d_M_keep_92 (mz_0 hz) ?_
    refine s_aload_n F d_M_keep_95 rfl ?_
    refine g_M_98 F d_M_keep_96 (mz_0 hz) (k4) ?_
    refine s_aldM F d_M_keep_99 (mz_22 hz) (by omega) (by decide) (hpa) ?_
    refine s_aload_n F d_M_keep_100 rfl ?_
    refine g_M_10 F d_M_keep_101 (mz_0 hz) ?_
    refine c_Vv F (c_MS_copy hAw (mz_1 hz) (by omega) hT.1 k1) ok_MS_copy k_391 (ci := 1) rfl (oMS (ms_0 hAw)) rfl rfl rfl (Nat.le_of_ble_eq_true rfl) (by decide) d_M_keep_104 (fun μ2 hq => ?_)
    obtain ⟨q1, q2⟩ := hq
    have w2 : μ2.1 z 0 = nI wl.length := by rw [(q2 z (by omega)).1]; exact k4
    have w3 : μ2.2.2 (z + 22) wl.length = some (z + 25 + 7 * π wl.length) := by rw [(q2 (z + 22) (by omega)).2.2]; exact hpa
    refine s_aload_n F d_M_keep_107 rfl ?_
    refine g_M_22 F d_M_keep_108 (mz_0 hz) ?_
    refine s_aload_n F d_M_keep_111 rfl ?_
    refine g_M_98 F d_M_keep_112 (mz_0 hz) (w2) ?_
    refine s_aldM F d_M_keep_115 (mz_22 hz) (by omega) (by decide) (w3) ?_
    refine s_iload_n F d_M_keep_116 rfl ?_
    refine p_M_101 F d_M_keep_117 (ms_0 hAw) ?_
    refine s_aload_n F d_M_keep_120 rfl ?_
    refine s_dup F d_M_keep_121 rfl ?_
    refine g_M_98 F d_M_keep_122 (mz_0 hz) ((mI_ne _ _ (Or.inl (by omega))).trans w2) ?_
    refine n_iconst F (n := 1) d_M_keep_125 ?_
    refine n_iadd F d_M_keep_126 ?_
    refine p_M_98 F d_M_keep_127 (mz_0 hz) ?_
    have same : ∀ a, z < a → (a < z + 25 + 7 * π wl.length ∨ z + 25 + 7 * π wl.length + 7 ≤ a) → (mI (mI μ2 (z + 25 + 7 * π wl.length) 1 (nI n)) z 0 (nI (wl.length + 1))).1 a = μ1.1 a ∧ (mI (mI μ2 (z + 25 + 7 * π wl.length) 1 (nI n)) z 0 (nI (wl.length + 1))).2.1 a = μ1.2.1 a := fun a h1 h2 => ⟨by rw [mI_o _ _ _ (by omega), mI_o _ _ _ (by omega), (q2 a (by omega)).1], by rw [mI_2, mI_2, (q2 a (by omega)).2.1]⟩
    refine s_vret F hR d_M_keep_130 ?_
    refine ⟨rfl, ?_, ?_⟩
    · rw [← hE]
      refine ⟨k1.cgA (fun a h1 h2 => (same a (by omega) (by omega)).1) (fun a h1 h2 => (same a (by omega) (by omega)).2), k2.cgA (fun a h1 h2 => (same a (by omega) (by omega)).1) (fun a h1 h2 => (same a (by omega) (by omega)).2), k3.cgA (fun a h1 h2 => (same a (by omega) (by omega)).1) (fun a h1 h2 => (same a (by omega) (by omega)).2), ?_, ?_, π, ⟨fun k hk => ⟨(p1 k hk).1, ?_⟩, p2⟩, fun k e he => ?_⟩
      · rw [mI_eq, List.length_append]; rfl
      · rw [mI_ne _ _ (Or.inr (by omega)), mI_ne _ _ (Or.inl (by omega)), (q2 z (by omega)).1]; exact k5
      · rw [mI_2, mI_2, (q2 (z + 22) (by omega)).2.2]
        exact (p1 k hk).2
      · have hkl := (List.getElem?_eq_some_iff.mp he).1
        simp only [List.length_append, List.length_cons, List.length_nil] at hkl
        by_cases hkw : k < wl.length
        · dsimp only at he
          rw [List.getElem?_append_left hkw] at he
          obtain ⟨a1, a2⟩ := k7 k e he
          have hne : π k ≠ π wl.length := fun q => by have := p2 k wl.length (by omega) hw q; omega
          refine ⟨a1.cgA (fun a h1 h2 => (same a (by omega) (by omega)).1) (fun a h1 h2 => (same a (by omega) (by omega)).2), ?_⟩
          rw [(same _ (by omega) (by omega)).1]
          exact a2
        · have : k = wl.length := by omega
          subst this
          dsimp only at he
          simp at he
          subst he
          refine ⟨q1.cg ?_ (fun a h1 h2 => ?_) (fun a h1 h2 => ?_), ?_⟩
          · rw [mI_ne _ _ (Or.inl (by omega)), mI_ne _ _ (Or.inr (by omega))]
          · rw [mI_o _ _ _ (by omega), mI_o _ _ _ (by omega)]
          · rfl
          · rw [mI_ne _ _ (Or.inl (by omega)), mI_eq]
    · exact ((hO1.tr (q2.mono (by omega) (by omega))).mI (by omega) (by omega)).mI (by omega) (by omega)
  obtain ⟨t1, t2, t3, t4, t5⟩ := hT
  obtain ⟨k1, k2, k3, k4, k5, π, ⟨p1, p2⟩, k7⟩ := hK
  refine s_aload_n F d_M_keep_0 rfl ?_
  refine g_M_16 F d_M_keep_1 (mz_0 hz) ?_
  refine s_aload_n F d_M_keep_4 rfl ?_
  refine g_M_10 F d_M_keep_5 (mz_0 hz) ?_
  refine c_Vv F (c_MS_copy (mz_8 hz) (mz_1 hz) (by omega) t1 k1) ok_MS_copy k_391 (ci := 1) rfl (oMS (ms_0 (mz_8 hz))) rfl rfl rfl (Nat.le_of_ble_eq_true rfl) (by decide) d_M_keep_8 (fun μ0 hq => ?_)
  obtain ⟨q1, q2⟩ := hq
  have l0 : μ0.1 z 1 = T.2.2.2.2.toInt32 := by rw [(q2 z (by omega)).1]; exact k5
  have w0 : μ0.1 z 0 = nI T.2.2.2.1.length := by rw [(q2 z (by omega)).1]; exact k4
  refine s_aload_n F d_M_keep_11 rfl ?_
  refine s_dup F d_M_keep_12 rfl ?_
  refine g_M_95 F d_M_keep_13 (mz_0 hz) (l0) ?_
  refine s_iload_n F d_M_keep_16 rfl ?_
  refine s_iadd F d_M_keep_17 ?_
  refine p_M_95 F d_M_keep_18 (mz_0 hz) ?_
  refine s_aload_n F d_M_keep_21 rfl ?_
  refine g_M_98 F d_M_keep_22 (mz_0 hz) ((mI_ne _ _ (Or.inr (by omega))).trans w0) ?_
  refine n_bipush F (n := 8) d_M_keep_25 rfl ?_
  have hlog : (T.2.2.2.2 + (nI n).toInt64).toInt32 = T.2.2.2.2.toInt32 + nI n := by rw [Int64.toInt32_add, Int32.toInt32_toInt64]
  have same : ∀ a, z < a → (a < z + 8 ∨ z + 15 ≤ a) → (mI μ0 z 1 (T.2.2.2.2.toInt32 + nI n)).1 a = μ.1 a ∧ (mI μ0 z 1 (T.2.2.2.2.toInt32 + nI n)).2.1 a = μ.2.1 a ∧ (mI μ0 z 1 (T.2.2.2.2.toInt32 + nI n)).2.2 a = μ.2.2 a := fun a h1 h2 => ⟨by rw [mI_o _ _ _ (by omega), (q2 a (by omega)).1], by rw [mI_2, (q2 a (by omega)).2.1], by rw [mI_2, (q2 a (by omega)).2.2]⟩
  have hK1 : RepMH (mI μ0 z 1 (T.2.2.2.2.toInt32 + nI n)) z (T.1, T.1, T.2.2.1, T.2.2.2.1, T.2.2.2.2 + (nI n).toInt64) := by
    refine ⟨k1.cgA (fun a h1 h2 => (same a (by omega) (by omega)).1) (fun a h1 h2 => (same a (by omega) (by omega)).2.1), q1.cgA (fun a h1 h2 => mI_o _ _ _ (by omega)) (fun a h1 h2 => rfl), k3.cgA (fun a h1 h2 => (same a (by omega) (by omega)).1) (fun a h1 h2 => (same a (by omega) (by omega)).2.1), by rw [mI_ne _ _ (Or.inr (by omega))]; exact w0, by rw [mI_eq]; exact hlog.symm, π, ⟨fun k hk => ⟨(p1 k hk).1, by rw [(same _ (by omega) (by omega)).2.2]; exact (p1 k hk).2⟩, p2⟩, fun k e he => ⟨(k7 k e he).1.cgA (fun a h1 h2 => (same a (by omega) (by omega)).1) (fun a h1 h2 => (same a (by omega) (by omega)).2.1), by rw [(same _ (by omega) (by omega)).1]; exact (k7 k e he).2⟩⟩
  have hO1 : zOut z 81 μ (mI μ0 z 1 (T.2.2.2.2.toInt32 + nI n)) := ((q2.mono (by omega) (by omega)) : zOut z 81 μ μ0).mI (by omega) (by omega)
  refine n_icmp_ne F 91 d_M_keep_27 (by decide) (by omega) (by omega) (fun h1 => ?_) (fun h1 => ?_)
  · refine tail _ T.2.2.1 T.2.2.2.1 none none hK1 hO1 (by omega) ?_
    unfold wrF
    cases hw : T.2.2.2.1 with
    | nil => rfl
    | cons e r =>
      dsimp only
      rw [if_neg (by rw [hw, List.length_cons] at h1; omega)]
  · generalize (mI μ0 z 1 (T.2.2.2.2.toInt32 + nI n)) = μ1 at hK1 hO1 ⊢
    cases hw : T.2.2.2.1 with
    | nil => rw [hw] at h1; simp at h1
    | cons e r =>
    rw [hw] at h1 t4 t5 hK1
    rw [List.length_cons] at h1
    have hr : r.length = 7 := by omega
    obtain ⟨k1, k2, k3, k4, k5, π, ⟨p1, p2⟩, k7⟩ := hK1
    obtain ⟨e1, e2⟩ := k7 0 e rfl
    obtain ⟨hp0, hpa0⟩ := p1 0 (by omega)
    have hA0 := mz_a hz (π 0) hp0
    refine s_aload_n F d_M_keep_30 rfl ?_
    refine g_M_22 F d_M_keep_31 (mz_0 hz) ?_
    refine n_iconst F (n := 0) d_M_keep_34 ?_
    refine s_aldM F d_M_keep_35 (mz_22 hz) (by omega) (by decide) (hpa0) ?_
    refine s_astore_n F d_M_keep_36 (Nat.le_of_ble_eq_true rfl) rfl rfl ?_
    refine s_aload_n F d_M_keep_37 rfl ?_
    refine g_M_19 F d_M_keep_38 (mz_0 hz) ?_
    refine s_aload_n F d_M_keep_41 rfl ?_
    refine c_Vv F (c_MS_copy (mz_15 hz) hA0 (by omega) (t5 e (by simp)).1 e1) ok_MS_copy k_391 (ci := 1) rfl (oMS (ms_0 (mz_15 hz))) rfl rfl rfl (Nat.le_of_ble_eq_true rfl) (by decide) d_M_keep_42 (fun μ2 hq => ?_)
    obtain ⟨r1, r2⟩ := hq
    refine n_iconst F (n := 1) d_M_keep_45 ?_
    refine s_istore_n F d_M_keep_46 (Nat.le_of_ble_eq_true rfl) rfl rfl ?_
    refine lpU (σ := zMem) 7 (fun k s => PW g x s 47 [some (.ref z), some (.int (nI n)), some (.ref (z + 25 + 7 * π 0)), some (.int (nI (1 + k)))] []) (fun k s => zOut z 81 μ s ∧ s.1 = μ2.1 ∧ s.2.1 = μ2.2.1 ∧ (∀ i, i < 8 → s.2.2 (z + 22) i = some (z + 25 + 7 * (if i < k then π (i + 1) else π i)))) (fun k s hk hI ih => ?_) 0 μ2 (Nat.zero_le _) ⟨hO1.tr (r2.mono (by omega) (by omega)), rfl, rfl, fun i hi => by rw [(r2 (z + 22) (by omega)).2.2, if_neg (Nat.not_lt_zero i)]; exact (p1 i hi).2⟩
    obtain ⟨i1, i2, i4, i5⟩ := hI
    refine s_iload_n F d_M_keep_47 rfl ?_
    refine n_bipush F (n := 8) d_M_keep_48 rfl ?_
    refine n_icmp_ge F 73 d_M_keep_50 (by decide) (by omega) (by omega) (fun h2 => ?_) (fun h2 => ?_)
    · have hk7 : k = 7 := by omega
      subst hk7
      have w8 : s.1 z 0 = nI 8 := by rw [i2, (r2 z (by omega)).1, k4, List.length_cons, hr]
      refine s_aload_n F d_M_keep_73 rfl ?_
      refine g_M_22 F d_M_keep_74 (mz_0 hz) ?_
      refine n_bipush F (n := 7) d_M_keep_77 rfl ?_
      refine s_aload_n F d_M_keep_79 rfl ?_
      refine s_astM F d_M_keep_80 (mz_22 hz) (by omega) (by decide) (ms_0 hA0) ?_
      refine s_aload_n F d_M_keep_81 rfl ?_
      refine s_dup F d_M_keep_82 rfl ?_
      refine g_M_98 F d_M_keep_83 (mz_0 hz) (w8) ?_
      refine n_iconst F (n := 1) d_M_keep_86 ?_
      refine n_isub F d_M_keep_87 (by omega) ?_
      refine p_M_98 F d_M_keep_88 (mz_0 hz) ?_
      have s1 : ∀ a, z < a → (mI (mR s (z + 22) 7 (some (z + 25 + 7 * π 0))) z 0 (nI (8 - 1))).1 a = μ2.1 a := fun a h => by rw [mI_o _ _ _ (by omega), mR_i, i2]
      have s2 : ∀ a, (mI (mR s (z + 22) 7 (some (z + 25 + 7 * π 0))) z 0 (nI (8 - 1))).2.1 a = μ2.2.1 a := fun a => by rw [mI_2, mR_l, i4]
      refine tail _ e.1 r (some (.ref (z + 25 + 7 * π 0))) (some (.int (nI (1 + 7)))) ⟨?_, ?_, ?_, ?_, ?_, fun i => if i < 7 then π (i + 1) else π 0, ⟨fun i hi => ?_, fun i j hi hj hij => ?_⟩, fun i f hf => ?_⟩ ((i1.mR (by omega) (by omega)).mI (by omega) (by omega)) (by omega) ?_
      · exact (k1.out r2 (by omega)).cgA (fun a h1 h2 => s1 a (by omega)) (fun a h1 h2 => s2 a)
      · exact (k2.out r2 (by omega)).cgA (fun a h1 h2 => s1 a (by omega)) (fun a h1 h2 => s2 a)
      · exact r1.cgA (fun a h1 h2 => s1 a (by omega)) (fun a h1 h2 => s2 a)
      · rw [mI_eq]; exact congrArg nI hr.symm
      · rw [mI_ne _ _ (Or.inr (by omega)), mR_i, i2, (r2 z (by omega)).1]; exact k5
      · dsimp only
        rw [mI_2]
        by_cases h7 : i < 7
        · rw [if_pos h7, mR_ne _ _ (Or.inr (by omega)), i5 i hi, if_pos h7]
          exact ⟨(p1 (i + 1) (by omega)).1, rfl⟩
        · have : i = 7 := by omega
          subst this
          rw [if_neg (by omega), mR_eq]
          exact ⟨hp0, rfl⟩
      · dsimp only at hij
        by_cases h7 : i < 7 <;> by_cases h8 : j < 7
        · rw [if_pos h7, if_pos h8] at hij
          have := p2 _ _ (by omega) (by omega) hij
          omega
        · rw [if_pos h7, if_neg h8] at hij
          have := p2 _ _ (by omega) (by omega) hij
          omega
        · rw [if_neg h7, if_pos h8] at hij
          have := p2 _ _ (by omega) (by omega) hij
          omega
        · omega
      · dsimp only at hf ⊢
        have hil := (List.getElem?_eq_some_iff.mp hf).1
        obtain ⟨a1, a2⟩ := k7 (i + 1) f (by rw [List.getElem?_cons_succ]; exact hf)
        rw [if_pos (by omega)]
        refine ⟨(a1.out r2 (by omega)).cgA (fun a h1 h2 => s1 a (by omega)) (fun a h1 h2 => s2 a), ?_⟩
        rw [s1 _ (by omega), (r2 _ (by omega)).1]
        exact a2
      · unfold wrF
        rw [hw]
        dsimp only
        rw [if_pos hr]
    · have h2 : k < 7 := by omega
      have hA1 := mz_a hz (π (k + 1)) (p1 (k + 1) (by omega)).1
      have b0 : s.2.2 (z + 22) (1 + k) = some (z + 25 + 7 * π (k + 1)) := by have := i5 (k + 1) (by omega); rw [if_neg (by omega)] at this; rw [Nat.add_comm 1 k]; exact this
      refine s_aload_n F d_M_keep_53 rfl ?_
      refine g_M_22 F d_M_keep_54 (mz_0 hz) ?_
      refine s_iload_n F d_M_keep_57 rfl ?_
      refine n_iconst F (n := 1) d_M_keep_58 ?_
      refine n_isub F d_M_keep_59 (by omega) ?_
      refine s_aload_n F d_M_keep_60 rfl ?_
      refine g_M_22 F d_M_keep_61 (mz_0 hz) ?_
      refine s_iload_n F d_M_keep_64 rfl ?_
      refine s_aldM F d_M_keep_65 (mz_22 hz) (by omega) (by decide) (b0) ?_
      refine s_astM F d_M_keep_66 (mz_22 hz) (by omega) (by decide) (ms_0 hA1) ?_
      refine n_iinc F (n := 1) d_M_keep_67 rfl rfl rfl ?_
      refine s_goto F 47 d_M_keep_70 (by decide) ?_
      refine ih h2 _ ⟨i1.mR (by omega) (by omega), i2, i4, fun i hi => ?_⟩
      by_cases e : i = k
      · subst e
        rw [Nat.add_sub_cancel_left, mR_eq, if_pos (by omega)]
      · rw [mR_ne _ _ (Or.inr (by omega)), i5 i hi]
        by_cases h3 : i < k
        · rw [if_pos h3, if_pos (by omega)]
        · rw [if_neg h3, if_neg (by omega)]
set_option maxRecDepth 4000 in
theorem c_M_commit {g : zG} {z : Nat} {μ : zMem} {T : Ts} (hz : MOb g z) (hT : InvT T) (hK : RepMH μ z T) : zC g y_M_commit b_M_commit 2 (some .int) 3 84 [.ref z] μ (zI (fCommit T).1 (fun μ' => RepMH μ' z (fCommit T).2 ∧ zOut z 81 μ μ')) := by
  refine zC.of (by decide) (Nat.le_of_ble_eq_true rfl) [some (.ref z), none] rfl rfl (fun x F hR => ?_)
  have F : zF g x b_M_commit R_M 2 3 84 := F
  have h8 : 8 + (chg T.1 T.2.1 - 8) = chg T.1 T.2.1 := by unfold chg; omega
  refine n_bipush F (n := 8) d_M_commit_0 rfl ?_
  refine s_aload_n F d_M_commit_2 rfl ?_
  refine g_M_10 F d_M_commit_3 (mz_0 hz) ?_
  refine s_aload_n F d_M_commit_6 rfl ?_
  refine g_M_16 F d_M_commit_7 (mz_0 hz) ?_
  refine c_ViR F (c_MS_bytesBehind (mz_1 hz) (mz_8 hz) hT.1 hT.2.1 hK.1 hK.2.1) ok_MS_bytesBehind k_378 (ci := 1) rfl (oMS (ms_0 (mz_1 hz))) rfl rfl rfl (Nat.le_of_ble_eq_true rfl) (by decide) d_M_commit_10 ?_
  refine n_iadd F d_M_commit_13 ?_
  rw [h8]
  refine s_istore_n F d_M_commit_14 (Nat.le_of_ble_eq_true rfl) rfl rfl ?_
  refine s_aload_n F d_M_commit_15 rfl ?_
  refine s_iload_n F d_M_commit_16 rfl ?_
  refine c_Vv F (c_M_keep hz hT hK (chg_le hT.1 hT.2.1)) ok_M_keep k_387 (ci := 3) rfl (oM (mz_0 hz)) rfl rfl rfl (Nat.le_of_ble_eq_true rfl) (by decide) d_M_commit_17 (fun μ' hq => ?_)
  refine s_iload_n F d_M_commit_20 rfl ?_
  exact s_iret F hR d_M_commit_21 (⟨rfl, hq⟩)
set_option maxRecDepth 4000 in
theorem c_M_undo {g : zG} {z : Nat} {μ : zMem} {T : Ts} (hz : MOb g z) (hT : InvT T) (hK : RepMH μ z T) : zC g y_M_undo b_M_undo 2 (some .int) 2 61 [.ref z] μ (zI (fUndo T).1 (fun μ' => RepMH μ' z (fUndo T).2 ∧ zOut z 81 μ μ')) := by
  refine zC.of (by decide) (Nat.le_of_ble_eq_true rfl) [some (.ref z), none] rfl rfl (fun x F hR => ?_)
  have F : zF g x b_M_undo R_M 2 2 61 := F
  refine s_aload_n F d_M_undo_0 rfl ?_
  refine g_M_10 F d_M_undo_1 (mz_0 hz) ?_
  refine s_aload_n F d_M_undo_4 rfl ?_
  refine g_M_16 F d_M_undo_5 (mz_0 hz) ?_
  refine c_ViR F (c_MS_bytesBehind (mz_1 hz) (mz_8 hz) hT.1 hT.2.1 hK.1 hK.2.1) ok_MS_bytesBehind k_378 (ci := 1) rfl (oMS (ms_0 (mz_1 hz))) rfl rfl rfl (Nat.le_of_ble_eq_true rfl) (by decide) d_M_undo_8 ?_
  refine s_istore_n F d_M_undo_11 (Nat.le_of_ble_eq_true rfl) rfl rfl ?_
  refine s_aload_n F d_M_undo_12 rfl ?_
  refine g_M_10 F d_M_undo_13 (mz_0 hz) ?_
  refine s_aload_n F d_M_undo_16 rfl ?_
  refine g_M_16 F d_M_undo_17 (mz_0 hz) ?_
  refine c_Vv F (c_MS_copy (mz_1 hz) (mz_8 hz) (by omega) hT.2.1 hK.2.1) ok_MS_copy k_391 (ci := 1) rfl (oMS (ms_0 (mz_1 hz))) rfl rfl rfl (Nat.le_of_ble_eq_true rfl) (by decide) d_M_undo_20 (fun μ' hq => ?_)
  refine s_iload_n F d_M_undo_23 rfl ?_
  exact s_iret F hR d_M_undo_24 (⟨rfl, hK.nowO hq.2 hq.1, hq.2.mono (by omega) (by omega)⟩)
set_option maxRecDepth 4000 in
theorem c_M_sync {g : zG} {z : Nat} {μ : zMem} {T : Ts} (hz : MOb g z) (hT : InvT T) (hK : RepMH μ z T) : zC g y_M_sync b_M_sync 2 (some .int) 2 61 [.ref z] μ (zI (fSync T).1 (fun μ' => RepMH μ' z (fSync T).2 ∧ zOut z 81 μ μ')) := by
  refine zC.of (by decide) (Nat.le_of_ble_eq_true rfl) [some (.ref z), none] rfl rfl (fun x F hR => ?_)
  have F : zF g x b_M_sync R_M 2 2 61 := F
  obtain ⟨k1, k2, k3, k4, k5, π, k6, k7⟩ := hK
  refine s_aload_n F d_M_sync_0 rfl ?_
  refine g_M_98 F d_M_sync_1 (mz_0 hz) (k4) ?_
  refine s_istore_n F d_M_sync_4 (Nat.le_of_ble_eq_true rfl) rfl rfl ?_
  refine s_aload_n F d_M_sync_5 rfl ?_
  refine g_M_19 F d_M_sync_6 (mz_0 hz) ?_
  refine s_aload_n F d_M_sync_9 rfl ?_
  refine g_M_16 F d_M_sync_10 (mz_0 hz) ?_
  refine c_Vv F (c_MS_copy (mz_15 hz) (mz_8 hz) (by omega) hT.2.1 k2) ok_MS_copy k_391 (ci := 1) rfl (oMS (ms_0 (mz_15 hz))) rfl rfl rfl (Nat.le_of_ble_eq_true rfl) (by decide) d_M_sync_13 (fun μ' hq => ?_)
  obtain ⟨q1, q2⟩ := hq
  refine s_aload_n F d_M_sync_16 rfl ?_
  refine n_iconst F (n := 0) d_M_sync_17 ?_
  refine p_M_98 F d_M_sync_18 (mz_0 hz) ?_
  refine s_iload_n F d_M_sync_21 rfl ?_
  refine s_iret F hR d_M_sync_22 ?_
  refine ⟨rfl, ⟨(k1.out q2 (by omega)).cgA (fun a h1 h2 => mI_o _ _ _ (by omega)) (fun a h1 h2 => rfl), (k2.out q2 (by omega)).cgA (fun a h1 h2 => mI_o _ _ _ (by omega)) (fun a h1 h2 => rfl), q1.cgA (fun a h1 h2 => mI_o _ _ _ (by omega)) (fun a h1 h2 => rfl), ?_, ?_, π, ⟨fun k hk => ⟨(k6.1 k hk).1, ?_⟩, k6.2⟩, fun k e he => ?_⟩, (q2.mono (by omega) (by omega) : zOut z 81 μ μ').mI (by omega) (by omega)⟩
  · rw [mI_eq]; rfl
  · rw [mI_ne _ _ (Or.inr (by omega)), (q2 z (by omega)).1]; exact k5
  · rw [mI_2, (q2 (z + 22) (by omega)).2.2]; exact (k6.1 k hk).2
  · simp [fSync] at he
end
section
set_option maxRecDepth 4000 in
theorem c_M_count {g : zG} {z : Nat} {μ : zMem} {T : Ts} (hz : MOb g z) (hT : InvT T) (hK : RepMH μ z T) (w : Int32) : zC g y_M_count b_M_count 7 (some .int) 0 0 [.ref z, .int w] μ (zI (fCount T w) (zS μ)) := by
  refine zC.of (by decide) (Nat.le_of_ble_eq_true rfl) [some (.ref z), some (.int w), none, none, none, none, none] rfl rfl (fun x F hR => ?_)
  have F : zF g x b_M_count R_M 7 0 0 := F
  obtain ⟨k1, k2, k3, k4, k5, π, k6, k7⟩ := hK
  refine n_iconst F (n := 0) d_M_count_0 ?_
  refine s_istore_n F d_M_count_1 (Nat.le_of_ble_eq_true rfl) rfl rfl ?_
  refine s_iload_n F d_M_count_2 rfl ?_
  rcases sw4 w with rfl | rfl | rfl | rfl | h
  · refine s_tableIn F (off := 29) 32 d_M_count_3 (by decide) (by decide) (by decide) (by decide) ?_
    refine s_aload_n F d_M_count_32 rfl ?_
    refine g_M_10 F d_M_count_33 (mz_0 hz) ?_
    refine g_M_40 F d_M_count_36 (ms_0 (mz_1 hz)) ?_
    refine s_astore_n F d_M_count_39 (Nat.le_of_ble_eq_true rfl) rfl rfl ?_
    refine s_aload_n F d_M_count_40 rfl ?_
    refine s_alen F d_M_count_41 (ms_1 (mz_1 hz)) ?_
    refine s_istore F d_M_count_42 (Nat.le_of_ble_eq_true rfl) rfl rfl ?_
    refine n_iconst F (n := 0) d_M_count_44 ?_
    refine s_istore F d_M_count_45 (Nat.le_of_ble_eq_true rfl) rfl rfl ?_
    refine lpU (σ := Option Value) 100 (fun k v => PW g x μ 47 [some (.ref z), some (.int 0), some (.int (nI (cnt (fun o => decide (T.1.1 o ≠ 0)) k))), some (.ref (z + 1 + 1)), some (.int (nI 100)), some (.int (nI k)), v] []) (fun k _ => True) (fun k v hk hI ih => ?_) 0 none (Nat.zero_le _) trivial
    refine s_iload F d_M_count_47 rfl ?_
    refine s_iload F d_M_count_49 rfl ?_
    refine n_icmp_ge F 74 d_M_count_51 (by decide) (by omega) (by omega) (fun h1 => ?_) (fun h2 => ?_)
    · have e : k = 100 := by omega
      subst e
      refine s_iload_n F d_M_count_74 rfl ?_
      exact s_iret F hR d_M_count_75 (⟨rfl, rfl⟩)
    · have hkd := hT.1.kd h2
      have ih := ih h2 (some (.int (nI (T.1.1 k)))) trivial
      refine s_aload_n F d_M_count_54 rfl ?_
      refine s_iload F d_M_count_55 rfl ?_
      refine s_iald F d_M_count_57 (ms_1 (mz_1 hz)) (by omega) (by decide) (k1.kd h2) ?_
      refine s_istore F d_M_count_58 (Nat.le_of_ble_eq_true rfl) rfl rfl ?_
      refine s_iload F d_M_count_60 rfl ?_
      refine n_if_eq F 68 d_M_count_62 (by decide) (by omega) (fun h3 => ?_) (fun h3 => ?_)
      · rw [cnt_f (by simp [h3])] at ih
        refine n_iinc F (n := 1) d_M_count_68 rfl rfl rfl ?_
        refine s_goto F 47 d_M_count_71 (by decide) ?_
        exact ih
      · rw [cnt_t (by simp [h3])] at ih
        refine n_iinc F (n := 1) d_M_count_65 rfl rfl rfl ?_
        refine n_iinc F (n := 1) d_M_count_68 rfl rfl rfl ?_
        refine s_goto F 47 d_M_count_71 (by decide) ?_
        exact ih
  · refine s_tableIn F (off := 73) 76 d_M_count_3 (by decide) (by decide) (by decide) (by decide) ?_
    refine s_aload_n F d_M_count_76 rfl ?_
    refine g_M_10 F d_M_count_77 (mz_0 hz) ?_
    refine g_M_82 F d_M_count_80 (ms_0 (mz_1 hz)) (k1.rs) ?_
    exact s_iret F hR d_M_count_83 (⟨rfl, rfl⟩)
  · refine s_tableIn F (off := 81) 84 d_M_count_3 (by decide) (by decide) (by decide) (by decide) ?_
    refine s_aload_n F d_M_count_84 rfl ?_
    refine g_M_98 F d_M_count_85 (mz_0 hz) (k4) ?_
    exact s_iret F hR d_M_count_88 (⟨rfl, rfl⟩)
  · refine s_tableIn F (off := 86) 89 d_M_count_3 (by decide) (by decide) (by decide) (by decide) ?_
    refine s_aload_n F d_M_count_89 rfl ?_
    refine g_M_95 F d_M_count_90 (mz_0 hz) (k5) ?_
    exact s_iret F hR d_M_count_93 (⟨rfl, rfl⟩)
  · refine s_tableOut F 94 d_M_count_3 h (by decide) ?_
    have e : fCount T w = -1 := by
      unfold fCount
      rw [if_neg (by rintro rfl; revert h; decide), if_neg (by rintro rfl; revert h; decide), if_neg (by rintro rfl; revert h; decide), if_neg (by rintro rfl; revert h; decide)]
    refine n_iconst_m1 F d_M_count_94 ?_
    exact s_iret F hR d_M_count_95 (⟨by rw [e], rfl⟩)
set_option maxRecDepth 4000 in
theorem c_M_crash {g : zG} {z : Nat} {μ : zMem} {T : Ts} (hz : MOb g z) (hT : InvT T) (hK : RepMH μ z T) (n : Int32) : zC g y_M_crash b_M_crash 6 (some .int) 2 61 [.ref z, .int n] μ (zI (fCrash T n).1 (fun μ' => RepMH μ' z (fCrash T n).2 ∧ zOut z 81 μ μ')) := by
  refine zC.of (by decide) (Nat.le_of_ble_eq_true rfl) [some (.ref z), some (.int n), none, none, none, none] rfl rfl (fun x F hR => ?_)
  have F : zF g x b_M_crash R_M 6 2 61 := F
  refine s_iload_n F d_M_crash_0 rfl ?_
  refine s_if_ge F 6 d_M_crash_1 (by decide) (fun h0 => ?_) (fun h0 => ?_)
  rotate_left
  · have e : fCrash T n = (-1, T) := by unfold fCrash; rw [if_pos (Int32.not_le.mp h0)]
    refine n_iconst_m1 F d_M_crash_4 ?_
    exact s_iret F hR d_M_crash_5 (⟨by rw [e], by rw [e]; exact ⟨hK, zOut.rf⟩⟩)
  obtain ⟨m, hm, rfl⟩ := nI_of (Int32.not_lt.mpr h0)
  have eC : fCrash T (nI m) = (nI (cr T.2.2.2.1 m), crT T (cr T.2.2.2.1 m)) := by unfold fCrash; rw [if_neg (nI_pos hm), nI_clamp hm]
  obtain ⟨t1, t2, t3, t4, t5⟩ := hT
  obtain ⟨k1, k2, k3, k4, k5, π, ⟨p1, p2⟩, k7⟩ := hK
  refine n_iconst F (n := 0) d_M_crash_6 ?_
  refine s_istore_n F d_M_crash_7 (Nat.le_of_ble_eq_true rfl) rfl rfl ?_
  refine s_lconst F (v := 0) d_M_crash_8 rfl ?_
  refine s_lstore_n F d_M_crash_9 (Nat.le_of_ble_eq_true rfl) rfl rfl ?_
  refine lpU (σ := Nat) T.2.2.2.1.length (fun k s => PW g x μ 10 [some (.ref z), some (.int (nI m)), some (.int (nI k)), some (.long (lN (m - s))), none, none] []) (fun k s => s ≤ m ∧ cr T.2.2.2.1 m = k + cr (T.2.2.2.1.drop k) s) (fun k s hk hI ih => ?_) 0 m (Nat.zero_le _) ⟨Nat.le_refl _, by rw [List.drop_zero, Nat.zero_add]⟩ |>.eq rfl rfl (by rw [Nat.sub_self]; rfl) rfl
  obtain ⟨hs, hcr⟩ := hI
  have fin : k = cr T.2.2.2.1 m → PW g x μ 55 [some (.ref z), some (.int (nI m)), some (.int (nI k)), some (.long (lN (m - s))), none, none] [] := by
    intro hkk
    rw [← hkk] at eC
    refine s_iload_n F d_M_crash_55 rfl ?_
    refine s_istore F d_M_crash_56 (Nat.le_of_ble_eq_true rfl) rfl rfl ?_
    refine lpU (σ := zMem) T.2.2.2.1.length (fun i s1 => PW g x s1 58 [some (.ref z), some (.int (nI m)), some (.int (nI k)), some (.long (lN (m - s))), none, some (.int (nI i))] []) (fun i s1 => (∀ a, a ≠ z → s1.1 a = μ.1 a) ∧ s1.1 z 0 = μ.1 z 0 ∧ s1.2 = μ.2 ∧ ∃ lg : Int64, s1.1 z 1 = lg.toInt32 ∧ lsub T.2.2.2.2 (T.2.2.2.1.drop k) = lsub lg (T.2.2.2.1.drop i)) (fun i s1 hi hI jh => ?_) k μ hk ⟨fun _ _ => rfl, rfl, rfl, T.2.2.2.2, k5, rfl⟩
    obtain ⟨i1, i2, i3, lg, i4, i5⟩ := hI
    refine s_iload F d_M_crash_58 rfl ?_
    refine s_aload_n F d_M_crash_60 rfl ?_
    refine g_M_98 F d_M_crash_61 (mz_0 hz) (i2.trans k4) ?_
    refine n_icmp_ge F 92 d_M_crash_64 (by decide) (by omega) (by omega) (fun h2 => ?_) (fun h2 => ?_)
    rotate_left
    · obtain ⟨e, he⟩ : ∃ e, T.2.2.2.1[i]? = some e := ⟨_, List.getElem?_eq_getElem h2⟩
      obtain ⟨hp, hpa⟩ := p1 i (by omega)
      have hAi := mz_a hz (π i) hp
      have b0 : s1.2.2 (z + 22) i = some (z + 25 + 7 * π i) := by rw [i3]; exact hpa
      have b1 : s1.1 (z + 25 + 7 * π i) 1 = nI e.2 := by rw [i1 _ (by omega)]; exact (k7 i e he).2
      refine s_aload_n F d_M_crash_67 rfl ?_
      refine s_dup F d_M_crash_68 rfl ?_
      refine g_M_95 F d_M_crash_69 (mz_0 hz) (i4) ?_
      refine s_aload_n F d_M_crash_72 rfl ?_
      refine g_M_22 F d_M_crash_73 (mz_0 hz) ?_
      refine s_iload F d_M_crash_76 rfl ?_
      refine s_aldM F d_M_crash_78 (mz_22 hz) (by omega) (by decide) (b0) ?_
      refine g_M_101 F d_M_crash_79 (ms_0 hAi) (b1) ?_
      refine s_isub F d_M_crash_82 ?_
      refine p_M_95 F d_M_crash_83 (mz_0 hz) ?_
      refine n_iinc F (n := 1) d_M_crash_86 rfl rfl rfl ?_
      refine s_goto F 58 d_M_crash_89 (by decide) ?_
      refine jh h2 _ ⟨fun a ha => by rw [mI_o _ _ _ ha]; exact i1 a ha, by rw [mI_ne _ _ (Or.inr (by omega))]; exact i2, i3, lg - (nI e.2).toInt64, ?_, ?_⟩
      · rw [mI_eq, Int64.toInt32_sub, Int32.toInt32_toInt64]
      · rw [i5, drop_cons he]; rfl
    have hi2 : i = T.2.2.2.1.length := by omega
    subst hi2
    rw [List.drop_length] at i5
    have hz1 : zOut z 81 μ s1 := fun a ha => ⟨i1 a (by omega), by rw [i3], by rw [i3]⟩
    have hInv : Inv (sfF T k) := by
      unfold sfF
      cases k with
      | zero => exact t3
      | succ i =>
        dsimp only
        cases he : T.2.2.2.1[i]? with
        | none => exact t3
        | some e => exact (t5 e (List.mem_of_getElem? he)).1
    have fin2 : ∀ μ1 : zMem, RepM μ1 (z + 15) (sfF T k) → zOut (z + 15) 7 s1 μ1 → PW g x μ1 111 [some (.ref z), some (.int (nI m)), some (.int (nI k)), some (.long (lN (m - s))), none, some (.int (nI T.2.2.2.1.length))] [] := by
      intro μ1 hs1 hO1
      refine s_aload_n F d_M_crash_111 rfl ?_
      refine g_M_10 F d_M_crash_112 (mz_0 hz) ?_
      refine s_aload_n F d_M_crash_115 rfl ?_
      refine g_M_19 F d_M_crash_116 (mz_0 hz) ?_
      refine c_Vv F (c_MS_copy (mz_1 hz) (mz_15 hz) (by omega) hInv hs1) ok_MS_copy k_391 (ci := 1) rfl (oMS (ms_0 (mz_1 hz))) rfl rfl rfl (Nat.le_of_ble_eq_true rfl) (by decide) d_M_crash_119 (fun μ2 hq => ?_)
      have hs3 := hs1.out hq.2 (by omega)
      refine s_aload_n F d_M_crash_122 rfl ?_
      refine g_M_16 F d_M_crash_123 (mz_0 hz) ?_
      refine s_aload_n F d_M_crash_126 rfl ?_
      refine g_M_19 F d_M_crash_127 (mz_0 hz) ?_
      refine c_Vv F (c_MS_copy (mz_8 hz) (mz_15 hz) (by omega) hInv hs3) ok_MS_copy k_391 (ci := 1) rfl (oMS (ms_0 (mz_8 hz))) rfl rfl rfl (Nat.le_of_ble_eq_true rfl) (by decide) d_M_crash_130 (fun μ3 hr => ?_)
      have hs4 := hs3.out hr.2 (by omega)
      have hn4 := hq.1.out hr.2 (by omega)
      refine s_aload_n F d_M_crash_133 rfl ?_
      refine n_iconst F (n := 0) d_M_crash_134 ?_
      refine p_M_98 F d_M_crash_135 (mz_0 hz) ?_
      refine s_iload_n F d_M_crash_138 rfl ?_
      refine s_iret F hR d_M_crash_139 ?_
      refine ⟨by rw [eC], ?_, (((hz1.tr (hO1.mono (by omega) (by omega))).tr (hq.2.mono (by omega) (by omega))).tr (hr.2.mono (by omega) (by omega))).mI (by omega) (by omega)⟩
      rw [eC]
      refine ⟨hn4.cgA (fun a h1 h2 => mI_o _ _ _ (by omega)) (fun _ _ _ => rfl), hr.1.cgA (fun a h1 h2 => mI_o _ _ _ (by omega)) (fun _ _ _ => rfl), hs4.cgA (fun a h1 h2 => mI_o _ _ _ (by omega)) (fun _ _ _ => rfl), by rw [mI_eq]; rfl, ?_, π, ⟨fun q hq1 => ⟨(p1 q hq1).1, ?_⟩, p2⟩, fun q e he => by simp [crT] at he⟩
      · rw [mI_ne _ _ (Or.inr (by omega)), (hr.2 z (by omega)).1, (hq.2 z (by omega)).1, (hO1 z (by omega)).1, i4]
        show lg.toInt32 = (lsub T.2.2.2.2 (T.2.2.2.1.drop k)).toInt32
        rw [i5]
        rfl
      · rw [mI_2, (hr.2 (z + 22) (by omega)).2.2, (hq.2 (z + 22) (by omega)).2.2, (hO1 (z + 22) (by omega)).2.2, i3]
        exact (p1 q hq1).2
    refine s_iload_n F d_M_crash_92 rfl ?_
    refine n_if_le F 111 d_M_crash_93 (by decide) (by omega) (fun h3 => ?_) (fun h3 => ?_)
    · have hsf : sfF T k = T.2.2.1 := by rw [h3]; rfl
      exact fin2 s1 (by rw [hsf]; exact k3.cgA (fun a h1 h2 => i1 a (by omega)) (fun a h1 h2 => by rw [i3])) zOut.rf
    · obtain ⟨e, he⟩ : ∃ e, T.2.2.2.1[k - 1]? = some e := ⟨_, List.getElem?_eq_getElem (by omega)⟩
      have hsf : sfF T k = e.1 := by
        obtain ⟨i, rfl⟩ : ∃ i, k = i + 1 := ⟨k - 1, by omega⟩
        simp only [Nat.add_sub_cancel] at he
        simp [sfF, he]
      obtain ⟨a1, -⟩ := k7 (k - 1) e he
      obtain ⟨hp, hpa⟩ := p1 (k - 1) (by omega)
      have hAs := mz_a hz (π (k - 1)) hp
      have b0 : s1.2.2 (z + 22) (k - 1) = some (z + 25 + 7 * π (k - 1)) := by rw [i3]; exact hpa
      have a2 : RepM s1 (z + 25 + 7 * π (k - 1)) e.1 := a1.cgA (fun a h1 h2 => i1 a (by omega)) (fun a h1 h2 => by rw [i3])
      refine s_aload_n F d_M_crash_96 rfl ?_
      refine g_M_19 F d_M_crash_97 (mz_0 hz) ?_
      refine s_aload_n F d_M_crash_100 rfl ?_
      refine g_M_22 F d_M_crash_101 (mz_0 hz) ?_
      refine s_iload_n F d_M_crash_104 rfl ?_
      refine n_iconst F (n := 1) d_M_crash_105 ?_
      refine n_isub F d_M_crash_106 (by omega) ?_
      refine s_aldM F d_M_crash_107 (mz_22 hz) (by omega) (by decide) (b0) ?_
      refine c_Vv F (c_MS_copy (mz_15 hz) hAs (by omega) (t5 e (List.mem_of_getElem? he)).1 a2) ok_MS_copy k_391 (ci := 1) rfl (oMS (ms_0 (mz_15 hz))) rfl rfl rfl (Nat.le_of_ble_eq_true rfl) (by decide) d_M_crash_108 (fun μ' hq => ?_)
      exact fin2 μ' (by rw [hsf]; exact hq.1) hq.2
  refine s_iload_n F d_M_crash_10 rfl ?_
  refine s_aload_n F d_M_crash_11 rfl ?_
  refine g_M_98 F d_M_crash_12 (mz_0 hz) (k4) ?_
  refine n_icmp_ge F 55 d_M_crash_15 (by decide) (by omega) (by omega) (fun h2 => ?_) (fun h2 => ?_)
  · have hk2 : k = T.2.2.2.1.length := by omega
    exact fin (by rw [hcr, hk2, List.drop_length]; rfl)
  obtain ⟨e, he⟩ : ∃ e, T.2.2.2.1[k]? = some e := ⟨_, List.getElem?_eq_getElem h2⟩
  have hb2 := (t5 e (List.mem_of_getElem? he)).2
  obtain ⟨hp, hpa⟩ := p1 k (by omega)
  have hAk := mz_a hz (π k) hp
  have b1 := (k7 k e he).2
  rw [drop_cons he, cr] at hcr
  have hc1 : lN (m - s) + (nI e.2).toInt64 = lN (m - s + e.2) := by rw [nI_l (by omega), lN_add]
  refine s_lload_n F d_M_crash_18 rfl ?_
  refine s_aload_n F d_M_crash_19 rfl ?_
  refine g_M_22 F d_M_crash_20 (mz_0 hz) ?_
  refine s_iload_n F d_M_crash_23 rfl ?_
  refine s_aldM F d_M_crash_24 (mz_22 hz) (by omega) (by decide) (hpa) ?_
  refine g_M_101 F d_M_crash_25 (ms_0 hAk) (b1) ?_
  refine s_i2l F d_M_crash_28 ?_
  refine s_ladd F d_M_crash_29 ?_
  refine s_iload_n F d_M_crash_30 rfl ?_
  refine s_i2l F d_M_crash_31 ?_
  refine s_lcmp F d_M_crash_32 ?_
  refine s_if_gt F 55 d_M_crash_33 (by decide) (fun h3 => ?_) (fun h3 => ?_)
  · rw [lg_cmp_gt, hc1, nI_l hm, pk_lLT (by omega) (by omega)] at h3
    rw [if_neg (by omega)] at hcr
    exact fin hcr.symm
  · rw [lg_cmp_gt, hc1, nI_l hm, pk_lLT (by omega) (by omega)] at h3
    rw [if_pos (by omega)] at hcr
    refine s_lload_n F d_M_crash_36 rfl ?_
    refine s_aload_n F d_M_crash_37 rfl ?_
    refine g_M_22 F d_M_crash_38 (mz_0 hz) ?_
    refine s_iload_n F d_M_crash_41 rfl ?_
    refine s_aldM F d_M_crash_42 (mz_22 hz) (by omega) (by decide) (hpa) ?_
    refine g_M_101 F d_M_crash_43 (ms_0 hAk) (b1) ?_
    refine s_i2l F d_M_crash_46 ?_
    refine s_ladd F d_M_crash_47 ?_
    refine s_vall (hc1.trans (show lN (m - s + e.2) = lN (m - (s - e.2)) by rw [show m - s + e.2 = m - (s - e.2) by omega])) ?_
    refine s_lstore_n F d_M_crash_48 (Nat.le_of_ble_eq_true rfl) rfl rfl ?_
    refine n_iinc F (n := 1) d_M_crash_49 rfl rfl rfl ?_
    refine s_goto F 10 d_M_crash_52 (by decide) ?_
    exact ih h2 (s - e.2) ⟨by omega, by rw [hcr]; omega⟩
set_option maxRecDepth 4000 in
theorem c_M_sweep {g : zG} {z : Nat} {μ : zMem} {T : Ts} (hz : MOb g z) (hT : InvT T) (hsw : Inv (swS T.2.1)) (hK : RepMH μ z T) : zC g y_M_sweep b_M_sweep 7 (some .int) 3 84 [.ref z] μ (zI (fSweep T).1 (fun μ' => RepMH μ' z (fSweep T).2 ∧ zOut z 81 μ μ')) := by
  refine zC.of (by decide) (Nat.le_of_ble_eq_true rfl) [some (.ref z), none, none, none, none, none, none] rfl rfl (fun x F hR => ?_)
  have F : zF g x b_M_sweep R_M 7 3 84 := F
  have hS := hT.2.1
  have hrl := hS.rl
  have hgn : gon T.2.1 ≤ 100 := cnt_le _ _
  refine s_aload_n F d_M_sweep_0 rfl ?_
  refine g_M_10 F d_M_sweep_1 (mz_0 hz) ?_
  refine s_aload_n F d_M_sweep_4 rfl ?_
  refine g_M_16 F d_M_sweep_5 (mz_0 hz) ?_
  refine c_Vv F (c_MS_copy (mz_1 hz) (mz_8 hz) (by omega) hS hK.2.1) ok_MS_copy k_391 (ci := 1) rfl (oMS (ms_0 (mz_1 hz))) rfl rfl rfl (Nat.le_of_ble_eq_true rfl) (by decide) d_M_sweep_8 (fun μ1 hq => ?_)
  obtain ⟨hK1, hO1⟩ := hq
  refine s_aload_n F d_M_sweep_11 rfl ?_
  refine g_M_26 F d_M_sweep_12 (mz_0 hz) ?_
  refine s_astore_n F d_M_sweep_15 (Nat.le_of_ble_eq_true rfl) rfl rfl ?_
  refine s_aload_n F d_M_sweep_16 rfl ?_
  refine g_M_30 F d_M_sweep_17 (mz_0 hz) ?_
  refine s_astore_n F d_M_sweep_20 (Nat.le_of_ble_eq_true rfl) rfl rfl ?_
  refine n_iconst F (n := 0) d_M_sweep_21 ?_
  refine s_istore_n F d_M_sweep_22 (Nat.le_of_ble_eq_true rfl) rfl rfl ?_
  refine n_iconst F (n := 0) d_M_sweep_23 ?_
  refine s_istore F d_M_sweep_24 (Nat.le_of_ble_eq_true rfl) rfl rfl ?_
  refine n_iconst F (n := 0) d_M_sweep_26 ?_
  refine s_istore F d_M_sweep_27 (Nat.le_of_ble_eq_true rfl) rfl rfl ?_
  refine lpU (σ := zMem) 100 (fun o s => PW g x s 29 [some (.ref z), some (.ref (z + 23)), some (.ref (z + 24)), some (.int (nI 0)), some (.int (nI 0)), some (.int (nI o)), none] []) (fun o s => zMk z μ1 s ∧ ∀ q, q < o → s.1 (z + 23) q = nI 0) (fun o s ho hI ih => ?_) 0 μ1 (Nat.zero_le _) ⟨zMk.rf, fun q h => absurd h (Nat.not_lt_zero q)⟩
  obtain ⟨hM, hzr⟩ := hI
  refine s_iload F d_M_sweep_29 rfl ?_
  refine n_bipush F (n := 100) d_M_sweep_31 rfl ?_
  refine n_icmp_ge F 47 d_M_sweep_33 (by decide) (by omega) (by omega) (fun h1 => ?_) (fun h1 => ?_)
  rotate_left
  · refine s_aload_n F d_M_sweep_36 rfl ?_
    refine s_iload F d_M_sweep_37 rfl ?_
    refine n_iconst F (n := 0) d_M_sweep_39 ?_
    refine s_zast F d_M_sweep_40 (mz_23 hz) (by omega) (by decide) (by decide) ?_
    refine n_iinc F (n := 1) d_M_sweep_41 rfl rfl rfl ?_
    refine s_goto F 29 d_M_sweep_44 (by decide) ?_
    refine ih h1 _ ⟨hM.mI (Or.inl rfl), fun q hq => ?_⟩
    by_cases e : q = o
    · subst e; exact mI_eq _ _ _ _
    · rw [mI_ne _ _ (Or.inr e)]; exact hzr q (by omega)
  have e : o = 100 := by omega
  subst e
  refine n_iconst F (n := 0) d_M_sweep_47 ?_
  refine s_istore F d_M_sweep_48 (Nat.le_of_ble_eq_true rfl) rfl rfl ?_
  refine lpU (σ := zMem × (Nat → Bool) × List Nat) T.2.1.2.2.length (fun k s => PW g x s.1 50 [some (.ref z), some (.ref (z + 23)), some (.ref (z + 24)), some (.int (nI s.2.2.length)), some (.int (nI 0)), some (.int (nI k)), none] []) (fun k s => zMk z μ1 s.1 ∧ swM s.1 z s.2.1 s.2.2 ∧ swA T.2.1 s.2.1 s.2.2 ∧ swC T.2.1 s.2.1 s.2.2 ∧ ∀ (j w : Nat) (it : It), j < k → T.2.1.2.2[j]? = some it → w < 100 → isRef it w → s.2.1 w = true) (fun k s hk hI ih => ?_) 0 (s, fun _ => false, []) (Nat.zero_le _) ?_
  rotate_left
  · dsimp only
    exact ⟨hM, ⟨fun q hq => hzr q hq, fun j w h => by simp at h⟩, ⟨fun q h => by simp at h, Nat.zero_le _, fun w h => by simp at h⟩, fun q h => by simp at h, fun j w it h => absurd h (Nat.not_lt_zero j)⟩
  obtain ⟨μ2, se, pa⟩ := s
  obtain ⟨hM2, hW, hA, hC, hRt⟩ := hI
  dsimp only at hM2 hW hA hC hRt ih ⊢
  have hK2 := hK1.mk' hM2
  refine s_iload F d_M_sweep_50 rfl ?_
  refine s_aload_n F d_M_sweep_52 rfl ?_
  refine g_M_10 F d_M_sweep_53 (mz_0 hz) ?_
  refine g_M_82 F d_M_sweep_56 (ms_0 (mz_1 hz)) (hK2.rs) ?_
  refine n_icmp_ge F 84 d_M_sweep_59 (by decide) (by omega) (by omega) (fun h3 => ?_) (fun h3 => ?_)
  rotate_left
  · obtain ⟨it, hit⟩ := getIt h3
    refine s_aload_n F d_M_sweep_62 rfl ?_
    refine s_aload_n F d_M_sweep_63 rfl ?_
    refine g_M_10 F d_M_sweep_64 (mz_0 hz) ?_
    refine g_M_89 F d_M_sweep_67 (ms_0 (mz_1 hz)) ?_
    refine s_iload F d_M_sweep_70 rfl ?_
    refine s_lald F d_M_sweep_72 (ms_6 (mz_1 hz)) (by omega) (by decide) (hK2.rv hit) ?_
    refine s_iload_n F d_M_sweep_73 rfl ?_
    refine s_callV F ok_M_reach k_406 (ci := 3) rfl (oM (mz_0 hz)) rfl rfl rfl (Nat.le_of_ble_eq_true rfl) (by decide) d_M_sweep_74 (c_M_reach hz hW hA.2.1 (hS.rok (List.mem_of_getElem? hit))) (fun v μ' hq => ?_)
    obtain ⟨se', pa', rfl, hM3, hW', hr⟩ := hq
    show PW g x μ' _ _ [.int (nI pa'.length)]
    refine s_istore_n F d_M_sweep_77 (Nat.le_of_ble_eq_true rfl) rfl rfl ?_
    refine n_iinc F (n := 1) d_M_sweep_78 rfl rfl rfl ?_
    refine s_goto F 50 d_M_sweep_81 (by decide) ?_
    refine ih h3 (μ', se', pa') ⟨hM2.tr hM3, hW', hr.A hA (fun w hw hrf => Reach.root (List.mem_of_getElem? hit) hw hrf), hr.C hC, fun j w it' hj hit' hw hrf => ?_⟩
    by_cases e : j = k
    · subst e
      rw [hit] at hit'
      cases hit'
      exact hr.hit hw hrf
    · exact hr.mono (hRt j w it' (by omega) hit' hw hrf)
  have hRt : ∀ it w, it ∈ T.2.1.2.2 → w < 100 → isRef it w → se w = true := fun it w hi hw hrf => by
    obtain ⟨j, hj⟩ := List.getElem?_of_mem hi
    exact hRt j w it (by have := (List.getElem?_eq_some_iff.mp hj).1; omega) hj hw hrf
  refine n_iconst F (n := 0) d_M_sweep_84 ?_
  refine s_istore F d_M_sweep_85 (Nat.le_of_ble_eq_true rfl) rfl rfl ?_
  refine lpG (σ := zMem × (Nat → Bool) × List Nat × Nat × Option Value) (fun s => PW g x s.1 87 [some (.ref z), some (.ref (z + 23)), some (.ref (z + 24)), some (.int (nI s.2.2.1.length)), some (.int (nI 0)), some (.int (nI s.2.2.2.1)), s.2.2.2.2] []) (fun s => s.2.2.2.1 ≤ s.2.2.1.length ∧ zMk z μ1 s.1 ∧ swM s.1 z s.2.1 s.2.2.1 ∧ swA T.2.1 s.2.1 s.2.2.1 ∧ swC T.2.1 s.2.1 (s.2.2.1.drop s.2.2.2.1) ∧ ∀ it w, it ∈ T.2.1.2.2 → w < 100 → isRef it w → s.2.1 w = true) (fun s => 2 * (100 - cnt s.2.1 100) + (s.2.2.1.length - s.2.2.2.1)) (fun s hI ih => ?_) (μ2, se, pa, 0, none) ⟨Nat.zero_le _, hM2, hW, hA, hC, hRt⟩
  obtain ⟨μ3, se, pa, p, v6⟩ := s
  obtain ⟨hp, hM3, hW, hA, hC, hRt⟩ := hI
  dsimp only at hp hM3 hW hA hC hRt ih ⊢
  have hcl := cnt_le se 100
  have hA2 := hA.2.1
  refine s_iload F d_M_sweep_87 rfl ?_
  refine s_iload_n F d_M_sweep_89 rfl ?_
  refine n_icmp_ge F 149 d_M_sweep_90 (by decide) (by omega) (by omega) (fun h4 => ?_) (fun h4 => ?_)
  rotate_left
  · obtain ⟨q, hq⟩ : ∃ q, pa[p]? = some q := ⟨_, List.getElem?_eq_getElem h4⟩
    have hqs := hA.2.2 q (List.mem_of_getElem? hq)
    obtain ⟨hq1, hqR⟩ := hA.1 q hqs
    have hqk := (hqR.live hS).2
    have hln := hS.ln hq1
    rw [drop_cons hq] at hC
    refine n_iconst F (n := 0) d_M_sweep_93 ?_
    refine s_istore F d_M_sweep_94 (Nat.le_of_ble_eq_true rfl) rfl rfl ?_
    refine lpU (σ := zMem × (Nat → Bool) × List Nat) (T.2.1.2.1 q).length (fun j s => PW g x s.1 96 [some (.ref z), some (.ref (z + 23)), some (.ref (z + 24)), some (.int (nI s.2.2.length)), some (.int (nI 0)), some (.int (nI p)), some (.int (nI j))] []) (fun j s => zMk z μ1 s.1 ∧ swM s.1 z s.2.1 s.2.2 ∧ swA T.2.1 s.2.1 s.2.2 ∧ s.2.2[p]? = some q ∧ swX T.2.1 s.2.1 (s.2.2.drop (p + 1)) q ∧ (∀ w, se w = true → s.2.1 w = true) ∧ 2 * (100 - cnt s.2.1 100) + s.2.2.length ≤ 2 * (100 - cnt se 100) + pa.length ∧ ∀ (i w : Nat) (it : It), i < j → (T.2.1.2.1 q)[i]? = some it → w < 100 → isRef it w → s.2.1 w = true) (fun j s hj hI jh => ?_) 0 (μ3, se, pa) (Nat.zero_le _) ?_
    rotate_left
    · dsimp only
      refine ⟨hM3, hW, hA, hq, fun w hw hne => ?_, fun w h => h, Nat.le_refl _, fun i w it h => absurd h (Nat.not_lt_zero i)⟩
      rcases hC w hw with h | h
      · rcases List.mem_cons.mp h with h | h
        · exact absurd h hne
        · exact Or.inl h
      · exact Or.inr h
    obtain ⟨μ4, se4, pa4⟩ := s
    obtain ⟨hM4, hW4, hA4, hq4, hX4, hm4, hme4, hE4⟩ := hI
    dsimp only at hM4 hW4 hA4 hq4 hX4 hm4 hme4 hE4 jh ⊢
    have hK4 := hK1.mk' hM4
    have hp4 := (List.getElem?_eq_some_iff.mp hq4).1
    have hcl4 := cnt_le se4 100
    have hA42 := hA4.2.1
    have b2 := hW4.2 p q hq4
    refine s_iload F d_M_sweep_96 rfl ?_
    refine s_aload_n F d_M_sweep_98 rfl ?_
    refine g_M_10 F d_M_sweep_99 (mz_0 hz) ?_
    refine g_M_51 F d_M_sweep_102 (ms_0 (mz_1 hz)) ?_
    refine s_aload_n F d_M_sweep_105 rfl ?_
    refine s_iload F d_M_sweep_106 rfl ?_
    refine s_iald F d_M_sweep_108 (mz_24 hz) (by omega) (by decide) (b2) ?_
    refine s_iald F d_M_sweep_109 (ms_2 (mz_1 hz)) (by omega) (by decide) (hK4.sz hq1 hqk) ?_
    refine n_icmp_ge F 143 d_M_sweep_110 (by decide) (by omega) (by omega) (fun h5 => ?_) (fun h5 => ?_)
    · refine n_iinc F (n := 1) d_M_sweep_143 rfl rfl rfl ?_
      refine s_goto F 87 d_M_sweep_146 (by decide) ?_
      refine ih (μ4, se4, pa4, p + 1, some (.int (nI j))) ⟨by dsimp only; omega, hM4, hW4, hA4, fun w hw => ?_, fun it w hi hw hrf => hm4 w (hRt it w hi hw hrf)⟩ (by dsimp only; omega)
      by_cases e : w = q
      · subst e
        refine Or.inr (fun it w' hi hw' hrf => ?_)
        obtain ⟨i, hi⟩ := List.getElem?_of_mem hi
        exact hE4 i w' it (by have := (List.getElem?_eq_some_iff.mp hi).1; omega) hi hw' hrf
      · exact hX4 w hw e
    · obtain ⟨it, hit⟩ := getIt h5
      refine s_aload_n F d_M_sweep_113 rfl ?_
      refine s_aload_n F d_M_sweep_114 rfl ?_
      refine g_M_10 F d_M_sweep_115 (mz_0 hz) ?_
      refine g_M_68 F d_M_sweep_118 (ms_0 (mz_1 hz)) ?_
      refine n_bipush F (n := 20) d_M_sweep_121 rfl ?_
      refine s_aload_n F d_M_sweep_123 rfl ?_
      refine s_iload F d_M_sweep_124 rfl ?_
      refine s_iald F d_M_sweep_126 (mz_24 hz) (by omega) (by decide) (b2) ?_
      refine n_imul F d_M_sweep_127 ?_
      refine s_iload F d_M_sweep_128 rfl ?_
      refine n_iadd F d_M_sweep_130 ?_
      refine s_lald F d_M_sweep_131 (ms_5 (mz_1 hz)) (by omega) (by decide) (hK4.sl hq1 hqk hit) ?_
      refine s_iload_n F d_M_sweep_132 rfl ?_
      refine s_callV F ok_M_reach k_406 (ci := 3) rfl (oM (mz_0 hz)) rfl rfl rfl (Nat.le_of_ble_eq_true rfl) (by decide) d_M_sweep_133 (c_M_reach hz hW4 hA4.2.1 (hS.ok hq1 (List.mem_of_getElem? hit))) (fun v μ' hq' => ?_)
      obtain ⟨se', pa', rfl, hM5, hW', hr⟩ := hq'
      show PW g x μ' _ _ [.int (nI pa'.length)]
      refine s_istore_n F d_M_sweep_136 (Nat.le_of_ble_eq_true rfl) rfl rfl ?_
      refine n_iinc F (n := 1) d_M_sweep_137 rfl rfl rfl ?_
      refine s_goto F 96 d_M_sweep_140 (by decide) ?_
      refine jh h5 (μ', se', pa') ⟨hM4.tr hM5, hW', hr.A hA4 (fun w hw hrf => hqR.step (List.mem_of_getElem? hit) hw hrf), hr.get hq4, (hr.drop (by omega)).X hX4, fun w hw => hr.mono (hm4 w hw), Nat.le_trans hr.m hme4, fun i w it' hi hit' hw hrf => ?_⟩
      by_cases e : i = j
      · subst e
        rw [hit] at hit'
        cases hit'
        exact hr.hit hw hrf
      · exact hr.mono (hE4 i w it' (by omega) hit' hw hrf)
  have hse := sw_end (S := T.2.1) (se := se) ⟨hA.1, Nat.zero_le _, fun w h => by simp at h⟩ (fun q hq => by
    have := hC q hq
    rw [List.drop_eq_nil_of_le h4] at this
    exact this) hRt
  have hK3 := hK1.mk' hM3
  refine n_iconst F (n := 0) d_M_sweep_149 ?_
  refine s_istore F d_M_sweep_150 (Nat.le_of_ble_eq_true rfl) rfl rfl ?_
  refine lpU (σ := zMem) 100 (fun o s => PW g x s 152 [some (.ref z), some (.ref (z + 23)), some (.ref (z + 24)), some (.int (nI pa.length)), some (.int (nI (cnt (swP T.2.1) o))), some (.int (nI o)), v6] []) (fun o s => (∀ a, a ≠ z + 1 + 1 → s.1 a = μ3.1 a) ∧ s.2 = μ3.2 ∧ (∀ q, q < o → s.1 (z + 1 + 1) q = nI ((swS T.2.1).1 q)) ∧ (∀ q, o ≤ q → q < 100 → s.1 (z + 1 + 1) q = nI (T.2.1.1 q))) (fun o s ho hI jh => ?_) 0 μ3 (Nat.zero_le _) ⟨fun _ _ => rfl, rfl, fun q h => absurd h (Nat.not_lt_zero q), fun q _ hq => hK3.kd hq⟩
  obtain ⟨i1, i2, i3, i4⟩ := hI
  have hcn := cnt_le (swP T.2.1) o
  refine s_iload F d_M_sweep_152 rfl ?_
  refine n_bipush F (n := 100) d_M_sweep_154 rfl ?_
  refine n_icmp_ge F 202 d_M_sweep_156 (by decide) (by omega) (by omega) (fun h6 => ?_) (fun h6 => ?_)
  · have e : o = 100 := by omega
    subst e
    have hKs : RepM s (z + 1) (swS T.2.1) := by
      refine ⟨fun q hq => ⟨i3 q hq, fun hk => ?_⟩, by rw [i1 _ (by omega)]; exact hK3.rs, fun j it hj => ?_⟩
      · have hrb : rb T.2.1 q = true := by
          cases h : rb T.2.1 q with
          | true => rfl
          | false => simp [swS, h] at hk
        have hk' : T.2.1.1 q ≠ 0 := by simpa [swS, hrb] using hk
        refine ⟨by rw [i1 _ (by omega), hK3.sz hq hk']; simp [swS, hrb], fun j it hj => ?_⟩
        have hj' : (T.2.1.2.1 q)[j]? = some it := by simpa [swS, hrb] using hj
        refine ⟨by rw [i2]; exact hK3.sl hq hk' hj', fun h1 => ?_⟩
        rw [i1 _ (by omega)]
        exact hK3.nm hq (by simpa [swS, hrb] using h1) hj'
      · exact ⟨by rw [i1 _ (by omega)]; exact hK3.rn hj, by rw [i2]; exact hK3.rv hj⟩
    have hfr : ∀ a, (a < z + 1 ∨ z + 8 ≤ a) → a ≠ z + 23 → a ≠ z + 24 → s.1 a = μ.1 a ∧ s.2.1 a = μ.2.1 a ∧ s.2.2 a = μ.2.2 a := fun a h1 h2 h3 => ⟨by rw [i1 a (by omega), hM3.1 a h2 h3, (hO1 a (by omega)).1], by rw [i2, hM3.2, (hO1 a (by omega)).2.1], by rw [i2, hM3.2, (hO1 a (by omega)).2.2]⟩
    have hO : zOut z 81 μ s := fun a ha => hfr a (by omega) (by omega) (by omega)
    have hKn := hK.now hfr hKs
    refine s_iload F (v := nI (gon T.2.1)) d_M_sweep_202 rfl ?_
    refine n_if_le F 213 d_M_sweep_204 (by decide) (by omega) (fun h7 => ?_) (fun h7 => ?_)
    · refine s_iload F (v := nI (gon T.2.1)) d_M_sweep_213 rfl ?_
      exact s_iret F hR d_M_sweep_215 (⟨rfl, by simp only [fSweep, h7, if_true]; exact hKn, hO⟩)
    · refine s_aload_n F d_M_sweep_207 rfl ?_
      refine n_bipush F (n := 8) d_M_sweep_208 rfl ?_
      refine c_Vv F (c_M_keep hz (T := (swS T.2.1, T.2)) ⟨hsw, hT.2⟩ hKn (n := 8) (by omega)) ok_M_keep k_387 (ci := 3) rfl (oM (mz_0 hz)) rfl rfl rfl (Nat.le_of_ble_eq_true rfl) (by decide) d_M_sweep_210 (fun μ5 hs => ?_)
      refine s_iload F (v := nI (gon T.2.1)) d_M_sweep_213 rfl ?_
      exact s_iret F hR d_M_sweep_215 (⟨rfl, by simp only [fSweep, show ¬ gon T.2.1 = 0 by omega, if_false]; exact hs.1, hO.tr hs.2⟩)
  have hkd := hS.kd h6
  have jh := fun s => jh h6 s
  have hsn : s.1 (z + 23) o = bI (rb T.2.1 o) := by rw [i1 _ (by omega), ← hse o]; exact hW.1 o h6
  refine s_aload_n F d_M_sweep_159 rfl ?_
  refine g_M_10 F d_M_sweep_160 (mz_0 hz) ?_
  refine g_M_40 F d_M_sweep_163 (ms_0 (mz_1 hz)) ?_
  refine s_iload F d_M_sweep_166 rfl ?_
  refine s_iald F d_M_sweep_168 (ms_1 (mz_1 hz)) (by omega) (by decide) (i4 o (Nat.le_refl _) h6) ?_
  refine n_if_eq F 196 d_M_sweep_169 (by decide) (by omega) (fun h7 => ?_) (fun h7 => ?_)
  · rw [cnt_f (by simp [swP, h7])] at jh
    refine n_iinc F (n := 1) d_M_sweep_196 rfl rfl rfl ?_
    refine s_goto F 152 d_M_sweep_199 (by decide) ?_
    refine jh _ ⟨i1, i2, fun q hq => ?_, fun q h1 h2 => i4 q (by omega) h2⟩
    by_cases e : q = o
    · subst e
      rw [i4 q (Nat.le_refl _) h6]; simp only [swS]; split
      · rfl
      · rw [h7]
    · exact i3 q (by omega)
  refine s_aload_n F d_M_sweep_172 rfl ?_
  refine s_iload F d_M_sweep_173 rfl ?_
  refine s_zald F d_M_sweep_175 (mz_23 hz) (by omega) (by decide) (hsn) ?_
  cases hrb : rb T.2.1 o with
  | true =>
    rw [cnt_f (by simp [swP, hrb])] at jh
    refine n_if_eq F 182 d_M_sweep_176 (a := 1) (by decide) (by omega) (fun h => by omega) (fun _ => ?_)
    refine s_goto F 196 d_M_sweep_179 (by decide) ?_
    refine n_iinc F (n := 1) d_M_sweep_196 rfl rfl rfl ?_
    refine s_goto F 152 d_M_sweep_199 (by decide) ?_
    refine jh _ ⟨i1, i2, fun q hq => ?_, fun q h1 h2 => i4 q (by omega) h2⟩
    by_cases e : q = o
    · subst e
      rw [i4 q (Nat.le_refl _) h6]; simp [swS, hrb]
    · exact i3 q (by omega)
  | false =>
    rw [cnt_t (by simp [swP, hrb, h7])] at jh
    refine n_if_eq F 182 d_M_sweep_176 (a := 0) (by decide) (by omega) (fun _ => ?_) (fun h => absurd rfl h)
    refine s_aload_n F d_M_sweep_182 rfl ?_
    refine g_M_10 F d_M_sweep_183 (mz_0 hz) ?_
    refine g_M_40 F d_M_sweep_186 (ms_0 (mz_1 hz)) ?_
    refine s_iload F d_M_sweep_189 rfl ?_
    refine n_iconst F (n := 0) d_M_sweep_191 ?_
    refine s_iast F d_M_sweep_192 (ms_1 (mz_1 hz)) (by omega) (by decide) ?_
    refine n_iinc F (n := 1) d_M_sweep_193 rfl rfl rfl ?_
    refine n_iinc F (n := 1) d_M_sweep_196 rfl rfl rfl ?_
    refine s_goto F 152 d_M_sweep_199 (by decide) ?_
    refine jh _ ⟨fun a ha => by rw [mI_o _ _ _ ha]; exact i1 a ha, i2, fun q hq => ?_, fun q h1 h2 => by rw [mI_ne _ _ (Or.inr (by omega))]; exact i4 q (by omega) h2⟩
    by_cases e : q = o
    · subst e
      rw [mI_eq]; simp [swS, hrb]
    · rw [mI_ne _ _ (Or.inr e)]; exact i3 q (by omega)
end
section
-- the operations keep what holds of a state
theorem vOk.mono {kd kd' : Nat → Nat} {p : It} (h : vOk kd p) (hk : ∀ w, w < 100 → kd w ≠ 0 → kd' w ≠ 0) : vOk kd' p := by
  rcases h with h | h | ⟨h1, w, hw, h2, h3⟩
  · exact Or.inl h
  · exact Or.inr (Or.inl h)
  · exact Or.inr (Or.inr ⟨h1, w, hw, hk w hw h2, h3⟩)
theorem Inv.upI {S : St} {o : Nat} {l : List It} (h : Inv S) (hl : l.length ≤ 20) (h0 : S.1 o ≠ 0) (h8 : S.1 o = 1 → l.length ≤ 8) (hn : S.1 o = 2 → ∀ it ∈ l, it.1 = 0) (hv : ∀ it ∈ l, vOk S.1 it) : Inv (updI S o l) := by
  refine ⟨fun q hq => ?_, h.rl, fun it hi => h.rok hi⟩
  by_cases e : q = o
  · subst e
    have e1 : (updI S q l).2.1 q = l := va_up_self _ _ _
    rw [e1]
    exact ⟨h.kd hq, hl, fun q => absurd q h0, h8, hn, hv⟩
  · have e1 : (updI S o l).2.1 q = S.2.1 q := va_up_ne _ _ e
    rw [e1]
    exact h.1 q hq
theorem Inv.upR {S : St} {l : List It} (h : Inv S) (hl : l.length ≤ 12) (hv : ∀ it ∈ l, vOk S.1 it) : Inv (updR S l) := ⟨h.1, hl, hv⟩
theorem Inv.mk {S : St} {o k : Nat} (h : Inv S) (hk : k = 1 ∨ k = 2) : Inv (mkS S o k) := by
  have hm : ∀ w, w < 100 → S.1 w ≠ 0 → (mkS S o k).1 w ≠ 0 := fun w _ hw => by
    simp only [mkS, va_up]
    split
    · omega
    · exact hw
  refine ⟨fun q hq => ?_, h.rl, fun it hi => (h.rok hi).mono hm⟩
  by_cases e : q = o
  · subst e
    have e1 : (mkS S q k).2.1 q = [] := va_up_self _ _ _
    have e2 : (mkS S q k).1 q = k := va_up_self _ _ _
    rw [e1, e2]
    exact ⟨by omega, by simp, fun _ => rfl, fun _ => by simp, fun _ it hi => by simp at hi, fun it hi => by simp at hi⟩
  · have e1 : (mkS S o k).2.1 q = S.2.1 q := va_up_ne _ _ e
    have e2 : (mkS S o k).1 q = S.1 q := va_up_ne _ _ e
    rw [e1, e2]
    obtain ⟨a1, a2, a3, a4, a5, a6⟩ := h.1 q hq
    exact ⟨a1, a2, a3, a4, a5, fun it hi => (a6 it hi).mono hm⟩
theorem Inv.make {S : St} (h : Inv S) (r : Int32) : Inv (fMake S r).2 := by
  unfold fMake
  split
  · exact h
  · exact h.mk (by split <;> simp)
theorem Inv.setFd {S : St} (h : Inv S) {j : Nat} (hj : j < 100) (hk : S.1 j = 1) {n s v : Int32} (hv : vOk S.1 (n, s, v)) : Inv (setF S j n s v).2 := by
  have hl := h.l8 hj hk
  unfold setF
  split
  · split
    · exact h
    · split
      · exact h
      · refine h.upI (by simp; omega) (by omega) (fun _ => by simp; omega) (fun q => by omega) (fun it hi => ?_)
        rcases List.mem_append.mp hi with hi | hi
        · exact h.ok hj hi
        · rw [List.mem_singleton.mp hi]; exact hv
  · rename_i k hf
    split
    · refine h.upI ?_ (by omega) (fun _ => ?_) (fun q => by omega) (fun it hi => h.ok hj (List.mem_of_mem_eraseIdx hi))
      · have := List.length_eraseIdx_le (S.2.1 j) k
        omega
      · have := List.length_eraseIdx_le (S.2.1 j) k
        omega
    · refine h.upI (by simp; omega) (by omega) (fun _ => by simp; omega) (fun q => by omega) (fun it hi => ?_)
      rcases List.mem_or_eq_of_mem_set hi with hi | hi
      · exact h.ok hj hi
      · rw [hi]; exact hv
theorem Inv.set {S : St} (h : Inv S) (o n s v : Int32) : Inv (fSet S o n s v).2 := by
  unfold fSet
  by_cases hc : pIs S o 1 ∧ pVal S s v
  · rw [cif_t hc]
    obtain ⟨⟨j, hj, rfl, hk⟩, hv⟩ := hc
    rw [clampJ hj]
    exact h.setFd hj hk (vOk.of n hv)
  · rw [cif_f hc]
    exact h
theorem Inv.push {S : St} (h : Inv S) (o s v : Int32) : Inv (fPush S o s v).2 := by
  unfold fPush
  by_cases hc : pIs S o 2 ∧ pVal S s v
  · rw [cif_t hc]
    obtain ⟨⟨j, hj, rfl, hk⟩, hv⟩ := hc
    rw [clampJ hj]
    have hl := h.ln hj
    unfold aPush
    split
    · exact h
    · refine h.upI (by simp; omega) (by omega) (fun _ => by omega) (fun _ it hi => ?_) (fun it hi => ?_)
      · rcases List.mem_append.mp hi with hi | hi
        · exact h.n0 hj hk hi
        · rw [List.mem_singleton.mp hi]
      · rcases List.mem_append.mp hi with hi | hi
        · exact h.ok hj hi
        · rw [List.mem_singleton.mp hi]; exact vOk.of 0 hv
  · rw [cif_f hc]
    exact h
theorem Inv.pop {S : St} (h : Inv S) (o : Int32) : Inv (fPop S o).2 := by
  unfold fPop
  by_cases hc : pIs S o 2 ∧ (S.2.1 o.toNatClampNeg).length ≠ 0
  · rw [cif_t hc]
    obtain ⟨⟨j, hj, rfl, hk⟩, -⟩ := hc
    rw [clampJ hj]
    have hl := h.ln hj
    refine h.upI (by rw [List.length_dropLast]; omega) (by omega) (fun _ => by omega) (fun _ it hi => h.n0 hj hk (List.dropLast_subset _ hi)) (fun it hi => h.ok hj (List.dropLast_subset _ hi))
  · rw [cif_f hc]
    exact h
theorem Inv.put {S : St} (h : Inv S) (o k s v : Int32) : Inv (fPut S o k s v).2 := by
  unfold fPut
  by_cases hc : pItem S o k ∧ pVal S s v
  · rw [cif_t hc]
    obtain ⟨⟨j, i, hj, rfl, hk, hi, rfl⟩, hv⟩ := hc
    rw [clampJ hj]
    have hl := h.ln hj
    refine h.upI (by simp; omega) (by omega) (fun _ => by omega) (fun _ it hi => ?_) (fun it hi => ?_)
    · rcases List.mem_or_eq_of_mem_set hi with hi | hi
      · exact h.n0 hj hk hi
      · rw [hi]
    · rcases List.mem_or_eq_of_mem_set hi with hi | hi
      · exact h.ok hj hi
      · rw [hi]; exact vOk.of 0 hv
  · rw [cif_f hc]
    exact h
theorem Inv.root {S : St} (h : Inv S) (n s v : Int32) : Inv (fRoot S n s v).2 := by
  have hrl := h.rl
  unfold fRoot
  by_cases hc : pVal S s v
  · rw [cif_t hc]
    have hv := vOk.of n hc
    unfold aRoot rootF
    dsimp only
    split
    · split
      · exact h
      · split
        · exact h
        · refine h.upR (by simp; omega) (fun it hi => ?_)
          rcases List.mem_append.mp hi with hi | hi
          · exact h.rok hi
          · rw [List.mem_singleton.mp hi]; exact hv
    · rename_i k hf
      obtain ⟨hkl, -⟩ := fnd_spec hf
      split
      · refine h.upR (by simp; omega) (fun it hi => ?_)
        rcases List.mem_or_eq_of_mem_set (List.dropLast_subset _ hi) with hi | hi
        · exact h.rok hi
        · obtain ⟨la, hla⟩ := getIt (l := S.2.2) (k := S.2.2.length - 1) (by omega)
          rw [hi, getD_of hla]
          exact h.rok (List.mem_of_getElem? hla)
      · refine h.upR (by simp; omega) (fun it hi => ?_)
        rcases List.mem_or_eq_of_mem_set hi with hi | hi
        · exact h.rok hi
        · rw [hi]; exact hv
  · rw [cif_f hc]
    exact h
theorem Inv.sw {S : St} (h : Inv S) : Inv (swS S) := by
  have hm : ∀ it : It, vOk S.1 it → (∀ w, w < 100 → isRef it w → rb S w = true) → vOk (swS S).1 it := by
    intro it hv hr
    rcases hv with h1 | h1 | ⟨h1, w, hw, h2, h3⟩
    · exact Or.inl h1
    · exact Or.inr (Or.inl h1)
    · exact Or.inr (Or.inr ⟨h1, w, hw, by simp [swS, hr w hw ⟨h1, h3⟩, h2], h3⟩)
  refine ⟨fun q hq => ?_, h.rl, fun it hi => hm it (h.rok hi) (fun w hw hr => rb_iff.mpr (Reach.root hi hw hr))⟩
  obtain ⟨a1, a2, a3, a4, a5, a6⟩ := h.1 q hq
  cases hrb : rb S q with
  | true =>
    have e1 : (swS S).1 q = S.1 q := by simp [swS, hrb]
    have e2 : (swS S).2.1 q = S.2.1 q := by simp [swS, hrb]
    rw [e1, e2]
    exact ⟨a1, a2, a3, a4, a5, fun it hi => hm it (a6 it hi) (fun w hw hr => rb_iff.mpr ((rb_iff.mp hrb).step hi hw hr))⟩
  | false =>
    have e1 : (swS S).1 q = 0 := by simp [swS, hrb]
    have e2 : (swS S).2.1 q = [] := by simp [swS, hrb]
    rw [e1, e2]
    exact ⟨by omega, by simp, fun _ => rfl, fun _ => by simp, fun _ it hi => by simp at hi, fun it hi => by simp at hi⟩
def S0 : St := (fun _ => 0, fun _ => [], [])
theorem Inv.s0 : Inv S0 := ⟨fun o _ => ⟨Nat.zero_le _, by simp [S0], fun _ => rfl, fun _ => by simp [S0], fun _ it hi => by simp [S0] at hi, fun it hi => by simp [S0] at hi⟩, by simp [S0], fun it hi => by simp [S0] at hi⟩
def T0 : Ts := (S0, S0, S0, [], 0)
theorem InvT.t0 : InvT T0 := ⟨Inv.s0, Inv.s0, Inv.s0, by simp [T0], fun e he => by simp [T0] at he⟩
theorem InvT.now {T : Ts} (h : InvT T) {S' : St} (hS : Inv S') : InvT (S', T.2) := ⟨hS, h.2⟩
theorem InvT.wr {T : Ts} (h : InvT T) {n : Nat} (hn : n ≤ 2000) : InvT (wrF T n) := by
  obtain ⟨t1, t2, t3, t4, t5⟩ := h
  unfold wrF
  split
  · rename_i hw
    exact ⟨t1, t1, t3, by simp, fun e he => by rw [List.mem_singleton.mp he]; exact ⟨t1, hn⟩⟩
  · rename_i e r hw
    rw [hw] at t4 t5
    rw [List.length_cons] at t4
    split
    · refine ⟨t1, t1, (t5 e (by simp)).1, by simp; omega, fun f hf => ?_⟩
      rcases List.mem_append.mp hf with hf | hf
      · exact t5 f (List.mem_cons_of_mem _ hf)
      · rw [List.mem_singleton.mp hf]; exact ⟨t1, hn⟩
    · refine ⟨t1, t1, t3, by simp; omega, fun f hf => ?_⟩
      rcases List.mem_append.mp hf with hf | hf
      · exact t5 f hf
      · rw [List.mem_singleton.mp hf]; exact ⟨t1, hn⟩
theorem InvT.commit {T : Ts} (h : InvT T) : InvT (fCommit T).2 := h.wr (chg_le h.1 h.2.1)
theorem InvT.undo {T : Ts} (h : InvT T) : InvT (fUndo T).2 := h.now h.2.1
theorem InvT.sweep {T : Ts} (h : InvT T) : InvT (fSweep T).2 := by
  have h1 : InvT (swS T.2.1, T.2) := h.now h.2.1.sw
  unfold fSweep
  dsimp only
  split
  · exact h1
  · exact h1.wr (by omega)
theorem InvT.sync {T : Ts} (h : InvT T) : InvT (fSync T).2 := ⟨h.1, h.2.1, h.2.1, by simp [fSync], fun e he => by simp [fSync] at he⟩
theorem InvT.crash {T : Ts} (h : InvT T) (n : Int32) : InvT (fCrash T n).2 := by
  have hsf : ∀ k, Inv (sfF T k) := fun k => by
    unfold sfF
    cases k with
    | zero => exact h.2.2.1
    | succ i =>
      dsimp only
      cases he : T.2.2.2.1[i]? with
      | none => exact h.2.2.1
      | some e => exact (h.2.2.2.2 e (List.mem_of_getElem? he)).1
  unfold fCrash
  split
  · exact h
  · exact ⟨hsf _, hsf _, hsf _, by simp [crT], fun e he => by simp [crT] at he⟩
theorem RepK.s0 {μ : zMem} {b : Nat} (h : ∀ a i, b ≤ a → μ.1 a i = 0) : RepK μ b S0 := ⟨fun o _ => ⟨by rw [h _ _ (by omega)]; exact nI_0.symm, by rw [h _ _ (by omega)]; exact nI_0.symm, fun j it hj => by simp [S0] at hj⟩, by rw [h _ _ (by omega)]; exact nI_0.symm, fun j it hj => by simp [S0] at hj⟩
theorem RepM.s0 {μ : zMem} {b : Nat} (h : ∀ a i, b ≤ a → μ.1 a i = 0) : RepM μ b S0 := ⟨fun o _ => ⟨by rw [h _ _ (by omega)]; exact nI_0.symm, fun hk => absurd rfl hk⟩, by rw [h _ _ (by omega)]; exact nI_0.symm, fun j it hj => by simp [S0] at hj⟩
end
section
-- memory that grows: the shape sh, the heap's size h, objects that are being built (obs)
def zZ (μ : zMem) (h : Nat) : Prop := ∀ a, h ≤ a → μ.1 a = (fun _ => 0) ∧ μ.2.1 a = (fun _ => 0) ∧ μ.2.2 a = (fun _ => none)
theorem zZ.mono {μ : zMem} {h h' : Nat} (H : zZ μ h) (hh : h ≤ h') : zZ μ h' := fun a ha => H a (by omega)
theorem zP.keep {D : va_G} {c : zCs} {sh : zSh} {μ : zMem} {H H1 : Heap} {n : Nat} (h : zP D c sh μ H) (hh : H.size = n) (o1 : ∀ q, q < n → H1[q]? = H[q]?) : zP D c sh μ H1 := fun a e ha => (h a e ha).kept (o1 a (by rw [← hh]; exact (h a e ha).lt))
theorem zP.grow {D : va_G} {c : zCs} {sh : zSh} {μ : zMem} {H H1 : Heap} {n : Nat} (h : zP D c sh μ H) (hh : H.size = n) (o1 : ∀ q, q < n → H1[q]? = H[q]?) {t : Nat × Nat} {en : va_E} (he : zEn c μ n t = some en) (hn : va_at D classes (n, en) H1) : zP D c (va_up sh n t) μ H1 := by
  intro a e ha
  by_cases hq : a = n
  · subst hq
    rw [va_up_self, he] at ha
    cases ha
    exact hn
  · rw [va_up_ne _ _ hq] at ha
    exact (h a e ha).kept (o1 a (by rw [← hh]; exact (h a e ha).lt))
theorem zP.add {D : va_G} {c : zCs} {sh : zSh} {μ : zMem} {H : Heap} {n : Nat} (h : zP D c sh μ H) {t : Nat × Nat} {en : va_E} (he : zEn c μ n t = some en) (hn : va_at D classes (n, en) H) : zP D c (va_up sh n t) μ H := by
  intro a e ha
  by_cases hq : a = n
  · subst hq
    rw [va_up_self, he] at ha
    cases ha
    exact hn
  · rw [va_up_ne _ _ hq] at ha
    exact h a e ha
theorem zP.off {D : va_G} {c : zCs} {sh : zSh} {μ : zMem} {H H1 : Heap} {b : Nat} (h : zP D c sh μ H) (hb : sh b = (0, 0)) (oq : ∀ q, q ≠ b → H1[q]? = H[q]?) : zP D c sh μ H1 := by
  intro a e ha
  refine (h a e ha).kept (oq a (fun q => ?_))
  subst q
  rw [hb] at ha
  cases ha
theorem va_P.low {D : va_G} {cl : List vw_C} {ws : va_W} {H H1 : Heap} {n : Nat} (h : va_P D cl ws H) (hh : H.size = n) (o1 : ∀ q, q < n → H1[q]? = H[q]?) : va_P D cl ws H1 := h.kept (fun k q hk => o1 q.1 (by rw [← hh]; exact (h k q hk).lt))
def PN (l : Launch) (D : va_G) (cs : zCs) (sh : zSh) (x : zX) (cells slots h : Nat) (obs : va_W) (μ : zMem) (pc : Nat) (L : List (Option Value)) (st : List Value) : Prop := match x with
  | (p, e, R, s, m, args, below, meth, c, _, _, Q, A) => ∀ (H : Heap) (locs : List Loc) (ls : Array Slot), zP D cs sh μ H → va_P D classes obs H → H.size = h → va_S A s.heap H locs → zL ls L → W p l e R s m args below meth c H locs cells slots Q (F0 m pc ls st)
def zFN (D : va_G) (cs : zCs) (x : zX) (cc : ByteArray) (own : String) (nL fr lo mc ms b : Nat) : Prop := match x with
  | (p, _, R, s, m, args, _, meth, c, _, _, _, A) => p.tables.exec = Jvm.exec ∧ c.code = cc ∧ c.maxLocals = nL ∧ s.vm.findClass own = some m.cls ∧ (∀ w ∈ tW, w.before args s = true) ∧ va_K D classes (zTys cs) s ∧ zNW s ∧ (∀ q, b ≤ q → A q) ∧ meth.locks = false ∧ R.frames = fr ∧ R.locals = lo ∧ R.cells = mc ∧ R.slots = ms
def zQN (D : va_G) (cs : zCs) (QQ : zSh → zMem → Nat → Prop) (A : Nat → Prop) : Array Value → State → Outcome → State → Prop := fun _ st oc t => (oc = .returned none ∧ ∃ (sh : zSh) (μ : zMem), QQ sh μ t.heap.size ∧ zP D cs sh μ t.heap) ∧ va_F A st t
def zRN (D : va_G) (cs : zCs) (x : zX) (mc ms : Nat) (QQ : zSh → zMem → Nat → Prop) : Prop := match x with
  | (_, _, _, s, _, args, below, meth, _, _, _, Q, A) => meth.sig.returnType = none ∧ meth.name = "<init>" ∧ Q = MQ below (zQN D cs QQ A) args s mc ms A
/-- a constructor's contract on the object at a, the last cell of the heap -/
def zCN (l : Launch) (D : va_G) (cs : zCs) (sh : zSh) (y : MethodName) (b : ByteArray) (ml fr lo mc ms a ci : Nat) (fs : List Value) (μ : zMem) (QQ : zSh → zMem → Nat → Prop) : Prop :=
  Met l y (Cond.code y b ml none :: tW) ({ frames := fr, cells := mc, slots := ms, locals := lo }) (va_Pc [.ref a] (fun U => U.heap.size = a + 1 ∧ zP D cs sh μ U.heap ∧ va_at D classes (a, .inr (ci, fs)) U.heap ∧ va_K D classes (zTys cs) U ∧ zNW U)) (zQN D cs QQ (fun q => a ≤ q)) mc ms (fun q => a ≤ q)
theorem zCN.of {l : Launch} {D : va_G} {cs : zCs} {sh : zSh} {y : MethodName} {b : ByteArray} {ml fr lo mc ms a ci : Nat} {fs : List Value} {μ : zMem} {QQ : zSh → zMem → Nat → Prop} (hy : plainName y.cls = true) (hn : y.name = "<init>") (hav : 1 ≤ ml) (L : List (Option Value)) (hL : L.length = ml) (hp : zpos 0 L = [(0, .ref a)])
    (body : ∀ x : zX, zFN D cs x b y.cls ml fr lo mc ms a → zRN D cs x mc ms QQ → PN l D cs sh x 0 0 (a + 1) [(a, .inr (ci, fs))] μ 0 L []) : zCN l D cs sh y b ml fr lo mc ms a ci fs μ QQ := by
  refine Met.ofW (cc := b) (maxL := ml) (ret := none) hy rfl ?_
  intro p e s m args below meth c s₁ B hml hv
  obtain ⟨rfl, hh, hP, hO, hK, hN⟩ := hv
  have hts := atoms_spec (ws := Cond.code y b ml none :: tW) B.pre
  have hl := lv_entry [.ref a] (n := ml) hav
  rw [lg_entry_eq]
  generalize (lg_sl [.ref a] ++ List.replicate (ml - (lg_sl [.ref a]).length) Slot.unset).toArray = ls at hl ⊢
  have hzl : zL ls L := by
    unfold zL
    rw [hL, hp]
    exact hl
  exact body (p, e, (headSpec (Cond.code y b ml none :: tW) ({ frames := fr, cells := mc, slots := ms, locals := lo })).room, s, m, [Value.ref a].toArray, below, meth, c, 0, 0, _, fun q => a ≤ q) ⟨B.exec, B.bytes, hml, findClass_of_methodNamed B.named, fun w hw => hts w (List.mem_cons_of_mem _ hw), hK, hN, fun q h => h, B.notSynchronized, rfl, rfl, rfl, rfl⟩ ⟨B.returns, ((name_of_methodNamed B.named B.method).1).trans hn, rfl⟩ s.heap [] ls hP (zP1 hO) hh va_S.rf hzl
section ZN
variable {l : Launch} {D : va_G} {cs : zCs} {sh : zSh} {x : zX} {cc : ByteArray} {own : String} {nL fr lo mc ms b0 cells slots h : Nat} {obs : va_W} {μ : zMem} {pc : Nat} {L : List (Option Value)} {st : List Value}
theorem PN.eq {pc' h' cells' slots' : Nat} {L' : List (Option Value)} {st' : List Value} {obs' : va_W} (k : PN l D cs sh x cells' slots' h' obs' μ pc' L' st') (h1 : cells = cells') (h2 : slots = slots') (h3 : h = h') (h4 : obs = obs') (h5 : pc = pc') (h6 : L = L') (h7 : st = st') : PN l D cs sh x cells slots h obs μ pc L st := by
  subst h1; subst h2; subst h3; subst h4; subst h5; subst h6; subst h7; exact k
theorem q_iconst (F : zFN D cs x cc own nL fr lo mc ms b0) {n : Nat} (hd : decode cc pc = .ok (.iconst (n : Int), 1))
    (k : PN l D cs sh x cells slots h obs μ (pc + 1) L (.int (nI n) :: st)) : PN l D cs sh x cells slots h obs μ pc L st := by
  obtain ⟨p, e, R, s, m, args, below, meth, c, c0, s0, Q, A⟩ := x
  intro H locs ls hP hO hh hS hl
  exact lv_iconst F.1 F.2.1 hd rfl (k H locs ls hP hO hh hS hl)
theorem q_bipush (F : zFN D cs x cc own nL fr lo mc ms b0) {n : Nat} (hd : decode cc pc = .ok (.bipush (n : Int), 2)) (hv : (Int8.ofInt (n : Int)).toInt32 = nI n)
    (k : PN l D cs sh x cells slots h obs μ (pc + 2) L (.int (nI n) :: st)) : PN l D cs sh x cells slots h obs μ pc L st := by
  obtain ⟨p, e, R, s, m, args, below, meth, c, c0, s0, Q, A⟩ := x
  intro H locs ls hP hO hh hS hl
  exact lv_bipush F.1 F.2.1 hd hv (k H locs ls hP hO hh hS hl)
theorem q_sipush (F : zFN D cs x cc own nL fr lo mc ms b0) {n : Nat} (hd : decode cc pc = .ok (.sipush (n : Int), 3)) (hv : (Int16.ofInt (n : Int)).toInt32 = nI n)
    (k : PN l D cs sh x cells slots h obs μ (pc + 3) L (.int (nI n) :: st)) : PN l D cs sh x cells slots h obs μ pc L st := by
  obtain ⟨p, e, R, s, m, args, below, meth, c, c0, s0, Q, A⟩ := x
  intro H locs ls hP hO hh hS hl
  exact lv_sipush F.1 F.2.1 hd hv (k H locs ls hP hO hh hS hl)
theorem q_iload_n (F : zFN D cs x cc own nL fr lo mc ms b0) {j : Fin 4} {v : Int32} (hd : decode cc pc = .ok (.iload_n j, 1)) (hi : L[(j : Nat)]? = some (some (.int v)))
    (k : PN l D cs sh x cells slots h obs μ (pc + 1) L (.int v :: st)) : PN l D cs sh x cells slots h obs μ pc L st := by
  obtain ⟨p, e, R, s, m, args, below, meth, c, c0, s0, Q, A⟩ := x
  intro H locs ls hP hO hh hS hl
  exact lv_iload_n F.1 F.2.1 hd rfl (hl.get hi) (k H locs ls hP hO hh hS hl)
theorem q_aload_n (F : zFN D cs x cc own nL fr lo mc ms b0) {j : Fin 4} {v : Nat} (hd : decode cc pc = .ok (.aload_n j, 1)) (hi : L[(j : Nat)]? = some (some (.ref v)))
    (k : PN l D cs sh x cells slots h obs μ (pc + 1) L (.ref v :: st)) : PN l D cs sh x cells slots h obs μ pc L st := by
  obtain ⟨p, e, R, s, m, args, below, meth, c, c0, s0, Q, A⟩ := x
  intro H locs ls hP hO hh hS hl
  exact lv_aload_n F.1 F.2.1 hd rfl (hl.get hi) (k H locs ls hP hO hh hS hl)
theorem q_istore_n (F : zFN D cs x cc own nL fr lo mc ms b0) {j : Fin 4} {v : Int32} {L' : List (Option Value)} (hd : decode cc pc = .ok (.istore_n j, 1)) (hi : (j : Nat) < L.length) (hn : zN2 L (j : Nat) = true) (hL : L.set (j : Nat) (some (.int v)) = L')
    (k : PN l D cs sh x cells slots h obs μ (pc + 1) L' st) : PN l D cs sh x cells slots h obs μ pc L (.int v :: st) := by
  obtain ⟨p, e, R, s, m, args, below, meth, c, c0, s0, Q, A⟩ := x
  intro H locs ls hP hO hh hS hl
  exact lv_istore_n F.1 F.2.1 hd rfl hl hi rfl (fun ls' h => k H locs ls' hP hO hh hS (hL ▸ zL.of1 hn hi h))
theorem q_astore_n (F : zFN D cs x cc own nL fr lo mc ms b0) {j : Fin 4} {v : Nat} {L' : List (Option Value)} (hd : decode cc pc = .ok (.astore_n j, 1)) (hi : (j : Nat) < L.length) (hn : zN2 L (j : Nat) = true) (hL : L.set (j : Nat) (some (.ref v)) = L')
    (k : PN l D cs sh x cells slots h obs μ (pc + 1) L' st) : PN l D cs sh x cells slots h obs μ pc L (.ref v :: st) := by
  obtain ⟨p, e, R, s, m, args, below, meth, c, c0, s0, Q, A⟩ := x
  intro H locs ls hP hO hh hS hl
  exact lv_astore_n F.1 F.2.1 hd rfl hl hi rfl (fun ls' h => k H locs ls' hP hO hh hS (hL ▸ zL.of1 hn hi h))
theorem q_iinc (F : zFN D cs x cc own nL fr lo mc ms b0) {i n a : Nat} {L' : List (Option Value)} (hd : decode cc pc = .ok (.iinc i (n : Int), 3)) (hi : L[i]? = some (some (.int (nI a)))) (hn : zN2 L i = true) (hL : L.set i (some (.int (nI (a + n)))) = L')
    (k : PN l D cs sh x cells slots h obs μ (pc + 3) L' st) : PN l D cs sh x cells slots h obs μ pc L st := by
  obtain ⟨p, e, R, s, m, args, below, meth, c, c0, s0, Q, A⟩ := x
  intro H locs ls hP hO hh hS hl
  obtain ⟨j, hj⟩ := zpos_get hi
  have hlt : i < L.length := (List.getElem?_eq_some_iff.mp hi).1
  exact lv_iinc F.1 F.2.1 hd hl hj (by rw [← nI_add]; rfl) hlt rfl (fun ls' h => k H locs ls' hP hO hh hS (hL ▸ zL.of1 hn hlt h))
theorem q_goto (F : zFN D cs x cc own nL fr lo mc ms b0) {off : Int} (t : Nat) (hd : decode cc pc = .ok (.goto off, 3)) (ht : (pc : Int) + off = (t : Int))
    (k : PN l D cs sh x cells slots h obs μ t L st) : PN l D cs sh x cells slots h obs μ pc L st := by
  obtain ⟨p, e, R, s, m, args, below, meth, c, c0, s0, Q, A⟩ := x
  intro H locs ls hP hO hh hS hl
  exact lv_goto F.1 F.2.1 hd ht (k H locs ls hP hO hh hS hl)
theorem q_icmp_ge (F : zFN D cs x cc own nL fr lo mc ms b0) {a b : Nat} {off : Int} (t : Nat) (hd : decode cc pc = .ok (.if_icmp .ge off, 3)) (ht : (pc : Int) + off = (t : Int)) (ha : a < 2 ^ 31) (hb : b < 2 ^ 31)
    (kt : b ≤ a → PN l D cs sh x cells slots h obs μ t L st) (kf : a < b → PN l D cs sh x cells slots h obs μ (pc + 3) L st) : PN l D cs sh x cells slots h obs μ pc L (.int (nI b) :: .int (nI a) :: st) := by
  obtain ⟨p, e, R, s, m, args, below, meth, c, c0, s0, Q, A⟩ := x
  intro H locs ls hP hO hh hS hl
  exact lv_icmp_ge F.1 F.2.1 hd ht (fun q => kt ((nI_leI hb ha).mp q) H locs ls hP hO hh hS hl) (fun q => kf (Nat.lt_of_not_le (fun e => q ((nI_leI hb ha).mpr e))) H locs ls hP hO hh hS hl)
theorem q_objInit (F : zFN D cs x cc own nL fr lo mc ms b0) {a i : Nat} (hk : Cond.methodLink own i Lib.objectInit ∈ tW) (hL : L.length = nL) (hw : (st.map fun v => v.category).sum + 12 ≤ lo) (hr : 1 ≤ fr) (hd : decode cc pc = .ok (.invokespecial i, 3))
    (k : PN l D cs sh x cells slots h obs μ (pc + 3) L st) : PN l D cs sh x cells slots h obs μ pc L (.ref a :: st) := by
  obtain ⟨p, e, R, s, m, args, below, meth, c, c0, s0, Q, A⟩ := x
  intro H locs ls hP hO hh hS hl
  have hfr : R.frames = fr := F.2.2.2.2.2.2.2.2.2.1
  have hlo : R.locals = lo := F.2.2.2.2.2.2.2.2.2.2.1
  exact W.objInit F.1 F.2.1 F.2.2.2.1 (F.2.2.2.2.1 _ hk) (F.2.2.2.2.1 _ k_12) (F.2.2.2.2.1 _ k_13) rfl (by rw [show c.maxLocals = nL from F.2.2.1, ← hL]; exact hl.1) rfl hd (by rw [hfr]; exact hr) (by rw [hlo]; show 2 * 0 + _ + _ ≤ _; omega) (k H locs ls hP hO hh hS hl)
theorem q_newI (F : zFN D cs x cc own nL fr lo mc ms b0) {n : Nat} (hz : zZ μ h) (hn : n ≤ 2000) (hbh : b0 ≤ h) (hc : cells + 1 ≤ mc) (hs : slots + n ≤ ms) (hd : decode cc pc = .ok (.newarray .int, 2))
    (k : PN l D cs (va_up sh h (1, n)) x (cells + 1) (slots + n) (h + 1) obs μ (pc + 2) L (.ref h :: st)) : PN l D cs sh x cells slots h obs μ pc L (.int (nI n) :: st) := by
  obtain ⟨p, e, R, s, m, args, below, meth, c, c0, s0, Q, A⟩ := x
  intro H locs ls hP hO hh hS hl
  have hK := F.2.2.2.2.2.1
  have hbt : n * componentBytes (newarray.typeOf .int) ≤ 536870912 := by
    have h8 : componentBytes (newarray.typeOf .int) ≤ 8 := by decide
    have := Nat.mul_le_mul hn h8
    omega
  refine va_newaK (atype := .int) F.1 F.2.1 (F.2.2.2.2.1 _ k_64) rfl hd rfl (nI_pos (by omega)) (nI_clamp (by omega)) hbt (by rw [show R.cells = mc from F.2.2.2.2.2.2.2.2.2.2.2.1]; exact hc) (by rw [show R.slots = ms from F.2.2.2.2.2.2.2.2.2.2.2.2]; exact hs) hh fun H1 cA e1 z1 o1 hAr hNm => ?_
  have hcA : cA = cs.1 := Option.some.inj (hNm.symm.trans (hK.2 0 _ rfl).2)
  subst hcA
  refine k H1 locs ls (hP.grow hh o1 rfl ?_) (hO.low hh o1) z1 ⟨Nat.le_trans hS.1 (by omega), fun q h1 h2 => (o1 q (Nat.lt_of_lt_of_le h1 (by rw [← hh]; exact hS.1))).trans (hS.2.1 q h1 h2), hS.2.2⟩ hl
  show H1[h]? = some (vp_cell _ _)
  rw [vp_cell_i, (hz h (Nat.le_refl _)).1]
  exact e1
theorem q_newZ (F : zFN D cs x cc own nL fr lo mc ms b0) {n : Nat} (hz : zZ μ h) (hn : n ≤ 2000) (hbh : b0 ≤ h) (hc : cells + 1 ≤ mc) (hs : slots + n ≤ ms) (hd : decode cc pc = .ok (.newarray .boolean, 2))
    (k : PN l D cs (va_up sh h (2, n)) x (cells + 1) (slots + n) (h + 1) obs μ (pc + 2) L (.ref h :: st)) : PN l D cs sh x cells slots h obs μ pc L (.int (nI n) :: st) := by
  obtain ⟨p, e, R, s, m, args, below, meth, c, c0, s0, Q, A⟩ := x
  intro H locs ls hP hO hh hS hl
  have hK := F.2.2.2.2.2.1
  have hbt : n * componentBytes (newarray.typeOf .boolean) ≤ 536870912 := by
    have h8 : componentBytes (newarray.typeOf .boolean) ≤ 8 := by decide
    have := Nat.mul_le_mul hn h8
    omega
  refine va_newaK (atype := .boolean) F.1 F.2.1 (F.2.2.2.2.1 _ k_65) rfl hd rfl (nI_pos (by omega)) (nI_clamp (by omega)) hbt (by rw [show R.cells = mc from F.2.2.2.2.2.2.2.2.2.2.2.1]; exact hc) (by rw [show R.slots = ms from F.2.2.2.2.2.2.2.2.2.2.2.2]; exact hs) hh fun H1 cA e1 z1 o1 hAr hNm => ?_
  have hcA : cA = cs.2.1 := Option.some.inj (hNm.symm.trans (hK.2 1 _ rfl).2)
  subst hcA
  refine k H1 locs ls (hP.grow hh o1 rfl ?_) (hO.low hh o1) z1 ⟨Nat.le_trans hS.1 (by omega), fun q h1 h2 => (o1 q (Nat.lt_of_lt_of_le h1 (by rw [← hh]; exact hS.1))).trans (hS.2.1 q h1 h2), hS.2.2⟩ hl
  show H1[h]? = some (vp_cell _ _)
  rw [vp_cell_i, (hz h (Nat.le_refl _)).1]
  exact e1
theorem q_newL (F : zFN D cs x cc own nL fr lo mc ms b0) {n : Nat} (hz : zZ μ h) (hn : n ≤ 2000) (hbh : b0 ≤ h) (hc : cells + 1 ≤ mc) (hs : slots + n ≤ ms) (hd : decode cc pc = .ok (.newarray .long, 2))
    (k : PN l D cs (va_up sh h (3, n)) x (cells + 1) (slots + n) (h + 1) obs μ (pc + 2) L (.ref h :: st)) : PN l D cs sh x cells slots h obs μ pc L (.int (nI n) :: st) := by
  obtain ⟨p, e, R, s, m, args, below, meth, c, c0, s0, Q, A⟩ := x
  intro H locs ls hP hO hh hS hl
  have hK := F.2.2.2.2.2.1
  have hbt : n * componentBytes (newarray.typeOf .long) ≤ 536870912 := by
    have h8 : componentBytes (newarray.typeOf .long) ≤ 8 := by decide
    have := Nat.mul_le_mul hn h8
    omega
  refine va_newaK (atype := .long) F.1 F.2.1 (F.2.2.2.2.1 _ k_281) rfl hd rfl (nI_pos (by omega)) (nI_clamp (by omega)) hbt (by rw [show R.cells = mc from F.2.2.2.2.2.2.2.2.2.2.2.1]; exact hc) (by rw [show R.slots = ms from F.2.2.2.2.2.2.2.2.2.2.2.2]; exact hs) hh fun H1 cA e1 z1 o1 hAr hNm => ?_
  have hcA : cA = cs.2.2.1 := Option.some.inj (hNm.symm.trans (hK.2 2 _ rfl).2)
  subst hcA
  refine k H1 locs ls (hP.grow hh o1 rfl ?_) (hO.low hh o1) z1 ⟨Nat.le_trans hS.1 (by omega), fun q h1 h2 => (o1 q (Nat.lt_of_lt_of_le h1 (by rw [← hh]; exact hS.1))).trans (hS.2.1 q h1 h2), hS.2.2⟩ hl
  show H1[h]? = some (vp_cell _ _)
  rw [vp_cell_l, (hz h (Nat.le_refl _)).2.1]
  exact e1
theorem q_newqK (F : zFN D cs x cc own nL fr lo mc ms b0) {n i : Nat} (hz : zZ μ h) (hn : n ≤ 2000) (hbh : b0 ≤ h) (hc : cells + 1 ≤ mc) (hs : slots + n ≤ ms) (hk : Cond.classLink own i "KeepHeap$State" ∈ tW) (hd : decode cc pc = .ok (.anewarray i, 3))
    (k : PN l D cs (va_up sh h (4, n)) x (cells + 1) (slots + n) (h + 1) obs μ (pc + 3) L (.ref h :: st)) : PN l D cs sh x cells slots h obs μ pc L (.int (nI n) :: st) := by
  obtain ⟨p, e, R, s, m, args, below, meth, c, c0, s0, Q, A⟩ := x
  intro H locs ls hP hO hh hS hl
  have hK := F.2.2.2.2.2.1
  have hcl : (nI n).toNatClampNeg = n := nI_clamp (by omega)
  refine W.anew F.1 F.2.1 F.2.2.2.1 (F.2.2.2.2.1 _ hk) (va_AO.use F.2.2.2.2.2.2.1.2.1) rfl hd rfl (nI_pos (by omega)) (by rw [hcl]; omega) (by rw [show R.cells = mc from F.2.2.2.2.2.2.2.2.2.2.2.1]; exact hc) (by rw [hcl, show R.slots = ms from F.2.2.2.2.2.2.2.2.2.2.2.2]; exact hs) fun cA kA comp f1 f2 f3 f4 => ?_
  obtain ⟨kA', comp', g1, g2, g3, g4⟩ := (hK.2 3 _ rfl).2
  have hcA : cA = cs.2.2.2.1 := Option.some.inj (f1.symm.trans g4)
  subst hcA
  rw [hcl]
  generalize hH1 : H.push ({ cls := cs.2.2.2.1, slots := Array.replicate n .null, vm := .none } : Cell) = H1
  have z1 : H1.size = H.size + 1 := by rw [← hH1, Array.size_push]
  have e1 : H1[H.size]? = some (arrV cs.2.2.2.1 n (fun _ => .null)) := by rw [← hH1, Array.getElem?_push_size, ← arrV_new]
  have o1 : ∀ q : Nat, q < h → H1[q]? = H[q]? := fun q hq => by rw [← hH1, Array.getElem?_push, if_neg (by omega)]
  rw [hh] at z1 e1 ⊢
  refine k H1 locs ls (hP.grow hh o1 rfl ?_) (hO.low hh o1) z1 ⟨Nat.le_trans hS.1 (by omega), fun q h1 h2 => (o1 q (Nat.lt_of_lt_of_le h1 (by rw [← hh]; exact hS.1))).trans (hS.2.1 q h1 h2), hS.2.2⟩ hl
  show H1[h]? = some (vp_cell _ _)
  rw [vp_cell_q, (hz h (Nat.le_refl _)).2.2]
  exact e1
theorem q_newqM (F : zFN D cs x cc own nL fr lo mc ms b0) {n i : Nat} (hz : zZ μ h) (hn : n ≤ 2000) (hbh : b0 ≤ h) (hc : cells + 1 ≤ mc) (hs : slots + n ≤ ms) (hk : Cond.classLink own i "KeepHeapModel$State" ∈ tW) (hd : decode cc pc = .ok (.anewarray i, 3))
    (k : PN l D cs (va_up sh h (5, n)) x (cells + 1) (slots + n) (h + 1) obs μ (pc + 3) L (.ref h :: st)) : PN l D cs sh x cells slots h obs μ pc L (.int (nI n) :: st) := by
  obtain ⟨p, e, R, s, m, args, below, meth, c, c0, s0, Q, A⟩ := x
  intro H locs ls hP hO hh hS hl
  have hK := F.2.2.2.2.2.1
  have hcl : (nI n).toNatClampNeg = n := nI_clamp (by omega)
  refine W.anew F.1 F.2.1 F.2.2.2.1 (F.2.2.2.2.1 _ hk) (va_AO.use F.2.2.2.2.2.2.1.2.2) rfl hd rfl (nI_pos (by omega)) (by rw [hcl]; omega) (by rw [show R.cells = mc from F.2.2.2.2.2.2.2.2.2.2.2.1]; exact hc) (by rw [hcl, show R.slots = ms from F.2.2.2.2.2.2.2.2.2.2.2.2]; exact hs) fun cA kA comp f1 f2 f3 f4 => ?_
  obtain ⟨kA', comp', g1, g2, g3, g4⟩ := (hK.2 4 _ rfl).2
  have hcA : cA = cs.2.2.2.2 := Option.some.inj (f1.symm.trans g4)
  subst hcA
  rw [hcl]
  generalize hH1 : H.push ({ cls := cs.2.2.2.2, slots := Array.replicate n .null, vm := .none } : Cell) = H1
  have z1 : H1.size = H.size + 1 := by rw [← hH1, Array.size_push]
  have e1 : H1[H.size]? = some (arrV cs.2.2.2.2 n (fun _ => .null)) := by rw [← hH1, Array.getElem?_push_size, ← arrV_new]
  have o1 : ∀ q : Nat, q < h → H1[q]? = H[q]? := fun q hq => by rw [← hH1, Array.getElem?_push, if_neg (by omega)]
  rw [hh] at z1 e1 ⊢
  refine k H1 locs ls (hP.grow hh o1 rfl ?_) (hO.low hh o1) z1 ⟨Nat.le_trans hS.1 (by omega), fun q h1 h2 => (o1 q (Nat.lt_of_lt_of_le h1 (by rw [← hh]; exact hS.1))).trans (hS.2.1 q h1 h2), hS.2.2⟩ hl
  show H1[h]? = some (vp_cell _ _)
  rw [vp_cell_q, (hz h (Nat.le_refl _)).2.2]
  exact e1
theorem q_putF (F : zFN D cs x cc own nL fr lo mc ms b0) {mc' ms' : Nat} {QQ : zSh → zMem → Nat → Prop} (hR : zRN D cs x mc' ms' QQ) {a ci N i : Nat} {T : u_T} {fs : List Value} {v : Value} (hsa : sh a = (0, 0)) (hba : b0 ≤ a) (hc : classes[ci]? = some (own, T, N)) (hin : ∀ w ∈ u_ws own T N, w ∈ tW) (ty0 : Nat → FieldType) (hty : ∀ k, k < N → parseFieldDescriptor (T k).2.2.1 = some (ty0 k)) (hnm : ∀ a, a < N → ∀ b, b < N → a ≠ b → (T a).2.1 ≠ (T b).2.1) (k : Nat) (hk : k < N) (hT : (T k).1 = own) (hfin : (T k).2.2.2 = true) (hlk : Cond.fieldLink own i own (T k).2.1 (T k).2.2.1 ∈ tW) (hn : narrow (ty0 k) v = v) (hfit : fits (ty0 k) v = true) (hlen : k < fs.length) (hd : decode cc pc = .ok (.putfield i, 3))
    (kk : PN l D cs sh x cells slots h [(a, .inr (ci, fs.set k v))] μ (pc + 3) L st) : PN l D cs sh x cells slots h [(a, .inr (ci, fs))] μ pc L (v :: .ref a :: st) := by
  obtain ⟨p, e, R, s, m, args, below, meth, c, c0, s0, Q, A⟩ := x
  intro H locs ls hP hO hh hS hl
  have hts := F.2.2.2.2.1
  have hK := F.2.2.2.2.2.1
  have hap := va_apart (own := own) (D := D) hts hin ty0 hty hnm hK hc
  obtain ⟨r, h1, cell, q1, q2, q3, q4⟩ := hO 0 _ rfl
  have hr : r = (own, T, N) := Option.some.inj (h1.symm.trans hc)
  subst hr
  obtain ⟨hSl, hfc, kC, hkC, hkind⟩ := hK.1 ci _ hc
  obtain ⟨cf, kf, fi, f, hi, hsl⟩ := hSl k hk
  have hlay := hts _ (hin _ (u_in_lay hk))
  unfold u_lay at hlay
  rw [if_pos hfin] at hlay
  have hst := (u_facts hfc hkC (u_lays hts hin hk) hi).1
  have hcf : m.cls = cf := by
    obtain ⟨_, _, c', _, _, _, -, -, hf', -, -, -, hown2, -⟩ := Cond.laysFinal_spec hlay
    have e1 : c' = cf := by have := hi.symm.trans hf'; simp at this; exact this.1.symm
    rw [hT] at hown2
    rw [← e1]; exact Option.some.inj (F.2.2.2.1.symm.trans hown2)
  have h6 := u_fits hfc hkC hkind (Or.inr hlay) hi (hty k hk) hn hfit
  refine W.putFinK F.1 F.2.1 F.2.2.2.1 (hts _ hlk) (by rw [hT] at hi; exact hi) hst hcf hR.2.1 (by rw [q2]; exact h6) q1 q3 (by rw [hsl]; exact k2_hasslot (q4 k hk)) rfl rfl hd fun H' e1 e2 e3 => ?_
  rw [hsl] at e1 ⊢
  exact kk H' _ ls (hP.off hsa e3) (zP1 ⟨_, hc, t_OB.to (V := updV (vp_V fs) k v) ⟨_, e1, q2, q3, t_set q4 hap hk v⟩ (fun j _ => vp_updV_set hlen v j)⟩) (e2.trans hh) (hS.put e2 e3 (F.2.2.2.2.2.2.2.1 a hba)) hl
theorem q_getO (F : zFN D cs x cc own nL fr lo mc ms b0) {a ci N i : Nat} {T : u_T} {fs : List Value} {v : Value} (hc : classes[ci]? = some (own, T, N)) (hin : ∀ w ∈ u_ws own T N, w ∈ tW) (k : Nat) (hk : k < N) (hT : (T k).1 = own) (hlk : Cond.fieldLink own i own (T k).2.1 (T k).2.2.1 ∈ tW) (hv : fs[k]? = some v) (hd : decode cc pc = .ok (.getfield i, 3))
    (kk : PN l D cs sh x cells slots h [(a, .inr (ci, fs))] μ (pc + 3) L (v :: st)) : PN l D cs sh x cells slots h [(a, .inr (ci, fs))] μ pc L (.ref a :: st) := by
  obtain ⟨p, e, R, s, m, args, below, meth, c, c0, s0, Q, A⟩ := x
  intro H locs ls hP hO hh hS hl
  exact va_get F.1 F.2.1 F.2.2.2.2.1 hin F.2.2.2.1 F.2.2.2.2.2.1 hO 0 rfl hc k hk (F.2.2.2.2.1 _ hlk) (fun q h => by rw [hT] at h; exact h) hv hd (kk H locs ls hP hO hh hS hl)
theorem q_vret (F : zFN D cs x cc own nL fr lo mc ms b0) {QQ : zSh → zMem → Nat → Prop} (hR : zRN D cs x cells slots QQ) (hd : decode cc pc = .ok (.return_, 1)) (sh' : zSh) (hq : QQ sh' μ h) (hq2 : ∀ H, zP D cs sh μ H → va_P D classes obs H → zP D cs sh' μ H) : PN l D cs sh x cells slots h obs μ pc L [] := by
  obtain ⟨p, e, R, s, m, args, below, meth, c, c0, s0, Q, A⟩ := x
  intro H locs ls hP hO hh hS hl
  obtain ⟨hr, -, hQ⟩ := hR
  subst hQ
  have hlocks : meth.locks = false := F.2.2.2.2.2.2.2.2.1
  exact W.vret F.1 F.2.1 hr (fun t ht hW => ⟨⟨rfl, sh', μ, by rw [ht, hh]; exact hq, by rw [ht]; exact hq2 H hP hO⟩, hS.F ht⟩) hS.2.2 hd hlocks
theorem q_astK (F : zFN D cs x cc own nL fr lo mc ms b0) {a n i v b1 : Nat} {en : va_E} (hob : obs = [(b1, en)]) (hb1 : sh b1 = (0, 0)) (hd : decode cc pc = .ok (.aastore, 1)) (hs : sh a = (4, n)) (hi : i < n) (hn : n ≤ 2000) (hv : sh v = (6, 0)) (hba : b0 ≤ a)
    (k : PN l D cs sh x cells slots h obs (mR μ a i (some v)) (pc + 1) L st) : PN l D cs sh x cells slots h obs μ pc L (.ref v :: .int (nI i) :: .ref a :: st) := by
  obtain ⟨p, e, R, s, m, args, below, meth, c, c0, s0, Q, A⟩ := x
  intro H locs ls hP hO hh hS hl
  have hc := hP.cell hs rfl
  have hcv := hP.cell hv rfl
  have hK := F.2.2.2.2.2.1
  obtain ⟨r', hr', cellV, g1, g2, g3, -⟩ := hcv
  have hcls := (hK.1 0 _ rfl).2
  obtain ⟨kA, comp, k1, k2, k3, -⟩ := (hK.2 3 _ rfl).2
  have hcomp : comp = D.1 0 := Option.some.inj (k3.symm.trans hcls.1)
  subst hcomp
  obtain ⟨kC, hkC, -⟩ := hcls.2
  have hcl : (nI i).toNatClampNeg = i := nI_clamp (n := i) (by omega)
  have hne : b1 ≠ a := fun q => by rw [q, hs] at hb1; cases hb1
  refine W.aast F.1 F.2.1 hc (fun q h => by cases h) (fun h => by cases h) k1 k2 rfl hkC ⟨nI_pos (by omega), by show _ < (arrV _ _ _).slots.size; rw [arrV_size, hcl]; exact hi⟩ g1 (fun q h => by rw [g3] at h; cases h) (by rw [g2]; exact hkC) (by rw [g2]; exact va_assign hcls) rfl rfl hd fun H1 e z oq => ?_
  refine k H1 _ ls (hP.upd (a := a) (fun b hb => rfl) (fun b hb => rfl) (fun b hb => va_up_ne _ _ hb) hs rfl ?_ oq) (hO.kept (fun kq q hkq => ?_)) (z.trans hh) (hS.put z oq (F.2.2.2.2.2.2.2.1 a hba)) hl
  · show H1[a]? = some (vp_cell _ _)
    rw [e, hcl]
    rw [vp_cell_q, vp_cell_q, arrV_store]
    congr 2
    funext q
    by_cases hq : q = i
    · subst hq
      simp [updV, mR, va_up, va_rf]
    · simp [updV, mR, va_up, hq]
  · subst hob
    cases kq with
    | zero => cases hkq; exact oq _ hne
    | succ kq => simp at hkq
theorem q_astM (F : zFN D cs x cc own nL fr lo mc ms b0) {a n i v b1 : Nat} {en : va_E} (hob : obs = [(b1, en)]) (hb1 : sh b1 = (0, 0)) (hd : decode cc pc = .ok (.aastore, 1)) (hs : sh a = (5, n)) (hi : i < n) (hn : n ≤ 2000) (hv : sh v = (7, 0)) (hba : b0 ≤ a)
    (k : PN l D cs sh x cells slots h obs (mR μ a i (some v)) (pc + 1) L st) : PN l D cs sh x cells slots h obs μ pc L (.ref v :: .int (nI i) :: .ref a :: st) := by
  obtain ⟨p, e, R, s, m, args, below, meth, c, c0, s0, Q, A⟩ := x
  intro H locs ls hP hO hh hS hl
  have hc := hP.cell hs rfl
  have hcv := hP.cell hv rfl
  have hK := F.2.2.2.2.2.1
  obtain ⟨r', hr', cellV, g1, g2, g3, -⟩ := hcv
  have hcls := (hK.1 1 _ rfl).2
  obtain ⟨kA, comp, k1, k2, k3, -⟩ := (hK.2 4 _ rfl).2
  have hcomp : comp = D.1 1 := Option.some.inj (k3.symm.trans hcls.1)
  subst hcomp
  obtain ⟨kC, hkC, -⟩ := hcls.2
  have hcl : (nI i).toNatClampNeg = i := nI_clamp (n := i) (by omega)
  have hne : b1 ≠ a := fun q => by rw [q, hs] at hb1; cases hb1
  refine W.aast F.1 F.2.1 hc (fun q h => by cases h) (fun h => by cases h) k1 k2 rfl hkC ⟨nI_pos (by omega), by show _ < (arrV _ _ _).slots.size; rw [arrV_size, hcl]; exact hi⟩ g1 (fun q h => by rw [g3] at h; cases h) (by rw [g2]; exact hkC) (by rw [g2]; exact va_assign hcls) rfl rfl hd fun H1 e z oq => ?_
  refine k H1 _ ls (hP.upd (a := a) (fun b hb => rfl) (fun b hb => rfl) (fun b hb => va_up_ne _ _ hb) hs rfl ?_ oq) (hO.kept (fun kq q hkq => ?_)) (z.trans hh) (hS.put z oq (F.2.2.2.2.2.2.2.1 a hba)) hl
  · show H1[a]? = some (vp_cell _ _)
    rw [e, hcl]
    rw [vp_cell_q, vp_cell_q, arrV_store]
    congr 2
    funext q
    by_cases hq : q = i
    · subst hq
      simp [updV, mR, va_up, va_rf]
    · simp [updV, mR, va_up, hq]
  · subst hob
    cases kq with
    | zero => cases hkq; exact oq _ hne
    | succ kq => simp at hkq
theorem q_newN (F : zFN D cs x cc own nL fr lo mc ms b0) {y : MethodName} {bb : ByteArray} {ml fr' lo' mc' ms' N ci i1 i2 : Nat} {C : String} {host : String} {T : u_T} {fs0 : List Value} {QQ : zSh → zMem → Nat → Prop} (hM : zCN l D cs sh y bb ml fr' lo' mc' ms' h ci fs0 μ QQ)
    (hcl : Cond.classLink own i1 C ∈ tW) (hins : Cond.instantiable C N ∈ tW) (hini : Cond.initialized C ∈ tW) (hc : classes[ci]? = some (C, T, N)) (hin : ∀ w ∈ u_ws C T N, w ∈ tW) (ty : Nat → FieldType) (hty : ∀ k, k < N → parseFieldDescriptor (T k).2.2.1 = some (ty k)) (hfs : ∀ j, j < N → defaultValue (ty j) = vp_V fs0 j)
    (hlk : Cond.methodLinkNest own i2 y host ∈ zNest) (hinst : Cond.instanceMethod y ∈ tW) (hcode : Cond.code y bb ml none ∈ tW) (hyn : y.name = "<init>") (hyc : y.cls = C) (hok : okN y 0) (hr : fr' + 1 ≤ fr ∧ 8 + (ml + 11) + lo' ≤ lo) (hL : L.length = nL) (hw : ((Value.ref h :: st).map fun v => v.category).sum ≤ 8) (hcells : cells + 1 + mc' ≤ mc) (hslots : slots + N + ms' ≤ ms) (hbh : b0 ≤ h)
    (d1 : decode cc pc = .ok (.new i1, 3)) (d2 : decode cc (pc + 3) = .ok (.dup, 1)) (d3 : decode cc (pc + 4) = .ok (.invokespecial i2, 3))
    (kk : ∀ (sh' : zSh) (μ' : zMem) (h' : Nat), QQ sh' μ' h' → PN l D cs sh' x (cells + 1 + mc') (slots + N + ms') h' obs μ' (pc + 7) L (.ref h :: st)) : PN l D cs sh x cells slots h obs μ pc L st := by
  obtain ⟨p, e, R, s, m, args, below, meth, c, c0, s0, Q, A⟩ := x
  intro H locs ls hP hO hh hS hz2
  have hts := F.2.2.2.2.1
  have hK := F.2.2.2.2.2.1
  have hKn := hK.1 ci _ hc
  have hfr : R.frames = fr := F.2.2.2.2.2.2.2.2.2.1
  have hlo : R.locals = lo := F.2.2.2.2.2.2.2.2.2.2.1
  have hmc : R.cells = mc := F.2.2.2.2.2.2.2.2.2.2.2.1
  have hms : R.slots = ms := F.2.2.2.2.2.2.2.2.2.2.2.2
  have hA := F.2.2.2.2.2.2.2.1
  refine W.newcK F.1 F.2.1 F.2.2.2.1 (hts _ hcl) (hts _ hins) (hts _ hini) rfl d1 (by rw [hmc]; omega) (by rw [hms]; omega) hKn.2.1 hh fun H1 kC hkC e1 z1 o1 => ?_
  have hob : va_at D classes (h, .inr (ci, fs0)) H1 := ⟨_, hc, (u_born ty hts hin hKn hkC e1 hty).to hfs⟩
  have hP1 : zP D cs sh μ H1 := hP.keep hh o1
  have hO1 : va_P D classes obs H1 := hO.low hh o1
  have hS1 : va_S A s.heap H1 locs := ⟨Nat.le_trans hS.1 (by omega), fun q h1 h2 => (o1 q (Nat.lt_of_lt_of_le h1 (by rw [← hh]; exact hS.1))).trans (hS.2.1 q h1 h2), hS.2.2⟩
  refine lv_dup F.1 F.2.1 d2 rfl ?_
  have run := va_runIN (H := H1) (locs := locs) (cells := cells + 1) (slots := slots + N) (below := below) (meth := meth) (e := e) (b := h) (As := []) (rest := .ref h :: st) (g := F0 m (pc + 4) ls (.ref h :: .ref h :: st)) ⟨F.1, F.2.1, F.2.2.1, F.2.2.2.1, hts⟩ hM ⟨va_cnB 0 hts (tW_in hcode) rfl rfl rfl (F.2.2.2.2.2.2.1.1 _ hlk) (by rw [hyc]; exact hts _ hini) hok (by rw [hfr, hlo]; exact hr), hyn, hts _ hinst⟩ ⟨by
    rintro a U g mk ⟨r1, r2, r3, r4, r5, r6⟩
    exact ⟨r1, r2, r3, r4, va_K.moved (u := U) (U := U.calling g mk a) (Vm.Alike.refl U.vm) r5, r6.calling g mk a⟩, fun U hU hW => ⟨rfl, by rw [hU]; exact z1, by rw [hU]; exact hP1, by rw [hU]; exact hob, va_K.moved hW.alike hK, F.2.2.2.2.2.2.1.warm hW⟩⟩ rfl rfl (hz2.1.trans hL) rfl (lv_room hw) d3 ⟨by rw [hmc]; exact hcells, by rw [hms]; exact hslots⟩
  intro T hT X
  obtain ⟨v, st₀, t, T', L', h0, X', hL', e1', e2', ⟨⟨hv, sh', μ', hq, hP'⟩, hz, hk⟩, stp⟩ := run T hT X
  cases hv
  rw [h0] at hz hk
  have hSn : va_S A s.heap T'.heap (locs ++ L') := ⟨Nat.le_trans hS1.1 (by rw [e1']; exact hz), fun q h1 h2 => by rw [e1', hk q (Nat.lt_of_lt_of_le h1 hS1.1) (fun z => h2 (hA q (Nat.le_trans hbh z)))]; exact hS1.2.1 q h1 h2, fun q hq => by
      rcases List.mem_append.mp hq with h | h
      · exact hS1.2.2 q h
      · exact hA _ (Nat.le_trans hbh (hL' q h))⟩
  have hOn : va_P D classes obs T'.heap := hO1.kept (fun k q hkq => by
    have hlt : q.1 < h := by rw [← hh]; exact (hO k q hkq).lt
    rw [e1', hk q.1 (by omega) (by omega)])
  obtain ⟨t2, a1, b1⟩ := kk sh' μ' t.heap.size hq T'.heap (locs ++ L') ls (by rw [e1']; exact hP') hOn (by rw [e1']) hSn hz2 T' rfl X'
  exact ⟨t2, stp t2 a1, b1⟩
theorem q_newP (F : zFN D cs x cc own nL fr lo mc ms b0) {y : MethodName} {bb : ByteArray} {ml fr' lo' mc' ms' N ci i1 i2 : Nat} {C : String} {T : u_T} {fs0 : List Value} {QQ : zSh → zMem → Nat → Prop} (hM : zCN l D cs sh y bb ml fr' lo' mc' ms' h ci fs0 μ QQ)
    (hcl : Cond.classLink own i1 C ∈ tW) (hins : Cond.instantiable C N ∈ tW) (hini : Cond.initialized C ∈ tW) (hc : classes[ci]? = some (C, T, N)) (hin : ∀ w ∈ u_ws C T N, w ∈ tW) (ty : Nat → FieldType) (hty : ∀ k, k < N → parseFieldDescriptor (T k).2.2.1 = some (ty k)) (hfs : ∀ j, j < N → defaultValue (ty j) = vp_V fs0 j)
    (hlk : Cond.methodLink own i2 y ∈ tW) (hinst : Cond.instanceMethod y ∈ tW) (hcode : Cond.code y bb ml none ∈ tW) (hyn : y.name = "<init>") (hyc : y.cls = C) (hok : okN y 0) (hr : fr' + 1 ≤ fr ∧ 8 + (ml + 11) + lo' ≤ lo) (hL : L.length = nL) (hw : ((Value.ref h :: st).map fun v => v.category).sum ≤ 8) (hcells : cells + 1 + mc' ≤ mc) (hslots : slots + N + ms' ≤ ms) (hbh : b0 ≤ h)
    (d1 : decode cc pc = .ok (.new i1, 3)) (d2 : decode cc (pc + 3) = .ok (.dup, 1)) (d3 : decode cc (pc + 4) = .ok (.invokespecial i2, 3))
    (kk : ∀ (sh' : zSh) (μ' : zMem) (h' : Nat), QQ sh' μ' h' → PN l D cs sh' x (cells + 1 + mc') (slots + N + ms') h' obs μ' (pc + 7) L (.ref h :: st)) : PN l D cs sh x cells slots h obs μ pc L st := by
  obtain ⟨p, e, R, s, m, args, below, meth, c, c0, s0, Q, A⟩ := x
  intro H locs ls hP hO hh hS hz2
  have hts := F.2.2.2.2.1
  have hK := F.2.2.2.2.2.1
  have hKn := hK.1 ci _ hc
  have hfr : R.frames = fr := F.2.2.2.2.2.2.2.2.2.1
  have hlo : R.locals = lo := F.2.2.2.2.2.2.2.2.2.2.1
  have hmc : R.cells = mc := F.2.2.2.2.2.2.2.2.2.2.2.1
  have hms : R.slots = ms := F.2.2.2.2.2.2.2.2.2.2.2.2
  have hA := F.2.2.2.2.2.2.2.1
  refine W.newcK F.1 F.2.1 F.2.2.2.1 (hts _ hcl) (hts _ hins) (hts _ hini) rfl d1 (by rw [hmc]; omega) (by rw [hms]; omega) hKn.2.1 hh fun H1 kC hkC e1 z1 o1 => ?_
  have hob : va_at D classes (h, .inr (ci, fs0)) H1 := ⟨_, hc, (u_born ty hts hin hKn hkC e1 hty).to hfs⟩
  have hP1 : zP D cs sh μ H1 := hP.keep hh o1
  have hO1 : va_P D classes obs H1 := hO.low hh o1
  have hS1 : va_S A s.heap H1 locs := ⟨Nat.le_trans hS.1 (by omega), fun q h1 h2 => (o1 q (Nat.lt_of_lt_of_le h1 (by rw [← hh]; exact hS.1))).trans (hS.2.1 q h1 h2), hS.2.2⟩
  refine lv_dup F.1 F.2.1 d2 rfl ?_
  have run := va_runI (H := H1) (locs := locs) (cells := cells + 1) (slots := slots + N) (below := below) (meth := meth) (e := e) (b := h) (As := []) (rest := .ref h :: st) (g := F0 m (pc + 4) ls (.ref h :: .ref h :: st)) ⟨F.1, F.2.1, F.2.2.1, F.2.2.2.1, hts⟩ hM (cwI 0 hts (tW_in hcode) rfl rfl rfl (by rw [hyc]; exact hts _ hini) (hts _ hlk) (hts _ hinst) hyn hok (by rw [hfr, hlo]; exact hr)) ⟨by
    rintro a U g mk ⟨r1, r2, r3, r4, r5, r6⟩
    exact ⟨r1, r2, r3, r4, va_K.moved (u := U) (U := U.calling g mk a) (Vm.Alike.refl U.vm) r5, r6.calling g mk a⟩, fun U hU hW => ⟨rfl, by rw [hU]; exact z1, by rw [hU]; exact hP1, by rw [hU]; exact hob, va_K.moved hW.alike hK, F.2.2.2.2.2.2.1.warm hW⟩⟩ rfl rfl (hz2.1.trans hL) rfl (lv_room hw) d3 ⟨by rw [hmc]; exact hcells, by rw [hms]; exact hslots⟩
  intro T hT X
  obtain ⟨v, st₀, t, T', L', h0, X', hL', e1', e2', ⟨⟨hv, sh', μ', hq, hP'⟩, hz, hk⟩, stp⟩ := run T hT X
  cases hv
  rw [h0] at hz hk
  have hSn : va_S A s.heap T'.heap (locs ++ L') := ⟨Nat.le_trans hS1.1 (by rw [e1']; exact hz), fun q h1 h2 => by rw [e1', hk q (Nat.lt_of_lt_of_le h1 hS1.1) (fun z => h2 (hA q (Nat.le_trans hbh z)))]; exact hS1.2.1 q h1 h2, fun q hq => by
      rcases List.mem_append.mp hq with h | h
      · exact hS1.2.2 q h
      · exact hA _ (Nat.le_trans hbh (hL' q h))⟩
  have hOn : va_P D classes obs T'.heap := hO1.kept (fun k q hkq => by
    have hlt : q.1 < h := by rw [← hh]; exact (hO k q hkq).lt
    rw [e1', hk q.1 (by omega) (by omega)])
  obtain ⟨t2, a1, b1⟩ := kk sh' μ' t.heap.size hq T'.heap (locs ++ L') ls (by rw [e1']; exact hP') hOn (by rw [e1']) hSn hz2 T' rfl X'
  exact ⟨t2, stp t2 a1, b1⟩
end ZN
end
section
def fs0_KS : List Value := [.null, .null, .null, .null, .null, .null, .null, .null, .int 0, .null, .null, .int 0]
set_option maxRecDepth 8000 in
theorem c_KS_init {l : Launch} {D : va_G} {cs : zCs} {sh : zSh} {μ : zMem} {b : Nat} (hz : zZ μ b) (hsh : ∀ a, b ≤ a → sh a = (0, 0)) : zCN l D cs sh y_KS_init b_KS_init 1 1 20 10 6436 b 0 fs0_KS μ (fun sh' μ' h' => μ' = μ ∧ h' = b + 11 ∧ KSb (l, D, cs, sh') b ∧ ∀ a, (a < b ∨ b + 11 ≤ a) → sh' a = sh a) := by
  refine zCN.of (by decide) rfl (by decide) [some (.ref b)] rfl rfl (fun x F hR => ?_)
  have F : zFN D cs x b_KS_init R_KS 1 1 20 10 6436 b := F
  have p0 := hsh b (Nat.le_refl _)
  refine q_aload_n F d_KS_init_0 rfl ?_
  refine q_objInit F k_19 rfl (Nat.le_of_ble_eq_true rfl) (by decide) d_KS_init_1 ?_
  refine q_aload_n F d_KS_init_4 rfl ?_
  refine q_bipush F (n := 100) d_KS_init_5 rfl ?_
  refine q_newI (h := b + 1) (cells := 0) (slots := 0) F (hz.mono (by omega)) (by decide) (by omega) (by decide) (by decide) d_KS_init_7 ?_
  have p1 : (va_up sh (b + 1) (1, 100)) b = (0, 0) := (va_up_ne _ _ (by omega)).trans p0
  refine q_putF (cells := 1) (slots := 100) (h := b + 2) F hR p1 (by omega) (ci := 0) rfl in_KS t_KS t_KS_ok n_KS 0 (by decide) rfl rfl k_20 rfl rfl (Nat.le_of_ble_eq_true rfl) d_KS_init_9 ?_
  refine q_aload_n F d_KS_init_12 rfl ?_
  refine q_bipush F (n := 100) d_KS_init_13 rfl ?_
  refine q_newI (h := b + 2) (cells := 1) (slots := 100) F (hz.mono (by omega)) (by decide) (by omega) (by decide) (by decide) d_KS_init_15 ?_
  have p2 : (va_up (va_up sh (b + 1) (1, 100)) (b + 2) (1, 100)) b = (0, 0) := (va_up_ne _ _ (by omega)).trans p1
  refine q_putF (cells := 2) (slots := 200) (h := b + 3) F hR p2 (by omega) (ci := 0) rfl in_KS t_KS t_KS_ok n_KS 1 (by decide) rfl rfl k_22 rfl rfl (Nat.le_of_ble_eq_true rfl) d_KS_init_17 ?_
  refine q_aload_n F d_KS_init_20 rfl ?_
  refine q_sipush F (n := 2000) d_KS_init_21 rfl ?_
  refine q_newI (h := b + 3) (cells := 2) (slots := 200) F (hz.mono (by omega)) (by decide) (by omega) (by decide) (by decide) d_KS_init_24 ?_
  have p3 : (va_up (va_up (va_up sh (b + 1) (1, 100)) (b + 2) (1, 100)) (b + 3) (1, 2000)) b = (0, 0) := (va_up_ne _ _ (by omega)).trans p2
  refine q_putF (cells := 3) (slots := 2200) (h := b + 4) F hR p3 (by omega) (ci := 0) rfl in_KS t_KS t_KS_ok n_KS 2 (by decide) rfl rfl k_24 rfl rfl (Nat.le_of_ble_eq_true rfl) d_KS_init_26 ?_
  refine q_aload_n F d_KS_init_29 rfl ?_
  refine q_sipush F (n := 2000) d_KS_init_30 rfl ?_
  refine q_newI (h := b + 4) (cells := 3) (slots := 2200) F (hz.mono (by omega)) (by decide) (by omega) (by decide) (by decide) d_KS_init_33 ?_
  have p4 : (va_up (va_up (va_up (va_up sh (b + 1) (1, 100)) (b + 2) (1, 100)) (b + 3) (1, 2000)) (b + 4) (1, 2000)) b = (0, 0) := (va_up_ne _ _ (by omega)).trans p3
  refine q_putF (cells := 4) (slots := 4200) (h := b + 5) F hR p4 (by omega) (ci := 0) rfl in_KS t_KS t_KS_ok n_KS 3 (by decide) rfl rfl k_25 rfl rfl (Nat.le_of_ble_eq_true rfl) d_KS_init_35 ?_
  refine q_aload_n F d_KS_init_38 rfl ?_
  refine q_sipush F (n := 2000) d_KS_init_39 rfl ?_
  refine q_newI (h := b + 5) (cells := 4) (slots := 4200) F (hz.mono (by omega)) (by decide) (by omega) (by decide) (by decide) d_KS_init_42 ?_
  have p5 : (va_up (va_up (va_up (va_up (va_up sh (b + 1) (1, 100)) (b + 2) (1, 100)) (b + 3) (1, 2000)) (b + 4) (1, 2000)) (b + 5) (1, 2000)) b = (0, 0) := (va_up_ne _ _ (by omega)).trans p4
  refine q_putF (cells := 5) (slots := 6200) (h := b + 6) F hR p5 (by omega) (ci := 0) rfl in_KS t_KS t_KS_ok n_KS 4 (by decide) rfl rfl k_27 rfl rfl (Nat.le_of_ble_eq_true rfl) d_KS_init_44 ?_
  refine q_aload_n F d_KS_init_47 rfl ?_
  refine q_bipush F (n := 12) d_KS_init_48 rfl ?_
  refine q_newI (h := b + 6) (cells := 5) (slots := 6200) F (hz.mono (by omega)) (by decide) (by omega) (by decide) (by decide) d_KS_init_50 ?_
  have p6 : (va_up (va_up (va_up (va_up (va_up (va_up sh (b + 1) (1, 100)) (b + 2) (1, 100)) (b + 3) (1, 2000)) (b + 4) (1, 2000)) (b + 5) (1, 2000)) (b + 6) (1, 12)) b = (0, 0) := (va_up_ne _ _ (by omega)).trans p5
  refine q_putF (cells := 6) (slots := 6212) (h := b + 7) F hR p6 (by omega) (ci := 0) rfl in_KS t_KS t_KS_ok n_KS 5 (by decide) rfl rfl k_29 rfl rfl (Nat.le_of_ble_eq_true rfl) d_KS_init_52 ?_
  refine q_aload_n F d_KS_init_55 rfl ?_
  refine q_bipush F (n := 12) d_KS_init_56 rfl ?_
  refine q_newI (h := b + 7) (cells := 6) (slots := 6212) F (hz.mono (by omega)) (by decide) (by omega) (by decide) (by decide) d_KS_init_58 ?_
  have p7 : (va_up (va_up (va_up (va_up (va_up (va_up (va_up sh (b + 1) (1, 100)) (b + 2) (1, 100)) (b + 3) (1, 2000)) (b + 4) (1, 2000)) (b + 5) (1, 2000)) (b + 6) (1, 12)) (b + 7) (1, 12)) b = (0, 0) := (va_up_ne _ _ (by omega)).trans p6
  refine q_putF (cells := 7) (slots := 6224) (h := b + 8) F hR p7 (by omega) (ci := 0) rfl in_KS t_KS t_KS_ok n_KS 6 (by decide) rfl rfl k_30 rfl rfl (Nat.le_of_ble_eq_true rfl) d_KS_init_60 ?_
  refine q_aload_n F d_KS_init_63 rfl ?_
  refine q_bipush F (n := 12) d_KS_init_64 rfl ?_
  refine q_newI (h := b + 8) (cells := 7) (slots := 6224) F (hz.mono (by omega)) (by decide) (by omega) (by decide) (by decide) d_KS_init_66 ?_
  have p8 : (va_up (va_up (va_up (va_up (va_up (va_up (va_up (va_up sh (b + 1) (1, 100)) (b + 2) (1, 100)) (b + 3) (1, 2000)) (b + 4) (1, 2000)) (b + 5) (1, 2000)) (b + 6) (1, 12)) (b + 7) (1, 12)) (b + 8) (1, 12)) b = (0, 0) := (va_up_ne _ _ (by omega)).trans p7
  refine q_putF (cells := 8) (slots := 6236) (h := b + 9) F hR p8 (by omega) (ci := 0) rfl in_KS t_KS t_KS_ok n_KS 7 (by decide) rfl rfl k_32 rfl rfl (Nat.le_of_ble_eq_true rfl) d_KS_init_68 ?_
  refine q_aload_n F d_KS_init_71 rfl ?_
  refine q_bipush F (n := 100) d_KS_init_72 rfl ?_
  refine q_newZ (h := b + 9) (cells := 8) (slots := 6236) F (hz.mono (by omega)) (by decide) (by omega) (by decide) (by decide) d_KS_init_74 ?_
  have p9 : (va_up (va_up (va_up (va_up (va_up (va_up (va_up (va_up (va_up sh (b + 1) (1, 100)) (b + 2) (1, 100)) (b + 3) (1, 2000)) (b + 4) (1, 2000)) (b + 5) (1, 2000)) (b + 6) (1, 12)) (b + 7) (1, 12)) (b + 8) (1, 12)) (b + 9) (2, 100)) b = (0, 0) := (va_up_ne _ _ (by omega)).trans p8
  refine q_putF (cells := 9) (slots := 6336) (h := b + 10) F hR p9 (by omega) (ci := 0) rfl in_KS t_KS t_KS_ok n_KS 9 (by decide) rfl rfl k_36 rfl rfl (Nat.le_of_ble_eq_true rfl) d_KS_init_76 ?_
  refine q_aload_n F d_KS_init_79 rfl ?_
  refine q_bipush F (n := 100) d_KS_init_80 rfl ?_
  refine q_newI (h := b + 10) (cells := 9) (slots := 6336) F (hz.mono (by omega)) (by decide) (by omega) (by decide) (by decide) d_KS_init_82 ?_
  have p10 : (va_up (va_up (va_up (va_up (va_up (va_up (va_up (va_up (va_up (va_up sh (b + 1) (1, 100)) (b + 2) (1, 100)) (b + 3) (1, 2000)) (b + 4) (1, 2000)) (b + 5) (1, 2000)) (b + 6) (1, 12)) (b + 7) (1, 12)) (b + 8) (1, 12)) (b + 9) (2, 100)) (b + 10) (1, 100)) b = (0, 0) := (va_up_ne _ _ (by omega)).trans p9
  refine q_putF (cells := 10) (slots := 6436) (h := b + 11) F hR p10 (by omega) (ci := 0) rfl in_KS t_KS t_KS_ok n_KS 10 (by decide) rfl rfl k_37 rfl rfl (Nat.le_of_ble_eq_true rfl) d_KS_init_84 ?_
  have ez : zEn cs μ b (6, 0) = some (.inr (0, zKS μ b)) := rfl
  refine q_vret (cells := 10) (slots := 6436) F hR d_KS_init_87 (va_up (va_up (va_up (va_up (va_up (va_up (va_up (va_up (va_up (va_up (va_up sh (b + 1) (1, 100)) (b + 2) (1, 100)) (b + 3) (1, 2000)) (b + 4) (1, 2000)) (b + 5) (1, 2000)) (b + 6) (1, 12)) (b + 7) (1, 12)) (b + 8) (1, 12)) (b + 9) (2, 100)) (b + 10) (1, 100)) b (6, 0)) ⟨rfl, rfl, ?_, fun a ha => ?_⟩ (fun H hP hO => hP.add (t := (6, 0)) ez ?_)
  · refine ⟨by show va_up _ _ _ _ = _; simp [va_up], by show va_up _ _ _ _ = _; simp [va_up], by show va_up _ _ _ _ = _; simp [va_up], by show va_up _ _ _ _ = _; simp [va_up], by show va_up _ _ _ _ = _; simp [va_up], by show va_up _ _ _ _ = _; simp [va_up], by show va_up _ _ _ _ = _; simp [va_up], by show va_up _ _ _ _ = _; simp [va_up], by show va_up _ _ _ _ = _; simp [va_up], by show va_up _ _ _ _ = _; simp [va_up], by show va_up _ _ _ _ = _; simp [va_up]⟩
  · rw [va_up_ne _ _ (by omega), va_up_ne _ _ (by omega), va_up_ne _ _ (by omega), va_up_ne _ _ (by omega), va_up_ne _ _ (by omega), va_up_ne _ _ (by omega), va_up_ne _ _ (by omega), va_up_ne _ _ (by omega), va_up_ne _ _ (by omega), va_up_ne _ _ (by omega), va_up_ne _ _ (by omega)]
  · have e := hO 0 _ rfl
    have z0 := (hz b (Nat.le_refl _)).1
    simpa [fs0_KS, zKS, z0] using e
def fs0_MS : List Value := [.null, .null, .null, .null, .null, .null, .int 0, .int 0]
set_option maxRecDepth 8000 in
theorem c_MS_init {l : Launch} {D : va_G} {cs : zCs} {sh : zSh} {μ : zMem} {b : Nat} (hz : zZ μ b) (hsh : ∀ a, b ≤ a → sh a = (0, 0)) : zCN l D cs sh y_MS_init b_MS_init 1 1 20 6 3024 b 1 fs0_MS μ (fun sh' μ' h' => μ' = μ ∧ h' = b + 7 ∧ MSb (l, D, cs, sh') b ∧ ∀ a, (a < b ∨ b + 7 ≤ a) → sh' a = sh a) := by
  refine zCN.of (by decide) rfl (by decide) [some (.ref b)] rfl rfl (fun x F hR => ?_)
  have F : zFN D cs x b_MS_init R_MS 1 1 20 6 3024 b := F
  have p0 := hsh b (Nat.le_refl _)
  refine q_aload_n F d_MS_init_0 rfl ?_
  refine q_objInit F k_248 rfl (Nat.le_of_ble_eq_true rfl) (by decide) d_MS_init_1 ?_
  refine q_aload_n F d_MS_init_4 rfl ?_
  refine q_bipush F (n := 100) d_MS_init_5 rfl ?_
  refine q_newI (h := b + 1) (cells := 0) (slots := 0) F (hz.mono (by omega)) (by decide) (by omega) (by decide) (by decide) d_MS_init_7 ?_
  have p1 : (va_up sh (b + 1) (1, 100)) b = (0, 0) := (va_up_ne _ _ (by omega)).trans p0
  refine q_putF (cells := 1) (slots := 100) (h := b + 2) F hR p1 (by omega) (ci := 1) rfl in_MS t_MS t_MS_ok n_MS 0 (by decide) rfl rfl k_249 rfl rfl (Nat.le_of_ble_eq_true rfl) d_MS_init_9 ?_
  refine q_aload_n F d_MS_init_12 rfl ?_
  refine q_bipush F (n := 100) d_MS_init_13 rfl ?_
  refine q_newI (h := b + 2) (cells := 1) (slots := 100) F (hz.mono (by omega)) (by decide) (by omega) (by decide) (by decide) d_MS_init_15 ?_
  have p2 : (va_up (va_up sh (b + 1) (1, 100)) (b + 2) (1, 100)) b = (0, 0) := (va_up_ne _ _ (by omega)).trans p1
  refine q_putF (cells := 2) (slots := 200) (h := b + 3) F hR p2 (by omega) (ci := 1) rfl in_MS t_MS t_MS_ok n_MS 1 (by decide) rfl rfl k_251 rfl rfl (Nat.le_of_ble_eq_true rfl) d_MS_init_17 ?_
  refine q_aload_n F d_MS_init_20 rfl ?_
  refine q_sipush F (n := 800) d_MS_init_21 rfl ?_
  refine q_newI (h := b + 3) (cells := 2) (slots := 200) F (hz.mono (by omega)) (by decide) (by omega) (by decide) (by decide) d_MS_init_24 ?_
  have p3 : (va_up (va_up (va_up sh (b + 1) (1, 100)) (b + 2) (1, 100)) (b + 3) (1, 800)) b = (0, 0) := (va_up_ne _ _ (by omega)).trans p2
  refine q_putF (cells := 3) (slots := 1000) (h := b + 4) F hR p3 (by omega) (ci := 1) rfl in_MS t_MS t_MS_ok n_MS 2 (by decide) rfl rfl k_253 rfl rfl (Nat.le_of_ble_eq_true rfl) d_MS_init_26 ?_
  refine q_aload_n F d_MS_init_29 rfl ?_
  refine q_bipush F (n := 12) d_MS_init_30 rfl ?_
  refine q_newI (h := b + 4) (cells := 3) (slots := 1000) F (hz.mono (by omega)) (by decide) (by omega) (by decide) (by decide) d_MS_init_32 ?_
  have p4 : (va_up (va_up (va_up (va_up sh (b + 1) (1, 100)) (b + 2) (1, 100)) (b + 3) (1, 800)) (b + 4) (1, 12)) b = (0, 0) := (va_up_ne _ _ (by omega)).trans p3
  refine q_putF (cells := 4) (slots := 1012) (h := b + 5) F hR p4 (by omega) (ci := 1) rfl in_MS t_MS t_MS_ok n_MS 3 (by decide) rfl rfl k_255 rfl rfl (Nat.le_of_ble_eq_true rfl) d_MS_init_34 ?_
  refine q_aload_n F d_MS_init_37 rfl ?_
  refine q_sipush F (n := 2000) d_MS_init_38 rfl ?_
  refine q_newL (h := b + 5) (cells := 4) (slots := 1012) F (hz.mono (by omega)) (by decide) (by omega) (by decide) (by decide) d_MS_init_41 ?_
  have p5 : (va_up (va_up (va_up (va_up (va_up sh (b + 1) (1, 100)) (b + 2) (1, 100)) (b + 3) (1, 800)) (b + 4) (1, 12)) (b + 5) (3, 2000)) b = (0, 0) := (va_up_ne _ _ (by omega)).trans p4
  refine q_putF (cells := 5) (slots := 3012) (h := b + 6) F hR p5 (by omega) (ci := 1) rfl in_MS t_MS t_MS_ok n_MS 4 (by decide) rfl rfl k_257 rfl rfl (Nat.le_of_ble_eq_true rfl) d_MS_init_43 ?_
  refine q_aload_n F d_MS_init_46 rfl ?_
  refine q_bipush F (n := 12) d_MS_init_47 rfl ?_
  refine q_newL (h := b + 6) (cells := 5) (slots := 3012) F (hz.mono (by omega)) (by decide) (by omega) (by decide) (by decide) d_MS_init_49 ?_
  have p6 : (va_up (va_up (va_up (va_up (va_up (va_up sh (b + 1) (1, 100)) (b + 2) (1, 100)) (b + 3) (1, 800)) (b + 4) (1, 12)) (b + 5) (3, 2000)) (b + 6) (3, 12)) b = (0, 0) := (va_up_ne _ _ (by omega)).trans p5
  refine q_putF (cells := 6) (slots := 3024) (h := b + 7) F hR p6 (by omega) (ci := 1) rfl in_MS t_MS t_MS_ok n_MS 5 (by decide) rfl rfl k_259 rfl rfl (Nat.le_of_ble_eq_true rfl) d_MS_init_51 ?_
  have ez : zEn cs μ b (7, 0) = some (.inr (1, zMS μ b)) := rfl
  refine q_vret (cells := 6) (slots := 3024) F hR d_MS_init_54 (va_up (va_up (va_up (va_up (va_up (va_up (va_up sh (b + 1) (1, 100)) (b + 2) (1, 100)) (b + 3) (1, 800)) (b + 4) (1, 12)) (b + 5) (3, 2000)) (b + 6) (3, 12)) b (7, 0)) ⟨rfl, rfl, ?_, fun a ha => ?_⟩ (fun H hP hO => hP.add (t := (7, 0)) ez ?_)
  · refine ⟨by show va_up _ _ _ _ = _; simp [va_up], by show va_up _ _ _ _ = _; simp [va_up], by show va_up _ _ _ _ = _; simp [va_up], by show va_up _ _ _ _ = _; simp [va_up], by show va_up _ _ _ _ = _; simp [va_up], by show va_up _ _ _ _ = _; simp [va_up], by show va_up _ _ _ _ = _; simp [va_up]⟩
  · rw [va_up_ne _ _ (by omega), va_up_ne _ _ (by omega), va_up_ne _ _ (by omega), va_up_ne _ _ (by omega), va_up_ne _ _ (by omega), va_up_ne _ _ (by omega), va_up_ne _ _ (by omega)]
  · have e := hO 0 _ rfl
    have z0 := (hz b (Nat.le_refl _)).1
    simpa [fs0_MS, zMS, z0] using e
def fs0_K : List Value := [.null, .null, .null, .null, .null, .int 0, .long 0]
set_option maxRecDepth 8000 in
theorem c_K_init {l : Launch} {D : va_G} {cs : zCs} {sh : zSh} {μ : zMem} {z : Nat} (hz : zZ μ z) (hsh : ∀ a, z ≤ a → sh a = (0, 0)) : zCN l D cs sh y_K_init b_K_init 2 2 40 123 70944 z 2 fs0_K μ (fun sh' μ' h' => h' = z + 124 ∧ KOb (l, D, cs, sh') z ∧ (∀ a, (a < z ∨ z + 124 ≤ a) → sh' a = sh a) ∧ RepKH μ' z T0 ∧ zZ μ' (z + 124) ∧ zOut z 124 μ μ') := by
  refine zCN.of (by decide) rfl (by decide) [some (.ref z), none] rfl rfl (fun x F hR => ?_)
  have F : zFN D cs x b_K_init R_K 2 2 40 123 70944 z := F
  have p0 := hsh z (Nat.le_refl _)
  refine q_aload_n F d_K_init_0 rfl ?_
  refine q_objInit F k_11 rfl (Nat.le_of_ble_eq_true rfl) (by decide) d_K_init_1 ?_
  refine q_aload_n F d_K_init_4 rfl ?_
  refine q_newN (h := z + 1) (cells := 0) (slots := 0) (host := "KeepHeap") F (c_KS_init (hz.mono (by omega)) (fun a ha => hsh a (by omega))) k_14 k_15 k_2 (ci := 0) rfl in_KS t_KS t_KS_ok (fun j hj => by rcases (show j = 0 ∨ j = 1 ∨ j = 2 ∨ j = 3 ∨ j = 4 ∨ j = 5 ∨ j = 6 ∨ j = 7 ∨ j = 8 ∨ j = 9 ∨ j = 10 ∨ j = 11 by omega) with rfl | rfl | rfl | rfl | rfl | rfl | rfl | rfl | rfl | rfl | rfl | rfl <;> rfl) (by decide +kernel) k_17 k_18 rfl rfl ⟨by decide +kernel, by decide +kernel, by decide +kernel⟩ (by decide) rfl (Nat.le_of_ble_eq_true rfl) (by decide) (by decide) (by omega) d_K_init_5 d_K_init_8 d_K_init_9 (fun sh1 μ1 h1 hq => ?_)
  obtain ⟨em, rfl, b1, o1⟩ := hq
  rw [em]
  clear em
  have z1 : ∀ a, z + 12 ≤ a → sh1 a = (0, 0) := fun a ha => (o1 a (by omega)).trans (hsh a (by omega))
  have p1 : sh1 z = (0, 0) := (o1 z (by omega)).trans p0
  refine q_putF (cells := 11) (slots := 6448) (h := z + 12) F hR p1 (by omega) (ci := 2) rfl in_K t_K t_K_ok n_K 0 (by decide) rfl rfl k_67 rfl rfl (Nat.le_of_ble_eq_true rfl) d_K_init_12 ?_
  refine q_aload_n F d_K_init_15 rfl ?_
  refine q_newN (h := z + 12) (cells := 11) (slots := 6448) (host := "KeepHeap") F (c_KS_init (hz.mono (by omega)) (fun a ha => z1 a (by omega))) k_14 k_15 k_2 (ci := 0) rfl in_KS t_KS t_KS_ok (fun j hj => by rcases (show j = 0 ∨ j = 1 ∨ j = 2 ∨ j = 3 ∨ j = 4 ∨ j = 5 ∨ j = 6 ∨ j = 7 ∨ j = 8 ∨ j = 9 ∨ j = 10 ∨ j = 11 by omega) with rfl | rfl | rfl | rfl | rfl | rfl | rfl | rfl | rfl | rfl | rfl | rfl <;> rfl) (by decide +kernel) k_17 k_18 rfl rfl ⟨by decide +kernel, by decide +kernel, by decide +kernel⟩ (by decide) rfl (Nat.le_of_ble_eq_true rfl) (by decide) (by decide) (by omega) d_K_init_16 d_K_init_19 d_K_init_20 (fun sh2 μ2 h2 hq => ?_)
  obtain ⟨em, rfl, b2, o2⟩ := hq
  rw [em]
  clear em
  have z2 : ∀ a, z + 23 ≤ a → sh2 a = (0, 0) := fun a ha => (o2 a (by omega)).trans (z1 a (by omega))
  have p2 : sh2 z = (0, 0) := (o2 z (by omega)).trans p1
  refine q_putF (cells := 22) (slots := 12896) (h := z + 23) F hR p2 (by omega) (ci := 2) rfl in_K t_K t_K_ok n_K 1 (by decide) rfl rfl k_68 rfl rfl (Nat.le_of_ble_eq_true rfl) d_K_init_23 ?_
  refine q_aload_n F d_K_init_26 rfl ?_
  refine q_newN (h := z + 23) (cells := 22) (slots := 12896) (host := "KeepHeap") F (c_KS_init (hz.mono (by omega)) (fun a ha => z2 a (by omega))) k_14 k_15 k_2 (ci := 0) rfl in_KS t_KS t_KS_ok (fun j hj => by rcases (show j = 0 ∨ j = 1 ∨ j = 2 ∨ j = 3 ∨ j = 4 ∨ j = 5 ∨ j = 6 ∨ j = 7 ∨ j = 8 ∨ j = 9 ∨ j = 10 ∨ j = 11 by omega) with rfl | rfl | rfl | rfl | rfl | rfl | rfl | rfl | rfl | rfl | rfl | rfl <;> rfl) (by decide +kernel) k_17 k_18 rfl rfl ⟨by decide +kernel, by decide +kernel, by decide +kernel⟩ (by decide) rfl (Nat.le_of_ble_eq_true rfl) (by decide) (by decide) (by omega) d_K_init_27 d_K_init_30 d_K_init_31 (fun sh3 μ3 h3 hq => ?_)
  obtain ⟨em, rfl, b3, o3⟩ := hq
  rw [em]
  clear em
  have z3 : ∀ a, z + 34 ≤ a → sh3 a = (0, 0) := fun a ha => (o3 a (by omega)).trans (z2 a (by omega))
  have p3 : sh3 z = (0, 0) := (o3 z (by omega)).trans p2
  refine q_putF (cells := 33) (slots := 19344) (h := z + 34) F hR p3 (by omega) (ci := 2) rfl in_K t_K t_K_ok n_K 2 (by decide) rfl rfl k_69 rfl rfl (Nat.le_of_ble_eq_true rfl) d_K_init_34 ?_
  refine q_aload_n F d_K_init_37 rfl ?_
  refine q_bipush F (n := 8) d_K_init_38 rfl ?_
  refine q_newqK (h := z + 34) (cells := 33) (slots := 19344) F (hz.mono (by omega)) (by decide) (by omega) (by decide) (by decide) k_14 d_K_init_40 ?_
  have p4 : (va_up sh3 (z + 34) (4, 8)) z = (0, 0) := (va_up_ne _ _ (by omega)).trans p3
  refine q_putF (cells := 34) (slots := 19352) (h := z + 35) F hR p4 (by omega) (ci := 2) rfl in_K t_K t_K_ok n_K 3 (by decide) rfl rfl k_70 rfl rfl (Nat.le_of_ble_eq_true rfl) d_K_init_43 ?_
  refine q_aload_n F d_K_init_46 rfl ?_
  refine q_bipush F (n := 8) d_K_init_47 rfl ?_
  refine q_newI (h := z + 35) (cells := 34) (slots := 19352) F (hz.mono (by omega)) (by decide) (by omega) (by decide) (by decide) d_K_init_49 ?_
  have p5 : (va_up (va_up sh3 (z + 34) (4, 8)) (z + 35) (1, 8)) z = (0, 0) := (va_up_ne _ _ (by omega)).trans p4
  refine q_putF (cells := 35) (slots := 19360) (h := z + 36) F hR p5 (by omega) (ci := 2) rfl in_K t_K t_K_ok n_K 4 (by decide) rfl rfl k_71 rfl rfl (Nat.le_of_ble_eq_true rfl) d_K_init_51 ?_
  refine q_iconst F (n := 0) d_K_init_54 ?_
  refine q_istore_n F d_K_init_55 (Nat.le_of_ble_eq_true rfl) rfl rfl ?_
  have shb : (va_up (va_up sh3 (z + 34) (4, 8)) (z + 35) (1, 8)) = (va_up (va_up sh3 (z + 34) (4, 8)) (z + 35) (1, 8)) := rfl
  generalize hcur : (va_up (va_up sh3 (z + 34) (4, 8)) (z + 35) (1, 8)) = shL at p5 ⊢
  have fO : ∀ a, (a < z ∨ z + 36 ≤ a) → shL a = sh a := fun a ha => by
    rw [← hcur, va_up_ne _ _ (by omega), va_up_ne _ _ (by omega), o3 a (by omega), o2 a (by omega), o1 a (by omega)]
  have B1 : KSb (l, D, cs, shL) (z + 1) := by
    have e : ∀ a, z + 1 ≤ a → a < z + 12 → shL a = sh1 a := fun a h1 h2 => by rw [← hcur, va_up_ne _ _ (by omega), va_up_ne _ _ (by omega), o3 _ (by omega), o2 _ (by omega)]
    unfold KSb gs at b1 ⊢
    dsimp only at b1 ⊢
    rw [e _ (by omega) (by omega), e _ (by omega) (by omega), e _ (by omega) (by omega), e _ (by omega) (by omega), e _ (by omega) (by omega), e _ (by omega) (by omega), e _ (by omega) (by omega), e _ (by omega) (by omega), e _ (by omega) (by omega), e _ (by omega) (by omega), e _ (by omega) (by omega)]
    exact b1
  have B2 : KSb (l, D, cs, shL) (z + 12) := by
    have e : ∀ a, z + 12 ≤ a → a < z + 23 → shL a = sh2 a := fun a h1 h2 => by rw [← hcur, va_up_ne _ _ (by omega), va_up_ne _ _ (by omega), o3 _ (by omega)]
    unfold KSb gs at b2 ⊢
    dsimp only at b2 ⊢
    rw [e _ (by omega) (by omega), e _ (by omega) (by omega), e _ (by omega) (by omega), e _ (by omega) (by omega), e _ (by omega) (by omega), e _ (by omega) (by omega), e _ (by omega) (by omega), e _ (by omega) (by omega), e _ (by omega) (by omega), e _ (by omega) (by omega), e _ (by omega) (by omega)]
    exact b2
  have B3 : KSb (l, D, cs, shL) (z + 23) := by
    have e : ∀ a, z + 23 ≤ a → a < z + 34 → shL a = sh3 a := fun a h1 h2 => by rw [← hcur, va_up_ne _ _ (by omega), va_up_ne _ _ (by omega)]
    unfold KSb gs at b3 ⊢
    dsimp only at b3 ⊢
    rw [e _ (by omega) (by omega), e _ (by omega) (by omega), e _ (by omega) (by omega), e _ (by omega) (by omega), e _ (by omega) (by omega), e _ (by omega) (by omega), e _ (by omega) (by omega), e _ (by omega) (by omega), e _ (by omega) (by omega), e _ (by omega) (by omega), e _ (by omega) (by omega)]
    exact b3
  have E34 : shL (z + 34) = (4, 8) := by rw [← hcur]; simp [va_up]
  have E35 : shL (z + 35) = (1, 8) := by rw [← hcur]; simp [va_up]
  refine lpU (σ := zSh × zMem) 8 (fun k s => PN l D cs s.1 x (35 + 11 * k) (19360 + 6448 * k) (z + 36 + 11 * k) [(z, .inr (2, [.ref (z + 1), .ref (z + 12), .ref (z + 23), .ref (z + 34), .ref (z + 35), .int 0, .long 0]))] s.2 56 [some (.ref z), some (.int (nI k))] []) (fun k s => (∀ a, a < z + 36 → s.1 a = shL a) ∧ (∀ a, z + 36 + 11 * k ≤ a → s.1 a = sh a) ∧ (∀ i, i < k → KSb (l, D, cs, s.1) (z + 36 + 11 * i)) ∧ s.2.1 = μ.1 ∧ s.2.2.1 = μ.2.1 ∧ (∀ a, a ≠ z + 34 → s.2.2.2 a = μ.2.2 a) ∧ ∀ i, i < k → s.2.2.2 (z + 34) i = some (z + 36 + 11 * i)) (fun k s hk hI ih => ?_) 0 (shL, μ) (Nat.zero_le _) ⟨fun _ _ => rfl, fun a ha => fO a (by omega), fun i h => absurd h (Nat.not_lt_zero i), rfl, rfl, fun _ _ => rfl, fun i h => absurd h (Nat.not_lt_zero i)⟩
  obtain ⟨sk, μk⟩ := s
  obtain ⟨g1, g2, g3, g4, g5, g6, g7⟩ := hI
  dsimp only at g1 g2 g3 g4 g5 g6 g7 ih ⊢
  have hzk : zZ μk (z + 36) := fun a ha => ⟨by rw [g4]; exact (hz a (by omega)).1, by rw [g5]; exact (hz a (by omega)).2.1, by rw [g6 a (by omega)]; exact (hz a (by omega)).2.2⟩
  refine q_iload_n F d_K_init_56 rfl ?_
  refine q_bipush F (n := 8) d_K_init_57 rfl ?_
  refine q_icmp_ge F 81 d_K_init_59 (by decide) (by omega) (by omega) (fun h1 => ?_) (fun h1 => ?_)
  · have hk8 : k = 8 := by omega
    subst hk8
    have ez : zEn cs μk z (8, 0) = some (.inr (2, zKO μk z)) := rfl
    refine q_vret (cells := 123) (slots := 70944) F hR d_K_init_81 (va_up sk z (8, 0)) ⟨rfl, ?_, fun a ha => ?_, ?_, hzk.mono (by omega), fun a ha => ⟨by rw [g4], by rw [g5], g6 a (by omega)⟩⟩ (fun H hP hO => hP.add (t := (8, 0)) ez ?_)
    · have e : ∀ a, z < a → a < z + 36 → va_up sk z (8, 0) a = shL a := fun a h1 h2 => by rw [va_up_ne _ _ (by omega), g1 a h2]
      refine ⟨va_up_self _ _ _, ?_, ?_, ?_, (e _ (by omega) (by omega)).trans E34, (e _ (by omega) (by omega)).trans E35, fun i hi => ?_⟩
      · unfold KSb gs at B1 ⊢
        dsimp only at B1 ⊢
        rw [e _ (by omega) (by omega), e _ (by omega) (by omega), e _ (by omega) (by omega), e _ (by omega) (by omega), e _ (by omega) (by omega), e _ (by omega) (by omega), e _ (by omega) (by omega), e _ (by omega) (by omega), e _ (by omega) (by omega), e _ (by omega) (by omega), e _ (by omega) (by omega)]
        exact B1
      · unfold KSb gs at B2 ⊢
        dsimp only at B2 ⊢
        rw [e _ (by omega) (by omega), e _ (by omega) (by omega), e _ (by omega) (by omega), e _ (by omega) (by omega), e _ (by omega) (by omega), e _ (by omega) (by omega), e _ (by omega) (by omega), e _ (by omega) (by omega), e _ (by omega) (by omega), e _ (by omega) (by omega), e _ (by omega) (by omega)]
        exact B2
      · unfold KSb gs at B3 ⊢
        dsimp only at B3 ⊢
        rw [e _ (by omega) (by omega), e _ (by omega) (by omega), e _ (by omega) (by omega), e _ (by omega) (by omega), e _ (by omega) (by omega), e _ (by omega) (by omega), e _ (by omega) (by omega), e _ (by omega) (by omega), e _ (by omega) (by omega), e _ (by omega) (by omega), e _ (by omega) (by omega)]
        exact B3
      · have b := g3 i hi
        unfold KSb gs at b ⊢
        dsimp only at b ⊢
        rw [va_up_ne _ _ (by omega), va_up_ne _ _ (by omega), va_up_ne _ _ (by omega), va_up_ne _ _ (by omega), va_up_ne _ _ (by omega), va_up_ne _ _ (by omega), va_up_ne _ _ (by omega), va_up_ne _ _ (by omega), va_up_ne _ _ (by omega), va_up_ne _ _ (by omega), va_up_ne _ _ (by omega)]
        exact b
    · rw [va_up_ne _ _ (by omega)]
      by_cases ha2 : a < z
      · rw [g1 a (by omega), fO a (Or.inl ha2)]
      · exact g2 a (by omega)
    · have zi : ∀ a i, z ≤ a → μk.1 a i = 0 := fun a i ha => by rw [g4, (hz a ha).1]
      exact ⟨RepK.s0 (fun a i ha => zi a i (by omega)), RepK.s0 (fun a i ha => zi a i (by omega)), RepK.s0 (fun a i ha => zi a i (by omega)), by rw [zi _ _ (by omega)]; exact nI_0.symm, by rw [g5, (hz z (Nat.le_refl _)).2.1]; rfl, id, ⟨fun k hk => ⟨hk, g7 k hk⟩, fun i j _ _ h => h⟩, fun k e he => by simp [T0] at he⟩
    · have e := hO 0 _ rfl
      have z0 : μk.1 z = (fun _ => 0) := by rw [g4]; exact (hz z (Nat.le_refl _)).1
      have z1 : μk.2.1 z = (fun _ => 0) := by rw [g5]; exact (hz z (Nat.le_refl _)).2.1
      simpa [zKO, z0, z1] using e
  · refine q_aload_n F d_K_init_62 rfl ?_
    refine q_getO F (ci := 2) rfl in_K 3 (by decide) rfl k_70 rfl d_K_init_63 ?_
    refine q_iload_n F d_K_init_66 rfl ?_
    refine q_newN (h := z + 36 + 11 * k) (cells := 35 + 11 * k) (slots := 19360 + 6448 * k) (host := "KeepHeap") F (c_KS_init (hzk.mono (by omega)) (fun a ha => (g2 a (by omega)).trans (hsh a (by omega)))) k_14 k_15 k_2 (ci := 0) rfl in_KS t_KS t_KS_ok (fun j hj => by rcases (show j = 0 ∨ j = 1 ∨ j = 2 ∨ j = 3 ∨ j = 4 ∨ j = 5 ∨ j = 6 ∨ j = 7 ∨ j = 8 ∨ j = 9 ∨ j = 10 ∨ j = 11 by omega) with rfl | rfl | rfl | rfl | rfl | rfl | rfl | rfl | rfl | rfl | rfl | rfl <;> rfl) (by decide +kernel) k_17 k_18 rfl rfl ⟨by decide +kernel, by decide +kernel, by decide +kernel⟩ (by decide) rfl (Nat.le_of_ble_eq_true rfl) (by omega) (by omega) (by omega) d_K_init_67 d_K_init_70 d_K_init_71 (fun shn μn hn hq => ?_)
    obtain ⟨em, rfl, bn, on⟩ := hq
    rw [em]
    have pz : shn z = (0, 0) := (on z (by omega)).trans ((g1 z (by omega)).trans p5)
    refine q_astK F rfl pz d_K_init_74 ((on _ (by omega)).trans ((g1 _ (by omega)).trans E34)) h1 (by decide) bn.1 (by omega) ?_
    refine q_iinc F (n := 1) d_K_init_75 rfl rfl rfl ?_
    refine q_goto F 56 d_K_init_78 (by decide) ?_
    refine (ih h1 (shn, mR μk (z + 34) k (some (z + 36 + 11 * k))) ⟨fun a ha => (on a (by omega)).trans (g1 a ha), fun a ha => (on a (by omega)).trans (g2 a (by omega)), fun i hi => ?_, g4, g5, fun a ha => (mR_o _ _ _ ha).trans (g6 a ha), fun i hi => ?_⟩).eq (by omega) (by omega) (by omega) rfl rfl rfl rfl
    · by_cases e : i = k
      · subst e; exact bn
      · have b := g3 i (by omega)
        unfold KSb gs at b ⊢
        dsimp only at b ⊢
        rw [on _ (by omega), on _ (by omega), on _ (by omega), on _ (by omega), on _ (by omega), on _ (by omega), on _ (by omega), on _ (by omega), on _ (by omega), on _ (by omega), on _ (by omega)]
        exact b
    · by_cases e : i = k
      · subst e; exact mR_eq _ _ _ _
      · exact (mR_ne _ _ (Or.inr e)).trans (g7 i (by omega))
def fs0_M : List Value := [.null, .null, .null, .null, .int 0, .int 0, .null, .null]
set_option maxRecDepth 8000 in
theorem c_M_init {l : Launch} {D : va_G} {cs : zCs} {sh : zSh} {μ : zMem} {z : Nat} (hz : zZ μ z) (hsh : ∀ a, z ≤ a → sh a = (0, 0)) : zCN l D cs sh y_M_init b_M_init 2 2 40 80 33560 z 3 fs0_M μ (fun sh' μ' h' => h' = z + 81 ∧ MOb (l, D, cs, sh') z ∧ (∀ a, (a < z ∨ z + 81 ≤ a) → sh' a = sh a) ∧ RepMH μ' z T0 ∧ zZ μ' (z + 81) ∧ zOut z 81 μ μ') := by
  refine zCN.of (by decide) rfl (by decide) [some (.ref z), none] rfl rfl (fun x F hR => ?_)
  have F : zFN D cs x b_M_init R_M 2 2 40 80 33560 z := F
  have p0 := hsh z (Nat.le_refl _)
  refine q_aload_n F d_M_init_0 rfl ?_
  refine q_objInit F k_242 rfl (Nat.le_of_ble_eq_true rfl) (by decide) d_M_init_1 ?_
  refine q_aload_n F d_M_init_4 rfl ?_
  refine q_newN (h := z + 1) (cells := 0) (slots := 0) (host := "KeepHeapModel") F (c_MS_init (hz.mono (by omega)) (fun a ha => hsh a (by omega))) k_243 k_244 k_4 (ci := 1) rfl in_MS t_MS t_MS_ok (fun j hj => by rcases (show j = 0 ∨ j = 1 ∨ j = 2 ∨ j = 3 ∨ j = 4 ∨ j = 5 ∨ j = 6 ∨ j = 7 by omega) with rfl | rfl | rfl | rfl | rfl | rfl | rfl | rfl <;> rfl) (by decide +kernel) k_246 k_247 rfl rfl ⟨by decide +kernel, by decide +kernel, by decide +kernel⟩ (by decide) rfl (Nat.le_of_ble_eq_true rfl) (by decide) (by decide) (by omega) d_M_init_5 d_M_init_8 d_M_init_9 (fun sh1 μ1 h1 hq => ?_)
  obtain ⟨em, rfl, b1, o1⟩ := hq
  rw [em]
  clear em
  have z1 : ∀ a, z + 8 ≤ a → sh1 a = (0, 0) := fun a ha => (o1 a (by omega)).trans (hsh a (by omega))
  have p1 : sh1 z = (0, 0) := (o1 z (by omega)).trans p0
  refine q_putF (cells := 7) (slots := 3032) (h := z + 8) F hR p1 (by omega) (ci := 3) rfl in_M t_M t_M_ok n_M 0 (by decide) rfl rfl k_283 rfl rfl (Nat.le_of_ble_eq_true rfl) d_M_init_12 ?_
  refine q_aload_n F d_M_init_15 rfl ?_
  refine q_newN (h := z + 8) (cells := 7) (slots := 3032) (host := "KeepHeapModel") F (c_MS_init (hz.mono (by omega)) (fun a ha => z1 a (by omega))) k_243 k_244 k_4 (ci := 1) rfl in_MS t_MS t_MS_ok (fun j hj => by rcases (show j = 0 ∨ j = 1 ∨ j = 2 ∨ j = 3 ∨ j = 4 ∨ j = 5 ∨ j = 6 ∨ j = 7 by omega) with rfl | rfl | rfl | rfl | rfl | rfl | rfl | rfl <;> rfl) (by decide +kernel) k_246 k_247 rfl rfl ⟨by decide +kernel, by decide +kernel, by decide +kernel⟩ (by decide) rfl (Nat.le_of_ble_eq_true rfl) (by decide) (by decide) (by omega) d_M_init_16 d_M_init_19 d_M_init_20 (fun sh2 μ2 h2 hq => ?_)
  obtain ⟨em, rfl, b2, o2⟩ := hq
  rw [em]
  clear em
  have z2 : ∀ a, z + 15 ≤ a → sh2 a = (0, 0) := fun a ha => (o2 a (by omega)).trans (z1 a (by omega))
  have p2 : sh2 z = (0, 0) := (o2 z (by omega)).trans p1
  refine q_putF (cells := 14) (slots := 6064) (h := z + 15) F hR p2 (by omega) (ci := 3) rfl in_M t_M t_M_ok n_M 1 (by decide) rfl rfl k_284 rfl rfl (Nat.le_of_ble_eq_true rfl) d_M_init_23 ?_
  refine q_aload_n F d_M_init_26 rfl ?_
  refine q_newN (h := z + 15) (cells := 14) (slots := 6064) (host := "KeepHeapModel") F (c_MS_init (hz.mono (by omega)) (fun a ha => z2 a (by omega))) k_243 k_244 k_4 (ci := 1) rfl in_MS t_MS t_MS_ok (fun j hj => by rcases (show j = 0 ∨ j = 1 ∨ j = 2 ∨ j = 3 ∨ j = 4 ∨ j = 5 ∨ j = 6 ∨ j = 7 by omega) with rfl | rfl | rfl | rfl | rfl | rfl | rfl | rfl <;> rfl) (by decide +kernel) k_246 k_247 rfl rfl ⟨by decide +kernel, by decide +kernel, by decide +kernel⟩ (by decide) rfl (Nat.le_of_ble_eq_true rfl) (by decide) (by decide) (by omega) d_M_init_27 d_M_init_30 d_M_init_31 (fun sh3 μ3 h3 hq => ?_)
  obtain ⟨em, rfl, b3, o3⟩ := hq
  rw [em]
  clear em
  have z3 : ∀ a, z + 22 ≤ a → sh3 a = (0, 0) := fun a ha => (o3 a (by omega)).trans (z2 a (by omega))
  have p3 : sh3 z = (0, 0) := (o3 z (by omega)).trans p2
  refine q_putF (cells := 21) (slots := 9096) (h := z + 22) F hR p3 (by omega) (ci := 3) rfl in_M t_M t_M_ok n_M 2 (by decide) rfl rfl k_285 rfl rfl (Nat.le_of_ble_eq_true rfl) d_M_init_34 ?_
  refine q_aload_n F d_M_init_37 rfl ?_
  refine q_bipush F (n := 8) d_M_init_38 rfl ?_
  refine q_newqM (h := z + 22) (cells := 21) (slots := 9096) F (hz.mono (by omega)) (by decide) (by omega) (by decide) (by decide) k_243 d_M_init_40 ?_
  have p4 : (va_up sh3 (z + 22) (5, 8)) z = (0, 0) := (va_up_ne _ _ (by omega)).trans p3
  refine q_putF (cells := 22) (slots := 9104) (h := z + 23) F hR p4 (by omega) (ci := 3) rfl in_M t_M t_M_ok n_M 3 (by decide) rfl rfl k_286 rfl rfl (Nat.le_of_ble_eq_true rfl) d_M_init_43 ?_
  refine q_aload_n F d_M_init_46 rfl ?_
  refine q_bipush F (n := 100) d_M_init_47 rfl ?_
  refine q_newZ (h := z + 23) (cells := 22) (slots := 9104) F (hz.mono (by omega)) (by decide) (by omega) (by decide) (by decide) d_M_init_49 ?_
  have p5 : (va_up (va_up sh3 (z + 22) (5, 8)) (z + 23) (2, 100)) z = (0, 0) := (va_up_ne _ _ (by omega)).trans p4
  refine q_putF (cells := 23) (slots := 9204) (h := z + 24) F hR p5 (by omega) (ci := 3) rfl in_M t_M t_M_ok n_M 6 (by decide) rfl rfl k_289 rfl rfl (Nat.le_of_ble_eq_true rfl) d_M_init_51 ?_
  refine q_aload_n F d_M_init_54 rfl ?_
  refine q_bipush F (n := 100) d_M_init_55 rfl ?_
  refine q_newI (h := z + 24) (cells := 23) (slots := 9204) F (hz.mono (by omega)) (by decide) (by omega) (by decide) (by decide) d_M_init_57 ?_
  have p6 : (va_up (va_up (va_up sh3 (z + 22) (5, 8)) (z + 23) (2, 100)) (z + 24) (1, 100)) z = (0, 0) := (va_up_ne _ _ (by omega)).trans p5
  refine q_putF (cells := 24) (slots := 9304) (h := z + 25) F hR p6 (by omega) (ci := 3) rfl in_M t_M t_M_ok n_M 7 (by decide) rfl rfl k_290 rfl rfl (Nat.le_of_ble_eq_true rfl) d_M_init_59 ?_
  refine q_iconst F (n := 0) d_M_init_62 ?_
  refine q_istore_n F d_M_init_63 (Nat.le_of_ble_eq_true rfl) rfl rfl ?_
  have shb : (va_up (va_up (va_up sh3 (z + 22) (5, 8)) (z + 23) (2, 100)) (z + 24) (1, 100)) = (va_up (va_up (va_up sh3 (z + 22) (5, 8)) (z + 23) (2, 100)) (z + 24) (1, 100)) := rfl
  generalize hcur : (va_up (va_up (va_up sh3 (z + 22) (5, 8)) (z + 23) (2, 100)) (z + 24) (1, 100)) = shL at p6 ⊢
  have fO : ∀ a, (a < z ∨ z + 25 ≤ a) → shL a = sh a := fun a ha => by
    rw [← hcur, va_up_ne _ _ (by omega), va_up_ne _ _ (by omega), va_up_ne _ _ (by omega), o3 a (by omega), o2 a (by omega), o1 a (by omega)]
  have B1 : MSb (l, D, cs, shL) (z + 1) := by
    have e : ∀ a, z + 1 ≤ a → a < z + 8 → shL a = sh1 a := fun a h1 h2 => by rw [← hcur, va_up_ne _ _ (by omega), va_up_ne _ _ (by omega), va_up_ne _ _ (by omega), o3 _ (by omega), o2 _ (by omega)]
    unfold MSb gs at b1 ⊢
    dsimp only at b1 ⊢
    rw [e _ (by omega) (by omega), e _ (by omega) (by omega), e _ (by omega) (by omega), e _ (by omega) (by omega), e _ (by omega) (by omega), e _ (by omega) (by omega), e _ (by omega) (by omega)]
    exact b1
  have B2 : MSb (l, D, cs, shL) (z + 8) := by
    have e : ∀ a, z + 8 ≤ a → a < z + 15 → shL a = sh2 a := fun a h1 h2 => by rw [← hcur, va_up_ne _ _ (by omega), va_up_ne _ _ (by omega), va_up_ne _ _ (by omega), o3 _ (by omega)]
    unfold MSb gs at b2 ⊢
    dsimp only at b2 ⊢
    rw [e _ (by omega) (by omega), e _ (by omega) (by omega), e _ (by omega) (by omega), e _ (by omega) (by omega), e _ (by omega) (by omega), e _ (by omega) (by omega), e _ (by omega) (by omega)]
    exact b2
  have B3 : MSb (l, D, cs, shL) (z + 15) := by
    have e : ∀ a, z + 15 ≤ a → a < z + 22 → shL a = sh3 a := fun a h1 h2 => by rw [← hcur, va_up_ne _ _ (by omega), va_up_ne _ _ (by omega), va_up_ne _ _ (by omega)]
    unfold MSb gs at b3 ⊢
    dsimp only at b3 ⊢
    rw [e _ (by omega) (by omega), e _ (by omega) (by omega), e _ (by omega) (by omega), e _ (by omega) (by omega), e _ (by omega) (by omega), e _ (by omega) (by omega), e _ (by omega) (by omega)]
    exact b3
  have E22 : shL (z + 22) = (5, 8) := by rw [← hcur]; simp [va_up]
  have E23 : shL (z + 23) = (2, 100) := by rw [← hcur]; simp [va_up]
  have E24 : shL (z + 24) = (1, 100) := by rw [← hcur]; simp [va_up]
  refine lpU (σ := zSh × zMem) 8 (fun k s => PN l D cs s.1 x (24 + 7 * k) (9304 + 3032 * k) (z + 25 + 7 * k) [(z, .inr (3, [.ref (z + 1), .ref (z + 8), .ref (z + 15), .ref (z + 22), .int 0, .int 0, .ref (z + 23), .ref (z + 24)]))] s.2 64 [some (.ref z), some (.int (nI k))] []) (fun k s => (∀ a, a < z + 25 → s.1 a = shL a) ∧ (∀ a, z + 25 + 7 * k ≤ a → s.1 a = sh a) ∧ (∀ i, i < k → MSb (l, D, cs, s.1) (z + 25 + 7 * i)) ∧ s.2.1 = μ.1 ∧ s.2.2.1 = μ.2.1 ∧ (∀ a, a ≠ z + 22 → s.2.2.2 a = μ.2.2 a) ∧ ∀ i, i < k → s.2.2.2 (z + 22) i = some (z + 25 + 7 * i)) (fun k s hk hI ih => ?_) 0 (shL, μ) (Nat.zero_le _) ⟨fun _ _ => rfl, fun a ha => fO a (by omega), fun i h => absurd h (Nat.not_lt_zero i), rfl, rfl, fun _ _ => rfl, fun i h => absurd h (Nat.not_lt_zero i)⟩
  obtain ⟨sk, μk⟩ := s
  obtain ⟨g1, g2, g3, g4, g5, g6, g7⟩ := hI
  dsimp only at g1 g2 g3 g4 g5 g6 g7 ih ⊢
  have hzk : zZ μk (z + 25) := fun a ha => ⟨by rw [g4]; exact (hz a (by omega)).1, by rw [g5]; exact (hz a (by omega)).2.1, by rw [g6 a (by omega)]; exact (hz a (by omega)).2.2⟩
  refine q_iload_n F d_M_init_64 rfl ?_
  refine q_bipush F (n := 8) d_M_init_65 rfl ?_
  refine q_icmp_ge F 89 d_M_init_67 (by decide) (by omega) (by omega) (fun h1 => ?_) (fun h1 => ?_)
  · have hk8 : k = 8 := by omega
    subst hk8
    have ez : zEn cs μk z (9, 0) = some (.inr (3, zMO μk z)) := rfl
    refine q_vret (cells := 80) (slots := 33560) F hR d_M_init_89 (va_up sk z (9, 0)) ⟨rfl, ?_, fun a ha => ?_, ?_, hzk.mono (by omega), fun a ha => ⟨by rw [g4], by rw [g5], g6 a (by omega)⟩⟩ (fun H hP hO => hP.add (t := (9, 0)) ez ?_)
    · have e : ∀ a, z < a → a < z + 25 → va_up sk z (9, 0) a = shL a := fun a h1 h2 => by rw [va_up_ne _ _ (by omega), g1 a h2]
      refine ⟨va_up_self _ _ _, ?_, ?_, ?_, (e _ (by omega) (by omega)).trans E22, (e _ (by omega) (by omega)).trans E23, (e _ (by omega) (by omega)).trans E24, fun i hi => ?_⟩
      · unfold MSb gs at B1 ⊢
        dsimp only at B1 ⊢
        rw [e _ (by omega) (by omega), e _ (by omega) (by omega), e _ (by omega) (by omega), e _ (by omega) (by omega), e _ (by omega) (by omega), e _ (by omega) (by omega), e _ (by omega) (by omega)]
        exact B1
      · unfold MSb gs at B2 ⊢
        dsimp only at B2 ⊢
        rw [e _ (by omega) (by omega), e _ (by omega) (by omega), e _ (by omega) (by omega), e _ (by omega) (by omega), e _ (by omega) (by omega), e _ (by omega) (by omega), e _ (by omega) (by omega)]
        exact B2
      · unfold MSb gs at B3 ⊢
        dsimp only at B3 ⊢
        rw [e _ (by omega) (by omega), e _ (by omega) (by omega), e _ (by omega) (by omega), e _ (by omega) (by omega), e _ (by omega) (by omega), e _ (by omega) (by omega), e _ (by omega) (by omega)]
        exact B3
      · have b := g3 i hi
        unfold MSb gs at b ⊢
        dsimp only at b ⊢
        rw [va_up_ne _ _ (by omega), va_up_ne _ _ (by omega), va_up_ne _ _ (by omega), va_up_ne _ _ (by omega), va_up_ne _ _ (by omega), va_up_ne _ _ (by omega), va_up_ne _ _ (by omega)]
        exact b
    · rw [va_up_ne _ _ (by omega)]
      by_cases ha2 : a < z
      · rw [g1 a (by omega), fO a (Or.inl ha2)]
      · exact g2 a (by omega)
    · have zi : ∀ a i, z ≤ a → μk.1 a i = 0 := fun a i ha => by rw [g4, (hz a ha).1]
      exact ⟨RepM.s0 (fun a i ha => zi a i (by omega)), RepM.s0 (fun a i ha => zi a i (by omega)), RepM.s0 (fun a i ha => zi a i (by omega)), by rw [zi _ _ (by omega)]; exact nI_0.symm, by rw [zi _ _ (by omega)]; rfl, id, ⟨fun k hk => ⟨hk, g7 k hk⟩, fun i j _ _ h => h⟩, fun k e he => by simp [T0] at he⟩
    · have e := hO 0 _ rfl
      have z0 : μk.1 z = (fun _ => 0) := by rw [g4]; exact (hz z (Nat.le_refl _)).1
      have z1 : μk.2.1 z = (fun _ => 0) := by rw [g5]; exact (hz z (Nat.le_refl _)).2.1
      simpa [zMO, z0, z1] using e
  · refine q_aload_n F d_M_init_70 rfl ?_
    refine q_getO F (ci := 3) rfl in_M 3 (by decide) rfl k_286 rfl d_M_init_71 ?_
    refine q_iload_n F d_M_init_74 rfl ?_
    refine q_newN (h := z + 25 + 7 * k) (cells := 24 + 7 * k) (slots := 9304 + 3032 * k) (host := "KeepHeapModel") F (c_MS_init (hzk.mono (by omega)) (fun a ha => (g2 a (by omega)).trans (hsh a (by omega)))) k_243 k_244 k_4 (ci := 1) rfl in_MS t_MS t_MS_ok (fun j hj => by rcases (show j = 0 ∨ j = 1 ∨ j = 2 ∨ j = 3 ∨ j = 4 ∨ j = 5 ∨ j = 6 ∨ j = 7 by omega) with rfl | rfl | rfl | rfl | rfl | rfl | rfl | rfl <;> rfl) (by decide +kernel) k_246 k_247 rfl rfl ⟨by decide +kernel, by decide +kernel, by decide +kernel⟩ (by decide) rfl (Nat.le_of_ble_eq_true rfl) (by omega) (by omega) (by omega) d_M_init_75 d_M_init_78 d_M_init_79 (fun shn μn hn hq => ?_)
    obtain ⟨em, rfl, bn, on⟩ := hq
    rw [em]
    have pz : shn z = (0, 0) := (on z (by omega)).trans ((g1 z (by omega)).trans p6)
    refine q_astM F rfl pz d_M_init_82 ((on _ (by omega)).trans ((g1 _ (by omega)).trans E22)) h1 (by decide) bn.1 (by omega) ?_
    refine q_iinc F (n := 1) d_M_init_83 rfl rfl rfl ?_
    refine q_goto F 64 d_M_init_86 (by decide) ?_
    refine (ih h1 (shn, mR μk (z + 22) k (some (z + 25 + 7 * k))) ⟨fun a ha => (on a (by omega)).trans (g1 a ha), fun a ha => (on a (by omega)).trans (g2 a (by omega)), fun i hi => ?_, g4, g5, fun a ha => (mR_o _ _ _ ha).trans (g6 a ha), fun i hi => ?_⟩).eq (by omega) (by omega) (by omega) rfl rfl rfl rfl
    · by_cases e : i = k
      · subst e; exact bn
      · have b := g3 i (by omega)
        unfold MSb gs at b ⊢
        dsimp only at b ⊢
        rw [on _ (by omega), on _ (by omega), on _ (by omega), on _ (by omega), on _ (by omega), on _ (by omega), on _ (by omega)]
        exact b
    · by_cases e : i = k
      · subst e; exact mR_eq _ _ _ _
      · exact (mR_ne _ _ (Or.inr e)).trans (g7 i (by omega))
end
section
-- head of the skeleton (a starting text)
def R_law : String := "KeepHeapLaw"
def lw_P (b : Addr) (xs : List Int32) (args : Array Value) (s : State) : Prop := args = #[.ref b] ∧ s.IntsAt b xs ∧ xs.length ≤ 2560 ∧ (Jvm.Cond.and given_1 narrow_1).before args s = true
def lw_Q (_ : Array Value) (s : State) (o : Outcome) (t : State) : Prop := o = .returned (some (.int 1)) ∧ Framed s o t [] 600000 7302250
def lw_Z (below : List Frame) (a : Array Value) (s : State) : State → Prop := fun t => ∃ o, t.status = .running ∧ Ended t below o ∧ lw_Q a s o t
/-- the law's own end, with 1 on the stack, nothing written that was there before, its room as the claim has it -/
theorem lw_ret {p : Program} {l : Launch} {e : Env} {s : State} {m : MethodId} {below : List Frame} {meth : Method} {c : Code} {b : Nat} (hx : p.tables.exec = Jvm.exec) (hb : c.code = code) (hr : meth.sig.returnType = ret) (hlocks : meth.locks = false) {pc : Nat} {H : Heap} {ls : Array Slot} (hdg : decode code pc = .ok (.ireturn, 1)) : W p l e room_1 s m #[Value.ref b] below meth c H [] 600000 7302250 (lw_Z below #[Value.ref b] s) (F0 m pc ls [.int 1]) := by
  intro T hT X
  obtain ⟨fs, hret, hrun, hended, hW, hframe⟩ := X.leave (v := some (.int 1)) (hlocks := hlocks) (fun h => by rw [hr] at h; cases h)
  have hmeth' : T.vm.method? m = some meth := X.method'
  refine ⟨T.setFrames fs, ?_, .returned (some (.int 1)), hrun, hended, rfl, ⟨_, rfl⟩, hW, hframe⟩
  jvm_step X.here [X.here.top, hx, hb, hdg, hmeth', hr, ret, narrow_b1]
  (try refine ⟨rfl, ?_⟩); (try refine ⟨rfl, ?_⟩)
  first | (intro acts; rw [hret _ acts rfl rfl rfl]) | rw [hret _ _ rfl rfl rfl]
  exact Steps.refl _
/-- what holds at the law's entry: the machine, the code, the tables' words (any of lw_tbl by 'hts w (by decide +kernel)'), the script of L ints xs at the cell b, what the Statement gives of the start (any of its parts by flat_of_before) -/
def lw_At (p : Program) (s : State) (m : MethodId) (meth : Method) (c : Code) (b L : Nat) (xs : Nat → Int32) : Prop :=
  p.tables.exec = Jvm.exec ∧ c.code = code ∧ meth.sig.returnType = ret ∧ c.maxLocals = 4 ∧ s.vm.findClass R_law = some m.cls ∧ (∀ w ∈ lw_tbl, w.before #[Value.ref b] s = true) ∧ va_X b L xs s s.heap ∧ b < s.heap.size ∧ meth.locks = false ∧ (Jvm.Cond.and given_1 narrow_1).before #[Value.ref b] s = true
-- end of the skeleton's head
theorem RepKH.out {μ μ' : zMem} {z lo n : Nat} {T : Ts} (h : RepKH μ z T) (hT : InvT T) (ho : zOut lo n μ μ') (hd : z + 124 ≤ lo ∨ lo + n ≤ z) : RepKH μ' z T := by
  obtain ⟨h1, h2, h3, h4, h5, π, h6, h7⟩ := h
  have hw := hT.2.2.2.1
  refine ⟨h1.out ho (by omega), h2.out ho (by omega), h3.out ho (by omega), by rw [(ho z (by omega)).1]; exact h4, by rw [(ho z (by omega)).2.1]; exact h5, π, ⟨fun k hk => ⟨(h6.1 k hk).1, by rw [(ho (z + 34) (by omega)).2.2]; exact (h6.1 k hk).2⟩, h6.2⟩, fun k e he => ?_⟩
  obtain ⟨a1, a2⟩ := h7 k e he
  have hk := (List.getElem?_eq_some_iff.mp he).1
  have := (h6.1 k (by omega)).1
  exact ⟨a1.out ho (by omega), by rw [(ho (z + 35) (by omega)).1]; exact a2⟩
theorem RepMH.out {μ μ' : zMem} {z lo n : Nat} {T : Ts} (h : RepMH μ z T) (hT : InvT T) (ho : zOut lo n μ μ') (hd : z + 81 ≤ lo ∨ lo + n ≤ z) : RepMH μ' z T := by
  obtain ⟨h1, h2, h3, h4, h5, π, h6, h7⟩ := h
  have hw := hT.2.2.2.1
  refine ⟨h1.out ho (by omega), h2.out ho (by omega), h3.out ho (by omega), by rw [(ho z (by omega)).1]; exact h4, by rw [(ho z (by omega)).1]; exact h5, π, ⟨fun k hk => ⟨(h6.1 k hk).1, by rw [(ho (z + 22) (by omega)).2.2]; exact (h6.1 k hk).2⟩, h6.2⟩, fun k e he => ?_⟩
  obtain ⟨a1, a2⟩ := h7 k e he
  have hk := (List.getElem?_eq_some_iff.mp he).1
  have := (h6.1 k (by omega)).1
  exact ⟨a1.out ho (by omega), by rw [(ho (z + 25 + 7 * π k) (by omega)).1]; exact a2⟩
-- the script
def zSc (x : zX) (b N : Nat) (xs : Nat → Int32) : Prop := match x with
  | (_, _, _, s, _, _, _, _, _, _, _, _, A) => va_X b N xs s s.heap ∧ b < s.heap.size ∧ ¬ A b
section ZSC
variable {g : zG} {x : zX} {cc : ByteArray} {own : String} {nL fr lo : Nat} {μ : zMem} {pc : Nat} {L : List (Option Value)} {st : List Value}
theorem s_sld (F : zF g x cc own nL fr lo) {b N : Nat} {xs : Nat → Int32} (hx : zSc x b N xs) {i : Nat} (hd : decode cc pc = .ok (.iaload, 1)) (hi : i < N) (hN : N ≤ 2560)
    (k : PW g x μ (pc + 1) L (.int (xs i) :: st)) : PW g x μ pc L (.int (nI i) :: .ref b :: st) := by
  obtain ⟨l, D, cs, sh⟩ := g
  obtain ⟨p, e, R, s, m, args, below, meth, c, cells, slots, Q, A⟩ := x
  intro H locs ls hP hS hl
  have hb : vp_in (nI i) N := vp_in_nI hi (by omega)
  have hk := k H locs ls hP hS hl
  rw [← nI_clamp (n := i) (by omega)] at hk
  exact va_sld F.1 F.2.1 hx.1 hx.2.1 hx.2.2 hS hb hd hk
theorem s_slen (F : zF g x cc own nL fr lo) {b N : Nat} {xs : Nat → Int32} (hx : zSc x b N xs) (hd : decode cc pc = .ok (.arraylength, 1))
    (k : PW g x μ (pc + 1) L (.int (nI N) :: st)) : PW g x μ pc L (.ref b :: st) := by
  obtain ⟨l, D, cs, sh⟩ := g
  obtain ⟨p, e, R, s, m, args, below, meth, c, cells, slots, Q, A⟩ := x
  intro H locs ls hP hS hl
  exact va_slen F.1 F.2.1 hx.1 hx.2.1 hx.2.2 hS hd (k H locs ls hP hS hl)
end ZSC
theorem len5 {i N : Nat} (hN : N ≤ 2560) (hi : i ≤ 2570) : ¬ (nI N - nI 5 < nI i) → i + 5 ≤ N := by
  intro h
  rw [Int32.lt_iff_toInt_lt, pk_sub_toInt (by omega) (by omega), nI_toInt (by omega)] at h
  omega
end
section
set_option maxRecDepth 8000 in
theorem law_step {g : zG} {x : zX} {z b N i : Nat} {xs : Nat → Int32} {μ : zMem} {T : Ts} (F : zF g x b_LAW_law R_LAW 4 6 192) (hx : zSc x b N xs) (hN : N ≤ 2560) (hi : i + 5 ≤ N) (hz : KOb g z) (hy : MOb g (z + 124)) (hT : InvT T) (hK : RepKH μ z T) (hM : RepMH μ (z + 124) T)
    (next : ∀ (μ' : zMem) (T' : Ts), InvT T' → RepKH μ' z T' → RepMH μ' (z + 124) T' → PW g x μ' 607 [some (.ref b), some (.ref z), some (.ref (z + 124)), some (.int (nI i))] []) : PW g x μ 26 [some (.ref b), some (.ref z), some (.ref (z + 124)), some (.int (nI i))] [] := by
  refine s_aload_n F d_LAW_law_26 rfl ?_
  refine s_iload_n F d_LAW_law_27 rfl ?_
  refine s_sld F hx d_LAW_law_28 (by omega) hN ?_
  refine n_bipush F (n := 31) d_LAW_law_29 rfl ?_
  refine s_iand F d_LAW_law_31 ?_
  obtain ⟨j, hj, ej⟩ := pk_andE (xs i) (m := nI 31) 5 (by decide)
  refine s_vali ej ?_
  by_cases h16 : 16 < j
  · refine s_tableOut F 607 d_LAW_law_32 (Or.inr (by rw [nI_toInt (by omega)]; omega)) (by decide) ?_
    exact next μ T hT hK hM
  rcases (show j = 0 ∨ j = 1 ∨ j = 2 ∨ j = 3 ∨ j = 4 ∨ j = 5 ∨ j = 6 ∨ j = 7 ∨ j = 8 ∨ j = 9 ∨ j = 10 ∨ j = 11 ∨ j = 12 ∨ j = 13 ∨ j = 14 ∨ j = 15 ∨ j = 16 by omega) with rfl | rfl | rfl | rfl | rfl | rfl | rfl | rfl | rfl | rfl | rfl | rfl | rfl | rfl | rfl | rfl | rfl
  · refine s_tableIn F (off := 84) 116 d_LAW_law_32 (by decide) (by decide) (by decide) (by decide) ?_
    have both : ∀ r : Nat, r < 2 → (r = 0 ↔ xs (i + 1) = 0) → PW g x μ 130 [some (.ref b), some (.ref z), some (.ref (z + 124)), some (.int (nI i))] [.int (nI r), .ref z] := by
      intro r hr2 hr
      refine c_Vi F (c_K_make hz hT.1 hK.1 (nI r)) ok_K_make k_89 (ci := 2) rfl (oK (kz_0 hz)) rfl rfl rfl (Nat.le_of_ble_eq_true rfl) (by decide) d_LAW_law_130 (fun μ1 hq => ?_)
      have hT1 : InvT ((fMake T.1 (nI r)).2, T.2) := hT.now (hT.1.make _)
      have hK1 := hK.now hq.2 hq.1
      have hM1 := hM.out hT hq.2 (by omega)
      have fin : PW g x μ1 147 [some (.ref b), some (.ref z), some (.ref (z + 124)), some (.int (nI i))] [.int (nI r), .ref (z + 124), .int (fMake T.1 (nI r)).1] := by
        refine c_Vi F (c_M_make hy hT.1 hM1.1 (nI r)) ok_M_make k_308 (ci := 3) rfl (oM (mz_0 hy)) rfl rfl rfl (Nat.le_of_ble_eq_true rfl) (by decide) d_LAW_law_147 (fun μ2 hr2 => ?_)
        have hM2 := hM1.nowO hr2.2 hr2.1
        have hK2 := hK1.out hT1 hr2.2 (by omega)
        refine s_icmp_eq F 607 d_LAW_law_150 (by decide) (fun _ => ?_) (fun h => absurd rfl h)
        exact next μ2 _ hT1 hK2 hM2
      refine s_aload_n F d_LAW_law_133 rfl ?_
      refine s_aload_n F d_LAW_law_134 rfl ?_
      refine s_iload_n F d_LAW_law_135 rfl ?_
      refine n_iconst F (n := 1) d_LAW_law_136 ?_
      refine n_iadd F d_LAW_law_137 ?_
      refine s_sld F hx d_LAW_law_138 (by omega) hN ?_
      refine s_if_eq F 146 d_LAW_law_139 (by decide) (fun h => ?_) (fun h => ?_)
      · have r0 : r = 0 := hr.mpr h
        subst r0
        refine n_iconst F (n := 0) d_LAW_law_146 ?_
        exact fin
      · have r1 : r = 1 := by
          have : r ≠ 0 := fun q => h (hr.mp q)
          omega
        subst r1
        refine n_iconst F (n := 1) d_LAW_law_142 ?_
        refine s_goto F 147 d_LAW_law_143 (by decide) ?_
        exact fin
    refine s_aload_n F d_LAW_law_116 rfl ?_
    refine s_aload_n F d_LAW_law_117 rfl ?_
    refine s_iload_n F d_LAW_law_118 rfl ?_
    refine n_iconst F (n := 1) d_LAW_law_119 ?_
    refine n_iadd F d_LAW_law_120 ?_
    refine s_sld F hx d_LAW_law_121 (by omega) hN ?_
    refine s_if_eq F 129 d_LAW_law_122 (by decide) (fun h => ?_) (fun h => ?_)
    · refine n_iconst F (n := 0) d_LAW_law_129 ?_
      exact both 0 (by decide) ⟨fun _ => h, fun _ => rfl⟩
    · refine n_iconst F (n := 1) d_LAW_law_125 ?_
      refine s_goto F 130 d_LAW_law_126 (by decide) ?_
      exact both 1 (by decide) ⟨fun q => absurd q (by decide), fun q => absurd q h⟩
  · refine s_tableIn F (off := 123) 155 d_LAW_law_32 (by decide) (by decide) (by decide) (by decide) ?_
    refine s_aload_n F d_LAW_law_155 rfl ?_
    refine s_aload_n F d_LAW_law_156 rfl ?_
    refine s_iload_n F d_LAW_law_157 rfl ?_
    refine n_iconst F (n := 1) d_LAW_law_158 ?_
    refine n_iadd F d_LAW_law_159 ?_
    refine s_sld F hx d_LAW_law_160 (by omega) hN ?_
    refine s_aload_n F d_LAW_law_161 rfl ?_
    refine s_iload_n F d_LAW_law_162 rfl ?_
    refine n_iconst F (n := 2) d_LAW_law_163 ?_
    refine n_iadd F d_LAW_law_164 ?_
    refine s_sld F hx d_LAW_law_165 (by omega) hN ?_
    refine s_aload_n F d_LAW_law_166 rfl ?_
    refine s_iload_n F d_LAW_law_167 rfl ?_
    refine n_iconst F (n := 3) d_LAW_law_168 ?_
    refine n_iadd F d_LAW_law_169 ?_
    refine s_sld F hx d_LAW_law_170 (by omega) hN ?_
    refine s_aload_n F d_LAW_law_171 rfl ?_
    refine s_iload_n F d_LAW_law_172 rfl ?_
    refine n_iconst F (n := 4) d_LAW_law_173 ?_
    refine n_iadd F d_LAW_law_174 ?_
    refine s_sld F hx d_LAW_law_175 (by omega) hN ?_
    refine c_Vi F (c_K_set hz hT.1 hK.1 (xs (i + 1)) (xs (i + 2)) (xs (i + 3)) (xs (i + 4))) ok_K_set k_97 (ci := 2) rfl (oK (kz_0 hz)) rfl rfl rfl (Nat.le_of_ble_eq_true rfl) (by decide) d_LAW_law_176 (fun μ1 hq => ?_)
    have hT1 : InvT ((fSet T.1 (xs (i + 1)) (xs (i + 2)) (xs (i + 3)) (xs (i + 4))).2, T.2) := hT.now (hT.1.set _ _ _ _)
    have hK1 := hK.now hq.2 hq.1
    have hM1 := hM.out hT hq.2 (by omega)
    refine s_aload_n F d_LAW_law_179 rfl ?_
    refine s_aload_n F d_LAW_law_180 rfl ?_
    refine s_iload_n F d_LAW_law_181 rfl ?_
    refine n_iconst F (n := 1) d_LAW_law_182 ?_
    refine n_iadd F d_LAW_law_183 ?_
    refine s_sld F hx d_LAW_law_184 (by omega) hN ?_
    refine s_aload_n F d_LAW_law_185 rfl ?_
    refine s_iload_n F d_LAW_law_186 rfl ?_
    refine n_iconst F (n := 2) d_LAW_law_187 ?_
    refine n_iadd F d_LAW_law_188 ?_
    refine s_sld F hx d_LAW_law_189 (by omega) hN ?_
    refine s_aload_n F d_LAW_law_190 rfl ?_
    refine s_iload_n F d_LAW_law_191 rfl ?_
    refine n_iconst F (n := 3) d_LAW_law_192 ?_
    refine n_iadd F d_LAW_law_193 ?_
    refine s_sld F hx d_LAW_law_194 (by omega) hN ?_
    refine s_aload_n F d_LAW_law_195 rfl ?_
    refine s_iload_n F d_LAW_law_196 rfl ?_
    refine n_iconst F (n := 4) d_LAW_law_197 ?_
    refine n_iadd F d_LAW_law_198 ?_
    refine s_sld F hx d_LAW_law_199 (by omega) hN ?_
    refine c_Vi F (c_M_set hy hT.1 hM1.1 (xs (i + 1)) (xs (i + 2)) (xs (i + 3)) (xs (i + 4))) ok_M_set k_312 (ci := 3) rfl (oM (mz_0 hy)) rfl rfl rfl (Nat.le_of_ble_eq_true rfl) (by decide) d_LAW_law_200 (fun μ2 hr => ?_)
    have hM2 := hM1.nowO hr.2 hr.1
    have hK2 := hK1.out hT1 hr.2 (by omega)
    refine s_icmp_eq F 607 d_LAW_law_203 (by decide) (fun _ => ?_) (fun h => absurd rfl h)
    exact next μ2 _ hT1 hK2 hM2
  · refine s_tableIn F (off := 176) 208 d_LAW_law_32 (by decide) (by decide) (by decide) (by decide) ?_
    refine s_aload_n F d_LAW_law_208 rfl ?_
    refine s_aload_n F d_LAW_law_209 rfl ?_
    refine s_iload_n F d_LAW_law_210 rfl ?_
    refine n_iconst F (n := 1) d_LAW_law_211 ?_
    refine n_iadd F d_LAW_law_212 ?_
    refine s_sld F hx d_LAW_law_213 (by omega) hN ?_
    refine s_aload_n F d_LAW_law_214 rfl ?_
    refine s_iload_n F d_LAW_law_215 rfl ?_
    refine n_iconst F (n := 2) d_LAW_law_216 ?_
    refine n_iadd F d_LAW_law_217 ?_
    refine s_sld F hx d_LAW_law_218 (by omega) hN ?_
    refine c_VlR F (c_K_get hz hT.1 hK.1 (xs (i + 1)) (xs (i + 2))) ok_K_get k_124 (ci := 2) rfl (oK (kz_0 hz)) rfl rfl rfl (Nat.le_of_ble_eq_true rfl) (by decide) d_LAW_law_219 ?_
    refine s_aload_n F d_LAW_law_222 rfl ?_
    refine s_aload_n F d_LAW_law_223 rfl ?_
    refine s_iload_n F d_LAW_law_224 rfl ?_
    refine n_iconst F (n := 1) d_LAW_law_225 ?_
    refine n_iadd F d_LAW_law_226 ?_
    refine s_sld F hx d_LAW_law_227 (by omega) hN ?_
    refine s_aload_n F d_LAW_law_228 rfl ?_
    refine s_iload_n F d_LAW_law_229 rfl ?_
    refine n_iconst F (n := 2) d_LAW_law_230 ?_
    refine n_iadd F d_LAW_law_231 ?_
    refine s_sld F hx d_LAW_law_232 (by omega) hN ?_
    refine c_VlR F (c_M_get hy hT.1 hM.1 (xs (i + 1)) (xs (i + 2))) ok_M_get k_341 (ci := 3) rfl (oM (mz_0 hy)) rfl rfl rfl (Nat.le_of_ble_eq_true rfl) (by decide) d_LAW_law_233 ?_
    refine s_lcmp F d_LAW_law_236 ?_
    refine s_if_eq F 607 d_LAW_law_237 (by decide) (fun _ => ?_) (fun h => absurd ((lg_cmp_eq _ _).mpr rfl) h)
    exact next μ T hT hK hM
  · refine s_tableIn F (off := 210) 242 d_LAW_law_32 (by decide) (by decide) (by decide) (by decide) ?_
    refine s_aload_n F d_LAW_law_242 rfl ?_
    refine s_aload_n F d_LAW_law_243 rfl ?_
    refine s_iload_n F d_LAW_law_244 rfl ?_
    refine n_iconst F (n := 1) d_LAW_law_245 ?_
    refine n_iadd F d_LAW_law_246 ?_
    refine s_sld F hx d_LAW_law_247 (by omega) hN ?_
    refine s_aload_n F d_LAW_law_248 rfl ?_
    refine s_iload_n F d_LAW_law_249 rfl ?_
    refine n_iconst F (n := 2) d_LAW_law_250 ?_
    refine n_iadd F d_LAW_law_251 ?_
    refine s_sld F hx d_LAW_law_252 (by omega) hN ?_
    refine s_aload_n F d_LAW_law_253 rfl ?_
    refine s_iload_n F d_LAW_law_254 rfl ?_
    refine n_iconst F (n := 3) d_LAW_law_255 ?_
    refine n_iadd F d_LAW_law_256 ?_
    refine s_sld F hx d_LAW_law_257 (by omega) hN ?_
    refine c_Vi F (c_K_push hz hT.1 hK.1 (xs (i + 1)) (xs (i + 2)) (xs (i + 3))) ok_K_push k_135 (ci := 2) rfl (oK (kz_0 hz)) rfl rfl rfl (Nat.le_of_ble_eq_true rfl) (by decide) d_LAW_law_258 (fun μ1 hq => ?_)
    have hT1 : InvT ((fPush T.1 (xs (i + 1)) (xs (i + 2)) (xs (i + 3))).2, T.2) := hT.now (hT.1.push _ _ _)
    have hK1 := hK.now hq.2 hq.1
    have hM1 := hM.out hT hq.2 (by omega)
    refine s_aload_n F d_LAW_law_261 rfl ?_
    refine s_aload_n F d_LAW_law_262 rfl ?_
    refine s_iload_n F d_LAW_law_263 rfl ?_
    refine n_iconst F (n := 1) d_LAW_law_264 ?_
    refine n_iadd F d_LAW_law_265 ?_
    refine s_sld F hx d_LAW_law_266 (by omega) hN ?_
    refine s_aload_n F d_LAW_law_267 rfl ?_
    refine s_iload_n F d_LAW_law_268 rfl ?_
    refine n_iconst F (n := 2) d_LAW_law_269 ?_
    refine n_iadd F d_LAW_law_270 ?_
    refine s_sld F hx d_LAW_law_271 (by omega) hN ?_
    refine s_aload_n F d_LAW_law_272 rfl ?_
    refine s_iload_n F d_LAW_law_273 rfl ?_
    refine n_iconst F (n := 3) d_LAW_law_274 ?_
    refine n_iadd F d_LAW_law_275 ?_
    refine s_sld F hx d_LAW_law_276 (by omega) hN ?_
    refine c_Vi F (c_M_push hy hT.1 hM1.1 (xs (i + 1)) (xs (i + 2)) (xs (i + 3))) ok_M_push k_346 (ci := 3) rfl (oM (mz_0 hy)) rfl rfl rfl (Nat.le_of_ble_eq_true rfl) (by decide) d_LAW_law_277 (fun μ2 hr => ?_)
    have hM2 := hM1.nowO hr.2 hr.1
    have hK2 := hK1.out hT1 hr.2 (by omega)
    refine s_icmp_eq F 607 d_LAW_law_280 (by decide) (fun _ => ?_) (fun h => absurd rfl h)
    exact next μ2 _ hT1 hK2 hM2
  · refine s_tableIn F (off := 253) 285 d_LAW_law_32 (by decide) (by decide) (by decide) (by decide) ?_
    refine s_aload_n F d_LAW_law_285 rfl ?_
    refine s_aload_n F d_LAW_law_286 rfl ?_
    refine s_iload_n F d_LAW_law_287 rfl ?_
    refine n_iconst F (n := 1) d_LAW_law_288 ?_
    refine n_iadd F d_LAW_law_289 ?_
    refine s_sld F hx d_LAW_law_290 (by omega) hN ?_
    refine c_Vl F (c_K_pop hz hT.1 hK.1 (xs (i + 1))) ok_K_pop k_140 (ci := 2) rfl (oK (kz_0 hz)) rfl rfl rfl (Nat.le_of_ble_eq_true rfl) (by decide) d_LAW_law_291 (fun μ1 hq => ?_)
    have hT1 : InvT ((fPop T.1 (xs (i + 1))).2, T.2) := hT.now (hT.1.pop _)
    have hK1 := hK.now hq.2 hq.1
    have hM1 := hM.out hT hq.2 (by omega)
    refine s_aload_n F d_LAW_law_294 rfl ?_
    refine s_aload_n F d_LAW_law_295 rfl ?_
    refine s_iload_n F d_LAW_law_296 rfl ?_
    refine n_iconst F (n := 1) d_LAW_law_297 ?_
    refine n_iadd F d_LAW_law_298 ?_
    refine s_sld F hx d_LAW_law_299 (by omega) hN ?_
    refine c_Vl F (c_M_pop hy hT.1 hM1.1 (xs (i + 1))) ok_M_pop k_350 (ci := 3) rfl (oM (mz_0 hy)) rfl rfl rfl (Nat.le_of_ble_eq_true rfl) (by decide) d_LAW_law_300 (fun μ2 hr => ?_)
    have hM2 := hM1.nowO hr.2 hr.1
    have hK2 := hK1.out hT1 hr.2 (by omega)
    refine s_lcmp F d_LAW_law_303 ?_
    refine s_if_eq F 607 d_LAW_law_304 (by decide) (fun _ => ?_) (fun h => absurd ((lg_cmp_eq _ _).mpr rfl) h)
    exact next μ2 _ hT1 hK2 hM2
  · refine s_tableIn F (off := 277) 309 d_LAW_law_32 (by decide) (by decide) (by decide) (by decide) ?_
    refine s_aload_n F d_LAW_law_309 rfl ?_
    refine s_aload_n F d_LAW_law_310 rfl ?_
    refine s_iload_n F d_LAW_law_311 rfl ?_
    refine n_iconst F (n := 1) d_LAW_law_312 ?_
    refine n_iadd F d_LAW_law_313 ?_
    refine s_sld F hx d_LAW_law_314 (by omega) hN ?_
    refine s_aload_n F d_LAW_law_315 rfl ?_
    refine s_iload_n F d_LAW_law_316 rfl ?_
    refine n_iconst F (n := 2) d_LAW_law_317 ?_
    refine n_iadd F d_LAW_law_318 ?_
    refine s_sld F hx d_LAW_law_319 (by omega) hN ?_
    refine s_aload_n F d_LAW_law_320 rfl ?_
    refine s_iload_n F d_LAW_law_321 rfl ?_
    refine n_iconst F (n := 3) d_LAW_law_322 ?_
    refine n_iadd F d_LAW_law_323 ?_
    refine s_sld F hx d_LAW_law_324 (by omega) hN ?_
    refine s_aload_n F d_LAW_law_325 rfl ?_
    refine s_iload_n F d_LAW_law_326 rfl ?_
    refine n_iconst F (n := 4) d_LAW_law_327 ?_
    refine n_iadd F d_LAW_law_328 ?_
    refine s_sld F hx d_LAW_law_329 (by omega) hN ?_
    refine c_Vi F (c_K_put hz hT.1 hK.1 (xs (i + 1)) (xs (i + 2)) (xs (i + 3)) (xs (i + 4))) ok_K_put k_144 (ci := 2) rfl (oK (kz_0 hz)) rfl rfl rfl (Nat.le_of_ble_eq_true rfl) (by decide) d_LAW_law_330 (fun μ1 hq => ?_)
    have hT1 : InvT ((fPut T.1 (xs (i + 1)) (xs (i + 2)) (xs (i + 3)) (xs (i + 4))).2, T.2) := hT.now (hT.1.put _ _ _ _)
    have hK1 := hK.now hq.2 hq.1
    have hM1 := hM.out hT hq.2 (by omega)
    refine s_aload_n F d_LAW_law_333 rfl ?_
    refine s_aload_n F d_LAW_law_334 rfl ?_
    refine s_iload_n F d_LAW_law_335 rfl ?_
    refine n_iconst F (n := 1) d_LAW_law_336 ?_
    refine n_iadd F d_LAW_law_337 ?_
    refine s_sld F hx d_LAW_law_338 (by omega) hN ?_
    refine s_aload_n F d_LAW_law_339 rfl ?_
    refine s_iload_n F d_LAW_law_340 rfl ?_
    refine n_iconst F (n := 2) d_LAW_law_341 ?_
    refine n_iadd F d_LAW_law_342 ?_
    refine s_sld F hx d_LAW_law_343 (by omega) hN ?_
    refine s_aload_n F d_LAW_law_344 rfl ?_
    refine s_iload_n F d_LAW_law_345 rfl ?_
    refine n_iconst F (n := 3) d_LAW_law_346 ?_
    refine n_iadd F d_LAW_law_347 ?_
    refine s_sld F hx d_LAW_law_348 (by omega) hN ?_
    refine s_aload_n F d_LAW_law_349 rfl ?_
    refine s_iload_n F d_LAW_law_350 rfl ?_
    refine n_iconst F (n := 4) d_LAW_law_351 ?_
    refine n_iadd F d_LAW_law_352 ?_
    refine s_sld F hx d_LAW_law_353 (by omega) hN ?_
    refine c_Vi F (c_M_put hy hT.1 hM1.1 (xs (i + 1)) (xs (i + 2)) (xs (i + 3)) (xs (i + 4))) ok_M_put k_354 (ci := 3) rfl (oM (mz_0 hy)) rfl rfl rfl (Nat.le_of_ble_eq_true rfl) (by decide) d_LAW_law_354 (fun μ2 hr => ?_)
    have hM2 := hM1.nowO hr.2 hr.1
    have hK2 := hK1.out hT1 hr.2 (by omega)
    refine s_icmp_eq F 607 d_LAW_law_357 (by decide) (fun _ => ?_) (fun h => absurd rfl h)
    exact next μ2 _ hT1 hK2 hM2
  · refine s_tableIn F (off := 330) 362 d_LAW_law_32 (by decide) (by decide) (by decide) (by decide) ?_
    refine s_aload_n F d_LAW_law_362 rfl ?_
    refine s_aload_n F d_LAW_law_363 rfl ?_
    refine s_iload_n F d_LAW_law_364 rfl ?_
    refine n_iconst F (n := 1) d_LAW_law_365 ?_
    refine n_iadd F d_LAW_law_366 ?_
    refine s_sld F hx d_LAW_law_367 (by omega) hN ?_
    refine s_aload_n F d_LAW_law_368 rfl ?_
    refine s_iload_n F d_LAW_law_369 rfl ?_
    refine n_iconst F (n := 2) d_LAW_law_370 ?_
    refine n_iadd F d_LAW_law_371 ?_
    refine s_sld F hx d_LAW_law_372 (by omega) hN ?_
    refine c_VlR F (c_K_item hz hT.1 hK.1 (xs (i + 1)) (xs (i + 2))) ok_K_item k_152 (ci := 2) rfl (oK (kz_0 hz)) rfl rfl rfl (Nat.le_of_ble_eq_true rfl) (by decide) d_LAW_law_373 ?_
    refine s_aload_n F d_LAW_law_376 rfl ?_
    refine s_aload_n F d_LAW_law_377 rfl ?_
    refine s_iload_n F d_LAW_law_378 rfl ?_
    refine n_iconst F (n := 1) d_LAW_law_379 ?_
    refine n_iadd F d_LAW_law_380 ?_
    refine s_sld F hx d_LAW_law_381 (by omega) hN ?_
    refine s_aload_n F d_LAW_law_382 rfl ?_
    refine s_iload_n F d_LAW_law_383 rfl ?_
    refine n_iconst F (n := 2) d_LAW_law_384 ?_
    refine n_iadd F d_LAW_law_385 ?_
    refine s_sld F hx d_LAW_law_386 (by omega) hN ?_
    refine c_VlR F (c_M_item hy hT.1 hM.1 (xs (i + 1)) (xs (i + 2))) ok_M_item k_358 (ci := 3) rfl (oM (mz_0 hy)) rfl rfl rfl (Nat.le_of_ble_eq_true rfl) (by decide) d_LAW_law_387 ?_
    refine s_lcmp F d_LAW_law_390 ?_
    refine s_if_eq F 607 d_LAW_law_391 (by decide) (fun _ => ?_) (fun h => absurd ((lg_cmp_eq _ _).mpr rfl) h)
    exact next μ T hT hK hM
  · refine s_tableIn F (off := 364) 396 d_LAW_law_32 (by decide) (by decide) (by decide) (by decide) ?_
    refine s_aload_n F d_LAW_law_396 rfl ?_
    refine s_aload_n F d_LAW_law_397 rfl ?_
    refine s_iload_n F d_LAW_law_398 rfl ?_
    refine n_iconst F (n := 1) d_LAW_law_399 ?_
    refine n_iadd F d_LAW_law_400 ?_
    refine s_sld F hx d_LAW_law_401 (by omega) hN ?_
    refine s_aload_n F d_LAW_law_402 rfl ?_
    refine s_iload_n F d_LAW_law_403 rfl ?_
    refine n_iconst F (n := 2) d_LAW_law_404 ?_
    refine n_iadd F d_LAW_law_405 ?_
    refine s_sld F hx d_LAW_law_406 (by omega) hN ?_
    refine s_aload_n F d_LAW_law_407 rfl ?_
    refine s_iload_n F d_LAW_law_408 rfl ?_
    refine n_iconst F (n := 3) d_LAW_law_409 ?_
    refine n_iadd F d_LAW_law_410 ?_
    refine s_sld F hx d_LAW_law_411 (by omega) hN ?_
    refine c_Vi F (c_K_root hz hT.1 hK.1 (xs (i + 1)) (xs (i + 2)) (xs (i + 3))) ok_K_root k_156 (ci := 2) rfl (oK (kz_0 hz)) rfl rfl rfl (Nat.le_of_ble_eq_true rfl) (by decide) d_LAW_law_412 (fun μ1 hq => ?_)
    have hT1 : InvT ((fRoot T.1 (xs (i + 1)) (xs (i + 2)) (xs (i + 3))).2, T.2) := hT.now (hT.1.root _ _ _)
    have hK1 := hK.now hq.2 hq.1
    have hM1 := hM.out hT hq.2 (by omega)
    refine s_aload_n F d_LAW_law_415 rfl ?_
    refine s_aload_n F d_LAW_law_416 rfl ?_
    refine s_iload_n F d_LAW_law_417 rfl ?_
    refine n_iconst F (n := 1) d_LAW_law_418 ?_
    refine n_iadd F d_LAW_law_419 ?_
    refine s_sld F hx d_LAW_law_420 (by omega) hN ?_
    refine s_aload_n F d_LAW_law_421 rfl ?_
    refine s_iload_n F d_LAW_law_422 rfl ?_
    refine n_iconst F (n := 2) d_LAW_law_423 ?_
    refine n_iadd F d_LAW_law_424 ?_
    refine s_sld F hx d_LAW_law_425 (by omega) hN ?_
    refine s_aload_n F d_LAW_law_426 rfl ?_
    refine s_iload_n F d_LAW_law_427 rfl ?_
    refine n_iconst F (n := 3) d_LAW_law_428 ?_
    refine n_iadd F d_LAW_law_429 ?_
    refine s_sld F hx d_LAW_law_430 (by omega) hN ?_
    refine c_Vi F (c_M_root hy hT.1 hM1.1 (xs (i + 1)) (xs (i + 2)) (xs (i + 3))) ok_M_root k_362 (ci := 3) rfl (oM (mz_0 hy)) rfl rfl rfl (Nat.le_of_ble_eq_true rfl) (by decide) d_LAW_law_431 (fun μ2 hr => ?_)
    have hM2 := hM1.nowO hr.2 hr.1
    have hK2 := hK1.out hT1 hr.2 (by omega)
    refine s_icmp_eq F 607 d_LAW_law_434 (by decide) (fun _ => ?_) (fun h => absurd rfl h)
    exact next μ2 _ hT1 hK2 hM2
  · refine s_tableIn F (off := 407) 439 d_LAW_law_32 (by decide) (by decide) (by decide) (by decide) ?_
    refine s_aload_n F d_LAW_law_439 rfl ?_
    refine s_aload_n F d_LAW_law_440 rfl ?_
    refine s_iload_n F d_LAW_law_441 rfl ?_
    refine n_iconst F (n := 1) d_LAW_law_442 ?_
    refine n_iadd F d_LAW_law_443 ?_
    refine s_sld F hx d_LAW_law_444 (by omega) hN ?_
    refine c_VlR F (c_K_rooted hz hT.1 hK.1 (xs (i + 1))) ok_K_rooted k_168 (ci := 2) rfl (oK (kz_0 hz)) rfl rfl rfl (Nat.le_of_ble_eq_true rfl) (by decide) d_LAW_law_445 ?_
    refine s_aload_n F d_LAW_law_448 rfl ?_
    refine s_aload_n F d_LAW_law_449 rfl ?_
    refine s_iload_n F d_LAW_law_450 rfl ?_
    refine n_iconst F (n := 1) d_LAW_law_451 ?_
    refine n_iadd F d_LAW_law_452 ?_
    refine s_sld F hx d_LAW_law_453 (by omega) hN ?_
    refine c_VlR F (c_M_rooted hy hT.1 hM.1 (xs (i + 1))) ok_M_rooted k_370 (ci := 3) rfl (oM (mz_0 hy)) rfl rfl rfl (Nat.le_of_ble_eq_true rfl) (by decide) d_LAW_law_454 ?_
    refine s_lcmp F d_LAW_law_457 ?_
    refine s_if_eq F 607 d_LAW_law_458 (by decide) (fun _ => ?_) (fun h => absurd ((lg_cmp_eq _ _).mpr rfl) h)
    exact next μ T hT hK hM
  · refine s_tableIn F (off := 431) 463 d_LAW_law_32 (by decide) (by decide) (by decide) (by decide) ?_
    refine s_aload_n F d_LAW_law_463 rfl ?_
    refine c_Vi F (c_K_commit hz hT hK) ok_K_commit k_173 (ci := 2) rfl (oK (kz_0 hz)) rfl rfl rfl (Nat.le_of_ble_eq_true rfl) (by decide) d_LAW_law_464 (fun μ1 hq => ?_)
    have hT1 : InvT (fCommit T ).2 := hT.commit
    have hM1 := hM.out hT hq.2 (by omega)
    refine s_aload_n F d_LAW_law_467 rfl ?_
    refine c_Vi F (c_M_commit hy hT hM1) ok_M_commit k_374 (ci := 3) rfl (oM (mz_0 hy)) rfl rfl rfl (Nat.le_of_ble_eq_true rfl) (by decide) d_LAW_law_468 (fun μ2 hr => ?_)
    have hK2 := hq.1.out hT1 hr.2 (by omega)
    refine s_icmp_eq F 607 d_LAW_law_471 (by decide) (fun _ => ?_) (fun h => absurd rfl h)
    exact next μ2 _ hT1 hK2 hr.1
  · refine s_tableIn F (off := 444) 476 d_LAW_law_32 (by decide) (by decide) (by decide) (by decide) ?_
    refine s_aload_n F d_LAW_law_476 rfl ?_
    refine c_Vi F (c_K_undo hz hT hK) ok_K_undo k_197 (ci := 2) rfl (oK (kz_0 hz)) rfl rfl rfl (Nat.le_of_ble_eq_true rfl) (by decide) d_LAW_law_477 (fun μ1 hq => ?_)
    have hT1 : InvT (fUndo T ).2 := hT.undo
    have hM1 := hM.out hT hq.2 (by omega)
    refine s_aload_n F d_LAW_law_480 rfl ?_
    refine c_Vi F (c_M_undo hy hT hM1) ok_M_undo k_398 (ci := 3) rfl (oM (mz_0 hy)) rfl rfl rfl (Nat.le_of_ble_eq_true rfl) (by decide) d_LAW_law_481 (fun μ2 hr => ?_)
    have hK2 := hq.1.out hT1 hr.2 (by omega)
    refine s_icmp_eq F 607 d_LAW_law_484 (by decide) (fun _ => ?_) (fun h => absurd rfl h)
    exact next μ2 _ hT1 hK2 hr.1
  · refine s_tableIn F (off := 457) 489 d_LAW_law_32 (by decide) (by decide) (by decide) (by decide) ?_
    refine s_aload_n F d_LAW_law_489 rfl ?_
    refine c_Vi F (c_K_sweep hz hT hT.2.1.sw hK) ok_K_sweep k_201 (ci := 2) rfl (oK (kz_0 hz)) rfl rfl rfl (Nat.le_of_ble_eq_true rfl) (by decide) d_LAW_law_490 (fun μ1 hq => ?_)
    have hT1 : InvT (fSweep T ).2 := hT.sweep
    have hM1 := hM.out hT hq.2 (by omega)
    refine s_aload_n F d_LAW_law_493 rfl ?_
    refine c_Vi F (c_M_sweep hy hT hT.2.1.sw hM1) ok_M_sweep k_402 (ci := 3) rfl (oM (mz_0 hy)) rfl rfl rfl (Nat.le_of_ble_eq_true rfl) (by decide) d_LAW_law_494 (fun μ2 hr => ?_)
    have hK2 := hq.1.out hT1 hr.2 (by omega)
    refine s_icmp_eq F 607 d_LAW_law_497 (by decide) (fun _ => ?_) (fun h => absurd rfl h)
    exact next μ2 _ hT1 hK2 hr.1
  · refine s_tableIn F (off := 470) 502 d_LAW_law_32 (by decide) (by decide) (by decide) (by decide) ?_
    refine s_aload_n F d_LAW_law_502 rfl ?_
    refine c_Vi F (c_K_sync hz hT hK) ok_K_sync k_213 (ci := 2) rfl (oK (kz_0 hz)) rfl rfl rfl (Nat.le_of_ble_eq_true rfl) (by decide) d_LAW_law_503 (fun μ1 hq => ?_)
    have hT1 : InvT (fSync T ).2 := hT.sync
    have hM1 := hM.out hT hq.2 (by omega)
    refine s_aload_n F d_LAW_law_506 rfl ?_
    refine c_Vi F (c_M_sync hy hT hM1) ok_M_sync k_410 (ci := 3) rfl (oM (mz_0 hy)) rfl rfl rfl (Nat.le_of_ble_eq_true rfl) (by decide) d_LAW_law_507 (fun μ2 hr => ?_)
    have hK2 := hq.1.out hT1 hr.2 (by omega)
    refine s_icmp_eq F 607 d_LAW_law_510 (by decide) (fun _ => ?_) (fun h => absurd rfl h)
    exact next μ2 _ hT1 hK2 hr.1
  · refine s_tableIn F (off := 483) 515 d_LAW_law_32 (by decide) (by decide) (by decide) (by decide) ?_
    refine s_aload_n F d_LAW_law_515 rfl ?_
    refine s_aload_n F d_LAW_law_516 rfl ?_
    refine s_iload_n F d_LAW_law_517 rfl ?_
    refine n_iconst F (n := 1) d_LAW_law_518 ?_
    refine n_iadd F d_LAW_law_519 ?_
    refine s_sld F hx d_LAW_law_520 (by omega) hN ?_
    refine c_Vi F (c_K_crash hz hT hK (xs (i + 1))) ok_K_crash k_217 (ci := 2) rfl (oK (kz_0 hz)) rfl rfl rfl (Nat.le_of_ble_eq_true rfl) (by decide) d_LAW_law_521 (fun μ1 hq => ?_)
    have hT1 : InvT (fCrash T (xs (i + 1))).2 := hT.crash _
    have hM1 := hM.out hT hq.2 (by omega)
    refine s_aload_n F d_LAW_law_524 rfl ?_
    refine s_aload_n F d_LAW_law_525 rfl ?_
    refine s_iload_n F d_LAW_law_526 rfl ?_
    refine n_iconst F (n := 1) d_LAW_law_527 ?_
    refine n_iadd F d_LAW_law_528 ?_
    refine s_sld F hx d_LAW_law_529 (by omega) hN ?_
    refine c_Vi F (c_M_crash hy hT hM1 (xs (i + 1))) ok_M_crash k_414 (ci := 3) rfl (oM (mz_0 hy)) rfl rfl rfl (Nat.le_of_ble_eq_true rfl) (by decide) d_LAW_law_530 (fun μ2 hr => ?_)
    have hK2 := hq.1.out hT1 hr.2 (by omega)
    refine s_icmp_eq F 607 d_LAW_law_533 (by decide) (fun _ => ?_) (fun h => absurd rfl h)
    exact next μ2 _ hT1 hK2 hr.1
  · refine s_tableIn F (off := 506) 538 d_LAW_law_32 (by decide) (by decide) (by decide) (by decide) ?_
    refine s_aload_n F d_LAW_law_538 rfl ?_
    refine s_aload_n F d_LAW_law_539 rfl ?_
    refine s_iload_n F d_LAW_law_540 rfl ?_
    refine n_iconst F (n := 1) d_LAW_law_541 ?_
    refine n_iadd F d_LAW_law_542 ?_
    refine s_sld F hx d_LAW_law_543 (by omega) hN ?_
    refine c_ViR F (c_K_kind hz hK.1 (xs (i + 1))) ok_K_kind k_221 (ci := 2) rfl (oK (kz_0 hz)) rfl rfl rfl (Nat.le_of_ble_eq_true rfl) (by decide) d_LAW_law_544 ?_
    refine s_aload_n F d_LAW_law_547 rfl ?_
    refine s_aload_n F d_LAW_law_548 rfl ?_
    refine s_iload_n F d_LAW_law_549 rfl ?_
    refine n_iconst F (n := 1) d_LAW_law_550 ?_
    refine n_iadd F d_LAW_law_551 ?_
    refine s_sld F hx d_LAW_law_552 (by omega) hN ?_
    refine c_ViR F (c_M_kind hy hM.1 (xs (i + 1))) ok_M_kind k_418 (ci := 3) rfl (oM (mz_0 hy)) rfl rfl rfl (Nat.le_of_ble_eq_true rfl) (by decide) d_LAW_law_553 ?_
    refine s_icmp_eq F 607 d_LAW_law_556 (by decide) (fun _ => ?_) (fun h => absurd rfl h)
    exact next μ T hT hK hM
  · refine s_tableIn F (off := 529) 561 d_LAW_law_32 (by decide) (by decide) (by decide) (by decide) ?_
    refine s_aload_n F d_LAW_law_561 rfl ?_
    refine s_aload_n F d_LAW_law_562 rfl ?_
    refine s_iload_n F d_LAW_law_563 rfl ?_
    refine n_iconst F (n := 1) d_LAW_law_564 ?_
    refine n_iadd F d_LAW_law_565 ?_
    refine s_sld F hx d_LAW_law_566 (by omega) hN ?_
    refine c_ViR F (c_K_size hz hT.1 hK.1 (xs (i + 1))) ok_K_size k_225 (ci := 2) rfl (oK (kz_0 hz)) rfl rfl rfl (Nat.le_of_ble_eq_true rfl) (by decide) d_LAW_law_567 ?_
    refine s_aload_n F d_LAW_law_570 rfl ?_
    refine s_aload_n F d_LAW_law_571 rfl ?_
    refine s_iload_n F d_LAW_law_572 rfl ?_
    refine n_iconst F (n := 1) d_LAW_law_573 ?_
    refine n_iadd F d_LAW_law_574 ?_
    refine s_sld F hx d_LAW_law_575 (by omega) hN ?_
    refine c_ViR F (c_M_size hy hT.1 hM.1 (xs (i + 1))) ok_M_size k_422 (ci := 3) rfl (oM (mz_0 hy)) rfl rfl rfl (Nat.le_of_ble_eq_true rfl) (by decide) d_LAW_law_576 ?_
    refine s_icmp_eq F 607 d_LAW_law_579 (by decide) (fun _ => ?_) (fun h => absurd rfl h)
    exact next μ T hT hK hM
  · refine s_tableIn F (off := 552) 584 d_LAW_law_32 (by decide) (by decide) (by decide) (by decide) ?_
    refine s_aload_n F d_LAW_law_584 rfl ?_
    refine s_aload_n F d_LAW_law_585 rfl ?_
    refine s_iload_n F d_LAW_law_586 rfl ?_
    refine n_iconst F (n := 1) d_LAW_law_587 ?_
    refine n_iadd F d_LAW_law_588 ?_
    refine s_sld F hx d_LAW_law_589 (by omega) hN ?_
    refine c_ViR F (c_K_count hz hT hK (xs (i + 1))) ok_K_count k_229 (ci := 2) rfl (oK (kz_0 hz)) rfl rfl rfl (Nat.le_of_ble_eq_true rfl) (by decide) d_LAW_law_590 ?_
    refine s_aload_n F d_LAW_law_593 rfl ?_
    refine s_aload_n F d_LAW_law_594 rfl ?_
    refine s_iload_n F d_LAW_law_595 rfl ?_
    refine n_iconst F (n := 1) d_LAW_law_596 ?_
    refine n_iadd F d_LAW_law_597 ?_
    refine s_sld F hx d_LAW_law_598 (by omega) hN ?_
    refine c_ViR F (c_M_count hy hT hM (xs (i + 1))) ok_M_count k_426 (ci := 3) rfl (oM (mz_0 hy)) rfl rfl rfl (Nat.le_of_ble_eq_true rfl) (by decide) d_LAW_law_599 ?_
    refine s_icmp_eq F 607 d_LAW_law_602 (by decide) (fun _ => ?_) (fun h => absurd rfl h)
    exact next μ T hT hK hM
set_option maxRecDepth 8000 in
theorem law_loop {g : zG} {x : zX} {z b N : Nat} {xs : Nat → Int32} {μ : zMem} (F : zF g x b_LAW_law R_LAW 4 6 192) (hx : zSc x b N xs) (hN : N ≤ 2560) (hz : KOb g z) (hy : MOb g (z + 124)) (hK : RepKH μ z T0) (hM : RepMH μ (z + 124) T0)
    (fin : ∀ (μ' : zMem) (i : Nat), PW g x μ' 614 [some (.ref b), some (.ref z), some (.ref (z + 124)), some (.int (nI i))] [.int (nI 1)]) : PW g x μ 18 [some (.ref b), some (.ref z), some (.ref (z + 124)), some (.int (nI 0))] [] := by
  refine lpG (σ := Nat × zMem × Ts) (fun s => PW g x s.2.1 18 [some (.ref b), some (.ref z), some (.ref (z + 124)), some (.int (nI s.1))] []) (fun s => s.1 ≤ 2570 ∧ InvT s.2.2 ∧ RepKH s.2.1 z s.2.2 ∧ RepMH s.2.1 (z + 124) s.2.2) (fun s => 2570 - s.1) (fun s hI ih => ?_) (0, μ, T0) ⟨Nat.zero_le _, InvT.t0, hK, hM⟩
  obtain ⟨i, μ1, T⟩ := s
  obtain ⟨hi, hT, hK, hM⟩ := hI
  dsimp only at hi hT hK hM ih ⊢
  refine s_iload_n F d_LAW_law_18 rfl ?_
  refine s_aload_n F d_LAW_law_19 rfl ?_
  refine s_slen F hx d_LAW_law_20 ?_
  refine n_iconst F (n := 5) d_LAW_law_21 ?_
  refine s_isub F d_LAW_law_22 ?_
  refine s_icmp_gt F 613 d_LAW_law_23 (by decide) (fun h1 => ?_) (fun h1 => ?_)
  · refine n_iconst F (n := 1) d_LAW_law_613 ?_
    exact fin μ1 i
  · have h5 := len5 hN hi h1
    refine law_step F hx hN h5 hz hy hT hK hM (fun μ' T' hT' hK' hM' => ?_)
    refine n_iinc F (n := 5) d_LAW_law_607 rfl rfl rfl ?_
    refine s_goto F 18 d_LAW_law_610 (by decide) ?_
    exact ih (i + 5, μ', T') ⟨by dsimp only; omega, hT', hK', hM'⟩ (by dsimp only; omega)
end
section
theorem law_tW {args : Array Value} {s : State} (hts : ∀ w ∈ lw_tbl, w.before args s = true) : ∀ w ∈ tW, w.before args s = true := fun w hw => hts w (List.mem_filter.mp hw).1
theorem law_nest : ∀ w ∈ zNest, w ∈ lw_tbl := by
  intro w hw
  simp only [zNest, List.mem_cons, List.not_mem_nil, or_false] at hw
  rcases hw with rfl | rfl | rfl | rfl | rfl | rfl | rfl | rfl | rfl
  · exact List.mem_of_getElem? (i := 33) rfl
  · exact List.mem_of_getElem? (i := 35) rfl
  · exact List.mem_of_getElem? (i := 38) rfl
  · exact List.mem_of_getElem? (i := 40) rfl
  · exact List.mem_of_getElem? (i := 43) rfl
  · exact List.mem_of_getElem? (i := 45) rfl
  · exact List.mem_of_getElem? (i := 47) rfl
  · exact List.mem_of_getElem? (i := 28) rfl
  · exact List.mem_of_getElem? (i := 257) rfl
theorem law_NW {args : Array Value} {s : State} (hts : ∀ w ∈ lw_tbl, w.before args s = true) : zNW s := ⟨fun w hw => va_Nw.of (zNest_tab w hw) (hts w (law_nest w hw)), va_AO.of (hts (.arrayOver (.object "KeepHeap$State")) (List.mem_of_getElem? (i := 78) rfl)), va_AO.of (hts (.arrayOver (.object "KeepHeapModel$State")) (List.mem_of_getElem? (i := 294) rfl))⟩
theorem law_arr {args : Array Value} {s : State} {ty : FieldType} (h : (Cond.arrayClass ty).before args s = true) : ∃ cA, ArrOfT s cA ty ∧ s.vm.findClass ("[" ++ ty.toString) = some cA := by
  obtain ⟨c, k, comp, h1, h2, h3⟩ := Cond.arrayClass_spec h
  exact ⟨c, fun n z => ⟨fun q h => (by cases h), k, h2, comp, h3⟩, h1⟩
theorem law_over {s : State} {C : String} (h : va_AO C s) : ∃ cA, ArrOfT s cA (.object C) ∧ va_RA s cA (.object C) := by
  obtain ⟨comp, c, k, h1, -, h3, h4, h5⟩ := Cond.arrayOver_spec h
  exact ⟨c, fun n z => ⟨fun q h => (by cases h), k, h3, comp, h4⟩, k, comp, h3, h4, h1, h5⟩
theorem law_K {args : Array Value} {s : State} (hts : ∀ w ∈ tW, w.before args s = true) (hN : zNW s) : ∃ (D : va_G) (cs : zCs), va_K D classes (zTys cs) s := by
  obtain ⟨c0, i0, k0⟩ := u_known hts in_KS (hts _ k_15)
  obtain ⟨c1, i1, k1⟩ := u_known hts in_MS (hts _ k_244)
  obtain ⟨c2, i2, k2⟩ := u_known hts in_K (hts _ k_7)
  obtain ⟨c3, i3, k3⟩ := u_known hts in_M (hts _ k_238)
  obtain ⟨a0, r0, f0⟩ := law_arr (hts _ k_64)
  obtain ⟨a1, r1, f1⟩ := law_arr (hts _ k_65)
  obtain ⟨a2, r2, f2⟩ := law_arr (hts _ k_281)
  obtain ⟨a3, r3, f3⟩ := law_over hN.2.1
  obtain ⟨a4, r4, f4⟩ := law_over hN.2.2
  refine ⟨(fun n => match n with | 0 => c0 | 1 => c1 | 2 => c2 | _ => c3, fun n => match n with | 0 => i0 | 1 => i1 | 2 => i2 | _ => i3), (a0, a1, a2, a3, a4), fun c q hq => ?_, fun k q hq => ?_⟩
  · match c, hq with
    | 0, hq => cases hq; exact k0
    | 1, hq => cases hq; exact k1
    | 2, hq => cases hq; exact k2
    | 3, hq => cases hq; exact k3
    | n + 4, hq => simp [classes] at hq
  · match k, hq with
    | 0, hq => cases hq; exact ⟨r0, f0⟩
    | 1, hq => cases hq; exact ⟨r1, f1⟩
    | 2, hq => cases hq; exact ⟨r2, f2⟩
    | 3, hq => cases hq; exact ⟨r3, f3⟩
    | 4, hq => cases hq; exact ⟨r4, f4⟩
    | n + 5, hq => simp [zTys] at hq
def mu0 : zMem := (fun _ _ => 0, fun _ _ => 0, fun _ _ => none)
set_option maxRecDepth 8000 in
theorem whole_start {p : Program} {e : Env} {s : State} {m : MethodId} {below : List Frame} {meth : Method} {c : Code} (l : Launch) {b L : Nat} {xs : Nat → Int32} (hL : L ≤ 2560) (C0 : lw_At p s m meth c b L xs) : W p l e room_1 s m #[Value.ref b] below meth c s.heap [] 0 0 (lw_Z below #[Value.ref b] s) (entryFrame m ([Value.ref b] : List Value).toArray 4) := by
  obtain ⟨hx, hb, hr, hml, hown, hts0, hX, hbl, hlocks, hgv⟩ := C0
  have hts := law_tW hts0
  have hNW := law_NW hts0
  obtain ⟨D, cs, hK⟩ := law_K hts hNW
  have hl := lv_entry [.ref b] (n := 4) (Nat.le_of_ble_eq_true rfl)
  rw [lg_entry_eq]
  generalize (lg_sl [.ref b] ++ List.replicate (4 - (lg_sl [.ref b]).length) Slot.unset).toArray = ls at hl ⊢
  have hzl : zL ls [some (.ref b), none, none, none] := hl
  generalize hzs : s.heap.size = z
  have F : zFN D cs (p, e, room_1, s, m, #[Value.ref b], below, meth, c, 0, 0, lw_Z below #[Value.ref b] s, fun q => z ≤ q) b_LAW_law R_LAW 4 6 192 600000 7302250 z := ⟨hx, hb, hml, hown, hts, hK, hNW, fun q h => h, hlocks, rfl, rfl, rfl, rfl⟩
  have go : PN l D cs (fun _ => (0, 0)) (p, e, room_1, s, m, #[Value.ref b], below, meth, c, 0, 0, lw_Z below #[Value.ref b] s, fun q => z ≤ q) 0 0 z [] mu0 0 [some (.ref b), none, none, none] [] := by
    have hz0 : ∀ n, zZ mu0 n := fun n a _ => ⟨rfl, rfl, rfl⟩
    refine q_newP (h := z) (cells := 0) (slots := 0) F (c_K_init (hz0 z) (fun a ha => rfl)) k_6 k_7 k_1 (ci := 2) rfl in_K t_K t_K_ok (fun j hj => by rcases (show j = 0 ∨ j = 1 ∨ j = 2 ∨ j = 3 ∨ j = 4 ∨ j = 5 ∨ j = 6 by omega) with rfl | rfl | rfl | rfl | rfl | rfl | rfl <;> rfl) k_8 k_9 k_10 rfl rfl ⟨by decide +kernel, by decide +kernel, by decide +kernel⟩ (by decide) rfl (Nat.le_of_ble_eq_true rfl) (by decide) (by decide) (Nat.le_refl _) d_LAW_law_0 d_LAW_law_3 d_LAW_law_4 (fun sh1 μ1 h1 hq => ?_)
    obtain ⟨rfl, kz, ks, kr, kzz, ko⟩ := hq
    refine q_astore_n F d_LAW_law_7 (Nat.le_of_ble_eq_true rfl) rfl rfl ?_
    refine q_newP (h := z + 124) (cells := 124) (slots := 70951) F (c_M_init kzz (fun a ha => ks a (by omega))) k_237 k_238 k_3 (ci := 3) rfl in_M t_M t_M_ok (fun j hj => by rcases (show j = 0 ∨ j = 1 ∨ j = 2 ∨ j = 3 ∨ j = 4 ∨ j = 5 ∨ j = 6 ∨ j = 7 by omega) with rfl | rfl | rfl | rfl | rfl | rfl | rfl | rfl <;> rfl) k_239 k_240 k_241 rfl rfl ⟨by decide +kernel, by decide +kernel, by decide +kernel⟩ (by decide) rfl (Nat.le_of_ble_eq_true rfl) (by decide) (by decide) (by omega) d_LAW_law_8 d_LAW_law_11 d_LAW_law_12 (fun sh2 μ2 h2 hq => ?_)
    obtain ⟨rfl, mz, ms, mr, mzz, mo⟩ := hq
    refine q_astore_n F d_LAW_law_15 (Nat.le_of_ble_eq_true rfl) rfl rfl ?_
    refine q_iconst F (n := 0) d_LAW_law_16 ?_
    refine q_istore_n F d_LAW_law_17 (Nat.le_of_ble_eq_true rfl) rfl rfl ?_
    have F2 : zF (l, D, cs, sh2) (p, e, room_1, s, m, #[Value.ref b], below, meth, c, 205, 104519, lw_Z below #[Value.ref b] s, fun q => z ≤ q) b_LAW_law R_LAW 4 6 192 := ⟨hx, hb, hml, hown, hts, hK, hNW, fun q h => Nat.le_of_not_lt (fun hq => h ((ms q (by omega)).trans (ks q (by omega)))), hlocks, rfl, rfl, by decide, by decide⟩
    have kz2 : KOb (l, D, cs, sh2) z := by
      have e : ∀ a, z ≤ a → a < z + 124 → sh2 a = sh1 a := fun a h1 h2 => ms a (by omega)
      obtain ⟨q0, q1, q2, q3, q4, q5, q6⟩ := kz
      have blk : ∀ d, KSb (l, D, cs, sh1) (z + d) → d + 11 ≤ 124 → KSb (l, D, cs, sh2) (z + d) := fun d hb hd => by
        unfold KSb gs at hb ⊢
        dsimp only at hb ⊢
        rw [e _ (by omega) (by omega), e _ (by omega) (by omega), e _ (by omega) (by omega), e _ (by omega) (by omega), e _ (by omega) (by omega), e _ (by omega) (by omega), e _ (by omega) (by omega), e _ (by omega) (by omega), e _ (by omega) (by omega), e _ (by omega) (by omega), e _ (by omega) (by omega)]
        exact hb
      refine ⟨(e _ (by omega) (by omega)).trans q0, blk 1 q1 (by decide), blk 12 q2 (by decide), blk 23 q3 (by decide), (e _ (by omega) (by omega)).trans q4, (e _ (by omega) (by omega)).trans q5, fun k hk => ?_⟩
      have := blk (36 + 11 * k) (by rw [show z + (36 + 11 * k) = z + 36 + 11 * k by omega]; exact q6 k hk) (by omega)
      rw [show z + (36 + 11 * k) = z + 36 + 11 * k by omega] at this
      exact this
    have hSc : zSc (p, e, room_1, s, m, #[Value.ref b], below, meth, c, 205, 104519, lw_Z below #[Value.ref b] s, fun q => z ≤ q) b L xs := ⟨hX, hbl, by omega⟩
    have loop := law_loop F2 hSc hL kz2 mz (kr.out InvT.t0 mo (by omega)) mr (fun μ' i => by
      intro H locs ls hP hS hl
      refine va_forget (fun q hq => by rw [hzs]; exact hS.2.2 q hq) ?_
      refine W.widen (k := 600000) (n := 7302250) (by decide) (by decide) ?_
      exact lw_ret hx hb hr hlocks d_LAW_law_614)
    intro H locs ls hP hO hh hS hl
    exact loop H locs ls hP hS hl
  exact go s.heap [] ls (fun a en h => by cases h) (fun k q h => by simp at h) hzs va_S.rf hzl
-- the skeleton's end (a starting text)
set_option maxHeartbeats 4000000 in
theorem lw_walk (l : Launch) (b : Addr) (xs : List Int32) : MetFree l x (headSpec (Jvm.Cond.code x code maxLocals ret :: tables_1) room_1) (lw_P b xs) (fun _ _ _ _ _ => True) lw_Q := by
  refine MetFree.of_bodyS (code := code) (maxLocals := maxLocals) (ret := ret) (by decide) ?_ ?_
  · intro args s m h hn
    obtain ⟨meth, c, h1, h2, h3, h4, h5, h6, -, -⟩ := Cond.code_spec hn (atoms_spec (ws := Jvm.Cond.code x code maxLocals ret :: tables_1) h _ List.mem_cons_self)
    exact ⟨meth, c, h1, h2, h3, h4, h5, h6⟩
  · intro p e s m args below meth c s₁ B hml0 hP _
    obtain ⟨rfl, hx, hbd, hgv⟩ := hP
    obtain ⟨scr, harrAt, hlist, hof, hsmall⟩ := hx
    obtain ⟨hcb, hkn, -, -⟩ := State.arrayAt?_spec harrAt
    have hown : s.vm.findClass R_law = some m.cls := findClass_of_methodNamed B.named
    have hts0 : ∀ c ∈ (Jvm.Cond.code x code maxLocals ret :: tables_1), c.before #[Value.ref b] s = true := atoms_spec (ws := Jvm.Cond.code x code maxLocals ret :: tables_1) B.pre
    have hts : ∀ w ∈ lw_tbl, w.before #[Value.ref b] s = true := k2_hts_sels lw_privs (fun w hw => hts0 w (List.mem_cons_of_mem _ hw)) lw_privs_ok
    have hml : c.maxLocals = 4 := B.maxLocals_eq (hts0 _ List.mem_cons_self)
    have X₀ : Stand p l e room_1 s m #[Value.ref b] below meth c s₁ [] 0 0 := Stand.of_body B
    have hh0 : s₁.heap = s.heap := by rw [B.state]; rfl
    have hsz : scr.slots.size = xs.length := by rw [← Array.length_toList, hlist, List.length_map]
    have hval : ∀ j : Nat, j < xs.length → scr.slots[j]? = some (.int (xs.getD j 0)) := fun j hj => by
      rw [← Array.getElem?_toList, hlist]
      simp [hj]
    have hbl : b < s.heap.size := (Array.getElem?_eq_some_iff.mp hcb).1
    have hX : va_X b xs.length (fun j => xs.getD j 0) s s.heap := ⟨scr, hcb, hof, hkn, hsz, hval⟩
    have K : W p l e room_1 s m #[Value.ref b] below meth c s₁.heap [] 0 0 (lw_Z below #[Value.ref b] s) (entryFrame m ([Value.ref b] : List Value).toArray 4) := by
      rw [hh0]
      exact whole_start l hbd ⟨B.exec, B.bytes, B.returns, hml, hown, hts, hX, hbl, B.notSynchronized, hgv⟩
    obtain ⟨t, a1, o, b1, b2, b3⟩ := K s₁ rfl X₀
    exact ⟨t, o, a1, b1, b2, b3⟩
theorem lw_pre_spec {args : Array Value} {s : State} (h : (Jvm.Cond.and given_1 narrow_1).before args s = true) (hr : rest_1_c.before args s = true) : ∃ (b : Addr) (xs : List Int32), lw_P b xs args s := by
  have hs := flat_of_before _ h
  have hq := flat_of_before _ hr
  have hc : (Cond.count 1).before args s = true := hs _ (by decide +kernel)
  have harr : (Cond.arrayOf (.arg 0) .int).before args s = true := hs _ (by decide +kernel)
  have hle : (Cond.le (.length (.arg 0)) (.int 2560)).before args s = true := hs _ (by decide +kernel)
  have hlen : (Cond.isInt (.length (.arg 0))).before args s = true := hq _ (by decide +kernel)
  have hall : (Cond.all (.arg 0) (.isInt (.elem (.arg 0) (.index 0)))).before args s = true := hq _ (by decide +kernel)
  obtain ⟨b, xs, hb, hx⟩ := State.ints_of_pre rfl harr hlen hall
  have hsm : xs.length < 2 ^ 31 := hx.choose_spec.2.2.2
  have hev : (Term.length (.arg 0)).eval args s none [] s = some (.int xs.length.toInt32) := hx.length_eval hb
  have hv := Cond.le_ints hev (show (Term.int 2560).eval args s none [] s = some (.int 2560) from rfl)
  have hd : xs.length.toInt32 ≤ 2560 := by
    simpa [Cond.before, Cond.holds, hv] using hle
  have hN : xs.length ≤ 2560 := (Int32.ofNat_le_ofNat hsm (by decide)).mp (show Int32.ofNat xs.length ≤ Int32.ofNat 2560 from hd)
  exact ⟨b, xs, Cond.one_arg hc (show args[0]? = some (.ref b) from hb), hx, hN, h⟩
theorem lw_comes (l : Launch) : Comes l x (Jvm.Cond.code x code maxLocals ret :: tables_1) room_1 (fun tb e args s => Calls_1 tb e args s ∧ rest_1 tb e args s ∧ Pre_1 tb e args s)
    (fun _ _ args s o t => lw_Q args s o t) := by
  intro p e ha hc hk s m args below hf hfit hheap happ hpre
  obtain ⟨b, xs, hP⟩ := lw_pre_spec hpre.2.2 hpre.2.1
  obtain ⟨k, o, h1, h2, h3, hQ⟩ := lw_walk l b xs p e ha hc hk s m args below hf ((Spec.applies_iff_loose hf).mp happ).1 hP trivial
  exact ⟨k, o, h1, h2, h3, hQ⟩
theorem lw_frame {s t : State} {o : Outcome} {args : Array Value} (h : Framed s o t [] 600000 7302250) :
    Framed s o t (fieldLocs frame_1_writes args s ++ arrayLocs frame_1_arrays args s ++ staticLocs frame_1_statics s) 600000 7302250 := h
theorem lw_limb (L : Cond) (hL : ∀ (args : Array Value) (s t : State), L.after args s (.returned (some (.int 1))) t = true) :
    ArmFor flags0 classFile x code maxLocals ret World_1 tables_1 room_1 Calls_1 rest_1 Pre_1
      (fun tb e a s o t => postC L tb e a s o t ∧ Framed s o t (fieldLocs frame_1_writes a s ++ arrayLocs frame_1_arrays a s ++ staticLocs frame_1_statics s) 600000 7302250) := by
  intro l _ _ _ p e ha hc hk s m args below hf hfit hheap happ hpre
  obtain ⟨k, o, h1, h2, h3, rfl, hF⟩ := lw_comes l p e ha hc hk s m args below hf hfit hheap happ hpre
  exact ⟨k, _, h1, h2, h3, hL args s _, lw_frame hF⟩
theorem i_vc : Claimed_1_1 ∧ Claimed_1_2 := ⟨lw_limb limb_1_1 (fun args s t => by simp [limb_1_1, Cond.after, Cond.holds, Cond.value]), lw_limb limb_1_2 (fun args s t => Cond.after_iff.mpr (by
  first | (rw [show limb_1_2 = Cond.eq .result (.int 1) from rfl, Cond.eq_ints (x := 1) (y := 1) rfl rfl]; simp; done) | (simp [limb_1_2, Cond.value, Term.eval]; done)))⟩
end
