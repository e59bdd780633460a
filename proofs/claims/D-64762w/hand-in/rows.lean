section
-- ===== PART A: goes FIRST, ahead of the names: the tables' words, and 'selects' of the private methods out of them =====
/-- a private method of a class that the tables say can be made, by its rows of tables_1 -/
def lw_okq (q : MethodName × Nat) : Prop := (q.1.cls ≠ "java/lang/invoke/MethodHandle" ∧ q.1.cls ≠ "java/lang/invoke/VarHandle") ∧ Cond.instantiable q.1.cls q.2 ∈ tables_1 ∧ Cond.privateMethod q.1 ∈ tables_1 ∧ Cond.instanceMethod q.1 ∈ tables_1
theorem lw_p0 : lw_okq (⟨"OffsetHeap", "size", "(I)I"⟩, 13) := ⟨⟨by decide +kernel, by decide +kernel⟩, List.mem_of_getElem? (i := 7) (by decide +kernel), List.mem_of_getElem? (i := 85) (by decide +kernel), List.mem_of_getElem? (i := 86) (by decide +kernel)⟩
theorem lw_p1 : lw_okq (⟨"OffsetHeap", "references", "(I)I"⟩, 13) := ⟨⟨by decide +kernel, by decide +kernel⟩, List.mem_of_getElem? (i := 7) (by decide +kernel), List.mem_of_getElem? (i := 89) (by decide +kernel), List.mem_of_getElem? (i := 90) (by decide +kernel)⟩
theorem lw_p2 : lw_okq (⟨"OffsetHeap", "plain", "(I)I"⟩, 13) := ⟨⟨by decide +kernel, by decide +kernel⟩, List.mem_of_getElem? (i := 7) (by decide +kernel), List.mem_of_getElem? (i := 93) (by decide +kernel), List.mem_of_getElem? (i := 94) (by decide +kernel)⟩
theorem lw_p3 : lw_okq (⟨"OffsetHeap", "reach", "(I)I"⟩, 13) := ⟨⟨by decide +kernel, by decide +kernel⟩, List.mem_of_getElem? (i := 7) (by decide +kernel), List.mem_of_getElem? (i := 121) (by decide +kernel), List.mem_of_getElem? (i := 122) (by decide +kernel)⟩
theorem lw_p4 : lw_okq (⟨"OffsetHeap", "meet", "(II)I"⟩, 13) := ⟨⟨by decide +kernel, by decide +kernel⟩, List.mem_of_getElem? (i := 7) (by decide +kernel), List.mem_of_getElem? (i := 125) (by decide +kernel), List.mem_of_getElem? (i := 126) (by decide +kernel)⟩
theorem lw_p5 : lw_okq (⟨"OffsetHeap$Map", "before", "(II)I"⟩, 3) := ⟨⟨by decide +kernel, by decide +kernel⟩, List.mem_of_getElem? (i := 21) (by decide +kernel), List.mem_of_getElem? (i := 143) (by decide +kernel), List.mem_of_getElem? (i := 144) (by decide +kernel)⟩
theorem lw_p6 : lw_okq (⟨"OffsetHeap", "copy", "()I"⟩, 13) := ⟨⟨by decide +kernel, by decide +kernel⟩, List.mem_of_getElem? (i := 7) (by decide +kernel), List.mem_of_getElem? (i := 153) (by decide +kernel), List.mem_of_getElem? (i := 154) (by decide +kernel)⟩
theorem lw_p7 : lw_okq (⟨"OffsetHeap", "goes", "(I)I"⟩, 13) := ⟨⟨by decide +kernel, by decide +kernel⟩, List.mem_of_getElem? (i := 7) (by decide +kernel), List.mem_of_getElem? (i := 165) (by decide +kernel), List.mem_of_getElem? (i := 166) (by decide +kernel)⟩
theorem lw_p8 : lw_okq (⟨"OffsetHeap", "leadsWell", "(I)Z"⟩, 13) := ⟨⟨by decide +kernel, by decide +kernel⟩, List.mem_of_getElem? (i := 7) (by decide +kernel), List.mem_of_getElem? (i := 201) (by decide +kernel), List.mem_of_getElem? (i := 202) (by decide +kernel)⟩
theorem lw_p9 : lw_okq (⟨"OffsetHeapModel", "isLead", "(I)Z"⟩, 14) := ⟨⟨by decide +kernel, by decide +kernel⟩, List.mem_of_getElem? (i := 212) (by decide +kernel), List.mem_of_getElem? (i := 276) (by decide +kernel), List.mem_of_getElem? (i := 277) (by decide +kernel)⟩
theorem lw_p10 : lw_okq (⟨"OffsetHeapModel", "references", "(I)I"⟩, 14) := ⟨⟨by decide +kernel, by decide +kernel⟩, List.mem_of_getElem? (i := 212) (by decide +kernel), List.mem_of_getElem? (i := 280) (by decide +kernel), List.mem_of_getElem? (i := 281) (by decide +kernel)⟩
theorem lw_p11 : lw_okq (⟨"OffsetHeapModel", "plain", "(I)I"⟩, 14) := ⟨⟨by decide +kernel, by decide +kernel⟩, List.mem_of_getElem? (i := 212) (by decide +kernel), List.mem_of_getElem? (i := 288) (by decide +kernel), List.mem_of_getElem? (i := 289) (by decide +kernel)⟩
theorem lw_p12 : lw_okq (⟨"OffsetHeapModel", "measure", "()V"⟩, 14) := ⟨⟨by decide +kernel, by decide +kernel⟩, List.mem_of_getElem? (i := 212) (by decide +kernel), List.mem_of_getElem? (i := 300) (by decide +kernel), List.mem_of_getElem? (i := 301) (by decide +kernel)⟩
theorem lw_p13 : lw_okq (⟨"OffsetHeapModel", "length", "(I)I"⟩, 14) := ⟨⟨by decide +kernel, by decide +kernel⟩, List.mem_of_getElem? (i := 212) (by decide +kernel), List.mem_of_getElem? (i := 305) (by decide +kernel), List.mem_of_getElem? (i := 306) (by decide +kernel)⟩
theorem lw_p14 : lw_okq (⟨"OffsetHeapModel", "isWord", "(I)Z"⟩, 14) := ⟨⟨by decide +kernel, by decide +kernel⟩, List.mem_of_getElem? (i := 212) (by decide +kernel), List.mem_of_getElem? (i := 313) (by decide +kernel), List.mem_of_getElem? (i := 314) (by decide +kernel)⟩
theorem lw_p15 : lw_okq (⟨"OffsetHeapModel", "blocks", "()I"⟩, 14) := ⟨⟨by decide +kernel, by decide +kernel⟩, List.mem_of_getElem? (i := 212) (by decide +kernel), List.mem_of_getElem? (i := 329) (by decide +kernel), List.mem_of_getElem? (i := 330) (by decide +kernel)⟩
def lw_privs_1 : List (MethodName × Nat) := [(⟨"OffsetHeap", "size", "(I)I"⟩, 13), (⟨"OffsetHeap", "references", "(I)I"⟩, 13), (⟨"OffsetHeap", "plain", "(I)I"⟩, 13), (⟨"OffsetHeap", "reach", "(I)I"⟩, 13), (⟨"OffsetHeap", "meet", "(II)I"⟩, 13), (⟨"OffsetHeap$Map", "before", "(II)I"⟩, 3), (⟨"OffsetHeap", "copy", "()I"⟩, 13), (⟨"OffsetHeap", "goes", "(I)I"⟩, 13), (⟨"OffsetHeap", "leadsWell", "(I)Z"⟩, 13), (⟨"OffsetHeapModel", "isLead", "(I)Z"⟩, 14), (⟨"OffsetHeapModel", "references", "(I)I"⟩, 14), (⟨"OffsetHeapModel", "plain", "(I)I"⟩, 14), (⟨"OffsetHeapModel", "measure", "()V"⟩, 14), (⟨"OffsetHeapModel", "length", "(I)I"⟩, 14), (⟨"OffsetHeapModel", "isWord", "(I)Z"⟩, 14), (⟨"OffsetHeapModel", "blocks", "()I"⟩, 14)]
theorem lw_r1 : ∀ q ∈ lw_privs_1, lw_okq q := List.forall_mem_cons.mpr ⟨lw_p0, List.forall_mem_cons.mpr ⟨lw_p1, List.forall_mem_cons.mpr ⟨lw_p2, List.forall_mem_cons.mpr ⟨lw_p3, List.forall_mem_cons.mpr ⟨lw_p4, List.forall_mem_cons.mpr ⟨lw_p5, List.forall_mem_cons.mpr ⟨lw_p6, List.forall_mem_cons.mpr ⟨lw_p7, List.forall_mem_cons.mpr ⟨lw_p8, List.forall_mem_cons.mpr ⟨lw_p9, List.forall_mem_cons.mpr ⟨lw_p10, List.forall_mem_cons.mpr ⟨lw_p11, List.forall_mem_cons.mpr ⟨lw_p12, List.forall_mem_cons.mpr ⟨lw_p13, List.forall_mem_cons.mpr ⟨lw_p14, List.forall_mem_cons.mpr ⟨lw_p15, fun _ h => absurd h List.not_mem_nil⟩⟩⟩⟩⟩⟩⟩⟩⟩⟩⟩⟩⟩⟩⟩⟩
def lw_privs : List (MethodName × Nat) := lw_privs_1
def lw_tbl : List Cond := k2_sels lw_privs ++ tables_1
theorem lw_privs_ok : ∀ q ∈ lw_privs, lw_okq q := lw_r1
-- names: classes, fields, methods
abbrev R_H : String := "OffsetHeap"
def F_H : u_T := fun k => match k with
  | 0 => ("OffsetHeap", "n", "I", true)
  | 1 => ("OffsetHeap", "block", "I", true)
  | 2 => ("OffsetHeap", "words", "[I", false)
  | 3 => ("OffsetHeap", "fresh", "[I", false)
  | 4 => ("OffsetHeap", "map", "LOffsetHeap$Map;", true)
  | 5 => ("OffsetHeap", "roots", "[I", true)
  | 6 => ("OffsetHeap", "open", "[I", true)
  | 7 => ("OffsetHeap", "seen", "[Z", true)
  | 8 => ("OffsetHeap", "top", "I", false)
  | 9 => ("OffsetHeap", "objects", "I", false)
  | 10 => ("OffsetHeap", "collectings", "I", false)
  | 11 => ("OffsetHeap", "reads", "I", false)
  | _ => ("OffsetHeap", "refs", "I", false)
def t_H : Nat → FieldType := fun k => match k with
  | 0 => .int
  | 1 => .int
  | 2 => .array .int
  | 3 => .array .int
  | 4 => .object "OffsetHeap$Map"
  | 5 => .array .int
  | 6 => .array .int
  | 7 => .array .boolean
  | 8 => .int
  | 9 => .int
  | 10 => .int
  | 11 => .int
  | _ => .int
abbrev R_M : String := "OffsetHeap$Map"
def F_M : u_T := fun k => match k with
  | 0 => ("OffsetHeap$Map", "bits", "[J", true)
  | 1 => ("OffsetHeap$Map", "offsets", "[I", true)
  | _ => ("OffsetHeap$Map", "block", "I", true)
def t_M : Nat → FieldType := fun k => match k with
  | 0 => .array .long
  | 1 => .array .int
  | _ => .int
abbrev R_D : String := "OffsetHeapModel"
def F_D : u_T := fun k => match k with
  | 0 => ("OffsetHeapModel", "thrown", "I", false)
  | 1 => ("OffsetHeapModel", "most", "I", false)
  | 2 => ("OffsetHeapModel", "block", "I", false)
  | 3 => ("OffsetHeapModel", "top", "I", false)
  | 4 => ("OffsetHeapModel", "objects", "I", false)
  | 5 => ("OffsetHeapModel", "collected", "I", false)
  | 6 => ("OffsetHeapModel", "lived", "I", false)
  | 7 => ("OffsetHeapModel", "words", "[I", true)
  | 8 => ("OffsetHeapModel", "fresh", "[I", true)
  | 9 => ("OffsetHeapModel", "begins", "[Z", true)
  | 10 => ("OffsetHeapModel", "freshBegins", "[Z", true)
  | 11 => ("OffsetHeapModel", "roots", "[I", true)
  | 12 => ("OffsetHeapModel", "went", "[I", true)
  | _ => ("OffsetHeapModel", "far", "[I", true)
def t_D : Nat → FieldType := fun k => match k with
  | 0 => .int
  | 1 => .int
  | 2 => .int
  | 3 => .int
  | 4 => .int
  | 5 => .int
  | 6 => .int
  | 7 => .array .int
  | 8 => .array .int
  | 9 => .array .boolean
  | 10 => .array .boolean
  | 11 => .array .int
  | 12 => .array .int
  | _ => .array .int
abbrev R_L : String := "OffsetHeapLaw"
abbrev R_O : String := "java/lang/Object"
abbrev R_J : String := "java/lang/Long"
abbrev R_A : String := "java/lang/Math"
abbrev b_H_init : ByteArray := prog_1_method_2_code
abbrev y_H_init : MethodName := ⟨R_H, "<init>", "(II)V"⟩
abbrev b_O_init : ByteArray := object_method_1_code
abbrev y_O_init : MethodName := ⟨R_O, "<init>", "()V"⟩
abbrev b_A_min : ByteArray := prog_6_method_69_code
abbrev y_A_min : MethodName := ⟨R_A, "min", "(II)I"⟩
abbrev b_A_max : ByteArray := prog_6_method_65_code
abbrev y_A_max : MethodName := ⟨R_A, "max", "(II)I"⟩
abbrev b_M_init : ByteArray := prog_2_method_1_code
abbrev y_M_init : MethodName := ⟨R_M, "<init>", "(II)V"⟩
abbrev b_H_isObject : ByteArray := prog_1_method_6_code
abbrev y_H_isObject : MethodName := ⟨R_H, "isObject", "(I)Z"⟩
abbrev b_H_size : ByteArray := prog_1_method_5_code
abbrev y_H_size : MethodName := ⟨R_H, "size", "(I)I"⟩
abbrev b_H_references : ByteArray := prog_1_method_3_code
abbrev y_H_references : MethodName := ⟨R_H, "references", "(I)I"⟩
abbrev b_H_plain : ByteArray := prog_1_method_4_code
abbrev y_H_plain : MethodName := ⟨R_H, "plain", "(I)I"⟩
abbrev b_H_make : ByteArray := prog_1_method_7_code
abbrev y_H_make : MethodName := ⟨R_H, "make", "(II)I"⟩
abbrev b_H_within : ByteArray := prog_1_method_1_code
abbrev y_H_within : MethodName := ⟨R_H, "within", "(III)Z"⟩
abbrev b_H_refer : ByteArray := prog_1_method_8_code
abbrev y_H_refer : MethodName := ⟨R_H, "refer", "(III)Z"⟩
abbrev b_H_set : ByteArray := prog_1_method_9_code
abbrev y_H_set : MethodName := ⟨R_H, "set", "(III)Z"⟩
abbrev b_H_root : ByteArray := prog_1_method_10_code
abbrev y_H_root : MethodName := ⟨R_H, "root", "(II)Z"⟩
abbrev b_H_collect : ByteArray := prog_1_method_15_code
abbrev y_H_collect : MethodName := ⟨R_H, "collect", "()I"⟩
abbrev b_H_reach : ByteArray := prog_1_method_11_code
abbrev y_H_reach : MethodName := ⟨R_H, "reach", "(I)I"⟩
abbrev b_H_meet : ByteArray := prog_1_method_12_code
abbrev y_H_meet : MethodName := ⟨R_H, "meet", "(II)I"⟩
abbrev b_M_clear : ByteArray := prog_2_method_2_code
abbrev y_M_clear : MethodName := ⟨R_M, "clear", "()V"⟩
abbrev b_M_mark : ByteArray := prog_2_method_4_code
abbrev y_M_mark : MethodName := ⟨R_M, "mark", "(II)V"⟩
abbrev b_M_lay : ByteArray := prog_2_method_6_code
abbrev y_M_lay : MethodName := ⟨R_M, "lay", "()V"⟩
abbrev b_M_before : ByteArray := prog_2_method_5_code
abbrev y_M_before : MethodName := ⟨R_M, "before", "(II)I"⟩
abbrev b_J_bitCount : ByteArray := prog_5_method_50_code
abbrev y_J_bitCount : MethodName := ⟨R_J, "bitCount", "(J)I"⟩
abbrev b_H_copy : ByteArray := prog_1_method_14_code
abbrev y_H_copy : MethodName := ⟨R_H, "copy", "()I"⟩
abbrev b_M_has : ByteArray := prog_2_method_3_code
abbrev y_M_has : MethodName := ⟨R_M, "has", "(I)Z"⟩
abbrev b_M_address : ByteArray := prog_2_method_7_code
abbrev y_M_address : MethodName := ⟨R_M, "address", "(I)I"⟩
abbrev b_H_goes : ByteArray := prog_1_method_13_code
abbrev y_H_goes : MethodName := ⟨R_H, "goes", "(I)I"⟩
abbrev b_H_word : ByteArray := prog_1_method_16_code
abbrev y_H_word : MethodName := ⟨R_H, "word", "(I)I"⟩
abbrev b_H_rootOf : ByteArray := prog_1_method_17_code
abbrev y_H_rootOf : MethodName := ⟨R_H, "rootOf", "(I)I"⟩
abbrev b_H_bit : ByteArray := prog_1_method_18_code
abbrev y_H_bit : MethodName := ⟨R_H, "bit", "(I)I"⟩
abbrev b_H_offset : ByteArray := prog_1_method_19_code
abbrev y_H_offset : MethodName := ⟨R_H, "offset", "(I)I"⟩
abbrev b_H_moved : ByteArray := prog_1_method_20_code
abbrev y_H_moved : MethodName := ⟨R_H, "moved", "(I)I"⟩
abbrev b_H_reads : ByteArray := prog_1_method_21_code
abbrev y_H_reads : MethodName := ⟨R_H, "reads", "()I"⟩
abbrev b_H_near : ByteArray := prog_1_method_22_code
abbrev y_H_near : MethodName := ⟨R_H, "near", "(I)I"⟩
abbrev b_H_sound : ByteArray := prog_1_method_24_code
abbrev y_H_sound : MethodName := ⟨R_H, "sound", "()Z"⟩
abbrev b_H_leadsWell : ByteArray := prog_1_method_23_code
abbrev y_H_leadsWell : MethodName := ⟨R_H, "leadsWell", "(I)Z"⟩
abbrev b_H_count : ByteArray := prog_1_method_25_code
abbrev y_H_count : MethodName := ⟨R_H, "count", "(I)I"⟩
abbrev b_L_cell : ByteArray := method_2_code
abbrev y_L_cell : MethodName := ⟨R_L, "cell", "([II)I"⟩
abbrev b_D_init : ByteArray := prog_4_method_1_code
abbrev y_D_init : MethodName := ⟨R_D, "<init>", "(II)V"⟩
abbrev b_D_make : ByteArray := prog_4_method_7_code
abbrev y_D_make : MethodName := ⟨R_D, "make", "(II)I"⟩
abbrev b_D_isIn : ByteArray := prog_4_method_3_code
abbrev y_D_isIn : MethodName := ⟨R_D, "isIn", "(III)Z"⟩
abbrev b_D_isObject : ByteArray := prog_4_method_8_code
abbrev y_D_isObject : MethodName := ⟨R_D, "isObject", "(I)Z"⟩
abbrev b_D_refer : ByteArray := prog_4_method_10_code
abbrev y_D_refer : MethodName := ⟨R_D, "refer", "(III)Z"⟩
abbrev b_D_isLead : ByteArray := prog_4_method_9_code
abbrev y_D_isLead : MethodName := ⟨R_D, "isLead", "(I)Z"⟩
abbrev b_D_references : ByteArray := prog_4_method_5_code
abbrev y_D_references : MethodName := ⟨R_D, "references", "(I)I"⟩
abbrev b_D_set : ByteArray := prog_4_method_11_code
abbrev y_D_set : MethodName := ⟨R_D, "set", "(III)Z"⟩
abbrev b_D_plain : ByteArray := prog_4_method_4_code
abbrev y_D_plain : MethodName := ⟨R_D, "plain", "(I)I"⟩
abbrev b_D_root : ByteArray := prog_4_method_12_code
abbrev y_D_root : MethodName := ⟨R_D, "root", "(II)Z"⟩
abbrev b_D_collect : ByteArray := prog_4_method_14_code
abbrev y_D_collect : MethodName := ⟨R_D, "collect", "()I"⟩
abbrev b_D_measure : ByteArray := prog_4_method_13_code
abbrev y_D_measure : MethodName := ⟨R_D, "measure", "()V"⟩
abbrev b_D_length : ByteArray := prog_4_method_6_code
abbrev y_D_length : MethodName := ⟨R_D, "length", "(I)I"⟩
abbrev b_D_word : ByteArray := prog_4_method_16_code
abbrev y_D_word : MethodName := ⟨R_D, "word", "(I)I"⟩
abbrev b_D_isWord : ByteArray := prog_4_method_15_code
abbrev y_D_isWord : MethodName := ⟨R_D, "isWord", "(I)Z"⟩
abbrev b_D_rootOf : ByteArray := prog_4_method_17_code
abbrev y_D_rootOf : MethodName := ⟨R_D, "rootOf", "(I)I"⟩
abbrev b_D_bit : ByteArray := prog_4_method_18_code
abbrev y_D_bit : MethodName := ⟨R_D, "bit", "(I)I"⟩
abbrev b_D_offset : ByteArray := prog_4_method_20_code
abbrev y_D_offset : MethodName := ⟨R_D, "offset", "(I)I"⟩
abbrev b_D_blocks : ByteArray := prog_4_method_19_code
abbrev y_D_blocks : MethodName := ⟨R_D, "blocks", "()I"⟩
abbrev b_D_moved : ByteArray := prog_4_method_21_code
abbrev y_D_moved : MethodName := ⟨R_D, "moved", "(I)I"⟩
abbrev b_D_reads : ByteArray := prog_4_method_22_code
abbrev y_D_reads : MethodName := ⟨R_D, "reads", "()I"⟩
abbrev b_D_near : ByteArray := prog_4_method_23_code
abbrev y_D_near : MethodName := ⟨R_D, "near", "(I)I"⟩
abbrev b_D_sound : ByteArray := prog_4_method_24_code
abbrev y_D_sound : MethodName := ⟨R_D, "sound", "()Z"⟩
abbrev b_D_count : ByteArray := prog_4_method_25_code
abbrev y_D_count : MethodName := ⟨R_D, "count", "(I)I"⟩
abbrev b_L_law : ByteArray := code
abbrev classes : List vw_C := [(R_H, F_H, 13), (R_M, F_M, 3), (R_D, F_D, 14)]
/-- the tables' words that a call keeps -/
def GT : List Cond := lw_tbl.filter goodWord
theorem gt_mem {w : Cond} (h : w ∈ lw_tbl) (g : goodWord w = true) : w ∈ GT := List.mem_filter.mpr ⟨h, g⟩
theorem gt_k {w : Cond} (i : Nat) (h : tables_1[i]? = some w) (g : goodWord w = true) : w ∈ GT := gt_mem (List.mem_append_right _ (List.mem_of_getElem? h)) g
theorem gt_p {w : Cond} (i : Nat) (h : (k2_sels lw_privs)[i]? = some w) (g : goodWord w = true) : w ∈ GT := gt_mem (List.mem_append_left _ (List.mem_of_getElem? h)) g
theorem n_H : ∀ a, a < 13 → ∀ b, b < 13 → a ≠ b → (F_H a).2.1 ≠ (F_H b).2.1 := by decide +kernel
theorem t_H_ok : ∀ k, k < 13 → parseFieldDescriptor (F_H k).2.2.1 = some (t_H k) := by decide +kernel
theorem i_H : ∀ w ∈ u_ws R_H F_H 13, w ∈ GT := fun w h => gt_mem ((show ∀ w ∈ u_ws R_H F_H 13, w ∈ lw_tbl by decide +kernel) w h) ((show ∀ w ∈ u_ws R_H F_H 13, goodWord w = true by decide +kernel) w h)
theorem n_M : ∀ a, a < 3 → ∀ b, b < 3 → a ≠ b → (F_M a).2.1 ≠ (F_M b).2.1 := by decide +kernel
theorem t_M_ok : ∀ k, k < 3 → parseFieldDescriptor (F_M k).2.2.1 = some (t_M k) := by decide +kernel
theorem i_M : ∀ w ∈ u_ws R_M F_M 3, w ∈ GT := fun w h => gt_mem ((show ∀ w ∈ u_ws R_M F_M 3, w ∈ lw_tbl by decide +kernel) w h) ((show ∀ w ∈ u_ws R_M F_M 3, goodWord w = true by decide +kernel) w h)
theorem n_D : ∀ a, a < 14 → ∀ b, b < 14 → a ≠ b → (F_D a).2.1 ≠ (F_D b).2.1 := by decide +kernel
theorem t_D_ok : ∀ k, k < 14 → parseFieldDescriptor (F_D k).2.2.1 = some (t_D k) := by decide +kernel
theorem i_D : ∀ w ∈ u_ws R_D F_D 14, w ∈ GT := fun w h => gt_mem ((show ∀ w ∈ u_ws R_D F_D 14, w ∈ lw_tbl by decide +kernel) w h) ((show ∀ w ∈ u_ws R_D F_D 14, goodWord w = true by decide +kernel) w h)
theorem tb_0 : (.initialized R_L : Cond) ∈ GT := gt_k 0 rfl rfl
theorem tb_1 : (.initialized R_H : Cond) ∈ GT := gt_k 1 rfl rfl
theorem tb_2 : (.initialized R_A : Cond) ∈ GT := gt_k 2 rfl rfl
theorem tb_3 : (.initialized R_M : Cond) ∈ GT := gt_k 3 rfl rfl
theorem tb_4 : (.initialized R_D : Cond) ∈ GT := gt_k 4 rfl rfl
theorem tb_5 : (.initialized R_J : Cond) ∈ GT := gt_k 5 rfl rfl
theorem tb_6 : (.classLink R_L 7 R_H : Cond) ∈ GT := gt_k 6 rfl rfl
theorem tb_7 : (.instantiable R_H 13 : Cond) ∈ GT := gt_k 7 rfl rfl
theorem tb_8 : (.methodLink R_L 15 y_H_init : Cond) ∈ GT := gt_k 8 rfl rfl
theorem tb_9 : (.instanceMethod y_H_init : Cond) ∈ GT := gt_k 9 rfl rfl
theorem tb_10 : (.code y_H_init b_H_init 3 none : Cond) ∈ GT := gt_k 10 rfl rfl
theorem tb_11 : (.methodLink R_H 1 y_O_init : Cond) ∈ GT := gt_k 11 rfl rfl
theorem tb_12 : (.instanceMethod y_O_init : Cond) ∈ GT := gt_k 12 rfl rfl
theorem tb_13 : (.code y_O_init b_O_init 1 none : Cond) ∈ GT := gt_k 13 rfl rfl
theorem tb_14 : (.methodLink R_H 17 y_A_min : Cond) ∈ GT := gt_k 14 rfl rfl
theorem tb_15 : (.static y_A_min : Cond) ∈ GT := gt_k 15 rfl rfl
theorem tb_16 : (.code y_A_min b_A_min 2 (some .int) : Cond) ∈ GT := gt_k 16 rfl rfl
theorem tb_17 : (.methodLink R_H 23 y_A_max : Cond) ∈ GT := gt_k 17 rfl rfl
theorem tb_18 : (.static y_A_max : Cond) ∈ GT := gt_k 18 rfl rfl
theorem tb_19 : (.code y_A_max b_A_max 2 (some .int) : Cond) ∈ GT := gt_k 19 rfl rfl
theorem tb_20 : (.classLink R_H 45 R_M : Cond) ∈ GT := gt_k 20 rfl rfl
theorem tb_21 : (.instantiable R_M 3 : Cond) ∈ GT := gt_k 21 rfl rfl
theorem tb_22 : (.methodLink R_H 47 y_M_init : Cond) ∈ GT := gt_k 22 rfl rfl
theorem tb_23 : (.instanceMethod y_M_init : Cond) ∈ GT := gt_k 23 rfl rfl
theorem tb_24 : (.code y_M_init b_M_init 3 none : Cond) ∈ GT := gt_k 24 rfl rfl
theorem tb_25 : (.methodLink R_M 3 y_O_init : Cond) ∈ GT := gt_k 25 rfl rfl
theorem tb_26 : (.fieldLink R_M 15 "OffsetHeap$Map" "bits" "[J" : Cond) ∈ GT := gt_k 26 rfl rfl
theorem tb_27 : (.fieldLink R_M 19 "OffsetHeap$Map" "offsets" "[I" : Cond) ∈ GT := gt_k 27 rfl rfl
theorem tb_29 : (.fieldLink R_M 9 "OffsetHeap$Map" "block" "I" : Cond) ∈ GT := gt_k 29 rfl rfl
theorem tb_37 : (.arrayClass .int : Cond) ∈ GT := gt_k 37 rfl rfl
theorem tb_38 : (.arrayClass .boolean : Cond) ∈ GT := gt_k 38 rfl rfl
theorem tb_39 : (.arrayClass .long : Cond) ∈ GT := gt_k 39 rfl rfl
theorem tb_40 : (.fieldLink R_H 26 "OffsetHeap" "n" "I" : Cond) ∈ GT := gt_k 40 rfl rfl
theorem tb_41 : (.fieldLink R_H 29 "OffsetHeap" "block" "I" : Cond) ∈ GT := gt_k 41 rfl rfl
theorem tb_42 : (.fieldLink R_H 32 "OffsetHeap" "words" "[I" : Cond) ∈ GT := gt_k 42 rfl rfl
theorem tb_43 : (.fieldLink R_H 35 "OffsetHeap" "fresh" "[I" : Cond) ∈ GT := gt_k 43 rfl rfl
theorem tb_44 : (.fieldLink R_H 50 "OffsetHeap" "map" "LOffsetHeap$Map;" : Cond) ∈ GT := gt_k 44 rfl rfl
theorem tb_45 : (.fieldLink R_H 7 "OffsetHeap" "roots" "[I" : Cond) ∈ GT := gt_k 45 rfl rfl
theorem tb_46 : (.fieldLink R_H 38 "OffsetHeap" "open" "[I" : Cond) ∈ GT := gt_k 46 rfl rfl
theorem tb_47 : (.fieldLink R_H 41 "OffsetHeap" "seen" "[Z" : Cond) ∈ GT := gt_k 47 rfl rfl
theorem tb_48 : (.fieldLink R_H 13 "OffsetHeap" "top" "I" : Cond) ∈ GT := gt_k 48 rfl rfl
theorem tb_49 : (.fieldLink R_H 68 "OffsetHeap" "objects" "I" : Cond) ∈ GT := gt_k 49 rfl rfl
theorem tb_50 : (.fieldLink R_H 109 "OffsetHeap" "collectings" "I" : Cond) ∈ GT := gt_k 50 rfl rfl
theorem tb_51 : (.fieldLink R_H 106 "OffsetHeap" "reads" "I" : Cond) ∈ GT := gt_k 51 rfl rfl
theorem tb_52 : (.fieldLink R_H 84 "OffsetHeap" "refs" "I" : Cond) ∈ GT := gt_k 52 rfl rfl
theorem tb_80 : (.methodLink R_L 50 y_H_isObject : Cond) ∈ GT := gt_k 80 rfl rfl
theorem tb_81 : (.instanceMethod y_H_isObject : Cond) ∈ GT := gt_k 81 rfl rfl
theorem tb_82 : (.selects R_H y_H_isObject y_H_isObject : Cond) ∈ GT := gt_k 82 rfl rfl
theorem tb_83 : (.code y_H_isObject b_H_isObject 3 (some .boolean) : Cond) ∈ GT := gt_k 83 rfl rfl
theorem tb_84 : (.methodLink R_H 61 y_H_size : Cond) ∈ GT := gt_k 84 rfl rfl
theorem tb_86 : (.instanceMethod y_H_size : Cond) ∈ GT := gt_k 86 rfl rfl
theorem tb_87 : (.code y_H_size b_H_size 2 (some .int) : Cond) ∈ GT := gt_k 87 rfl rfl
theorem tb_88 : (.methodLink R_H 54 y_H_references : Cond) ∈ GT := gt_k 88 rfl rfl
theorem tb_90 : (.instanceMethod y_H_references : Cond) ∈ GT := gt_k 90 rfl rfl
theorem tb_91 : (.code y_H_references b_H_references 2 (some .int) : Cond) ∈ GT := gt_k 91 rfl rfl
theorem tb_92 : (.methodLink R_H 58 y_H_plain : Cond) ∈ GT := gt_k 92 rfl rfl
theorem tb_94 : (.instanceMethod y_H_plain : Cond) ∈ GT := gt_k 94 rfl rfl
theorem tb_95 : (.code y_H_plain b_H_plain 2 (some .int) : Cond) ∈ GT := gt_k 95 rfl rfl
theorem tb_96 : (.methodLink R_L 21 y_H_make : Cond) ∈ GT := gt_k 96 rfl rfl
theorem tb_97 : (.instanceMethod y_H_make : Cond) ∈ GT := gt_k 97 rfl rfl
theorem tb_98 : (.selects R_H y_H_make y_H_make : Cond) ∈ GT := gt_k 98 rfl rfl
theorem tb_99 : (.code y_H_make b_H_make 5 (some .int) : Cond) ∈ GT := gt_k 99 rfl rfl
theorem tb_100 : (.methodLink R_H 64 y_H_within : Cond) ∈ GT := gt_k 100 rfl rfl
theorem tb_101 : (.static y_H_within : Cond) ∈ GT := gt_k 101 rfl rfl
theorem tb_102 : (.code y_H_within b_H_within 3 (some .boolean) : Cond) ∈ GT := gt_k 102 rfl rfl
theorem tb_103 : (.methodLink R_L 26 y_H_refer : Cond) ∈ GT := gt_k 103 rfl rfl
theorem tb_104 : (.instanceMethod y_H_refer : Cond) ∈ GT := gt_k 104 rfl rfl
theorem tb_105 : (.selects R_H y_H_refer y_H_refer : Cond) ∈ GT := gt_k 105 rfl rfl
theorem tb_106 : (.code y_H_refer b_H_refer 4 (some .boolean) : Cond) ∈ GT := gt_k 106 rfl rfl
theorem tb_107 : (.methodLink R_H 71 y_H_isObject : Cond) ∈ GT := gt_k 107 rfl rfl
theorem tb_108 : (.methodLink R_L 31 y_H_set : Cond) ∈ GT := gt_k 108 rfl rfl
theorem tb_109 : (.instanceMethod y_H_set : Cond) ∈ GT := gt_k 109 rfl rfl
theorem tb_110 : (.selects R_H y_H_set y_H_set : Cond) ∈ GT := gt_k 110 rfl rfl
theorem tb_111 : (.code y_H_set b_H_set 4 (some .boolean) : Cond) ∈ GT := gt_k 111 rfl rfl
theorem tb_112 : (.methodLink R_L 35 y_H_root : Cond) ∈ GT := gt_k 112 rfl rfl
theorem tb_113 : (.instanceMethod y_H_root : Cond) ∈ GT := gt_k 113 rfl rfl
theorem tb_114 : (.selects R_H y_H_root y_H_root : Cond) ∈ GT := gt_k 114 rfl rfl
theorem tb_115 : (.code y_H_root b_H_root 3 (some .boolean) : Cond) ∈ GT := gt_k 115 rfl rfl
theorem tb_116 : (.methodLink R_L 40 y_H_collect : Cond) ∈ GT := gt_k 116 rfl rfl
theorem tb_117 : (.instanceMethod y_H_collect : Cond) ∈ GT := gt_k 117 rfl rfl
theorem tb_118 : (.selects R_H y_H_collect y_H_collect : Cond) ∈ GT := gt_k 118 rfl rfl
theorem tb_119 : (.code y_H_collect b_H_collect 2 (some .int) : Cond) ∈ GT := gt_k 119 rfl rfl
theorem tb_120 : (.methodLink R_H 90 y_H_reach : Cond) ∈ GT := gt_k 120 rfl rfl
theorem tb_122 : (.instanceMethod y_H_reach : Cond) ∈ GT := gt_k 122 rfl rfl
theorem tb_123 : (.code y_H_reach b_H_reach 8 (some .int) : Cond) ∈ GT := gt_k 123 rfl rfl
theorem tb_124 : (.methodLink R_H 75 y_H_meet : Cond) ∈ GT := gt_k 124 rfl rfl
theorem tb_126 : (.instanceMethod y_H_meet : Cond) ∈ GT := gt_k 126 rfl rfl
theorem tb_127 : (.code y_H_meet b_H_meet 3 (some .int) : Cond) ∈ GT := gt_k 127 rfl rfl
theorem tb_128 : (.methodLink R_H 93 y_M_clear : Cond) ∈ GT := gt_k 128 rfl rfl
theorem tb_129 : (.instanceMethod y_M_clear : Cond) ∈ GT := gt_k 129 rfl rfl
theorem tb_130 : (.selects R_M y_M_clear y_M_clear : Cond) ∈ GT := gt_k 130 rfl rfl
theorem tb_131 : (.code y_M_clear b_M_clear 2 none : Cond) ∈ GT := gt_k 131 rfl rfl
theorem tb_132 : (.methodLink R_H 96 y_M_mark : Cond) ∈ GT := gt_k 132 rfl rfl
theorem tb_133 : (.instanceMethod y_M_mark : Cond) ∈ GT := gt_k 133 rfl rfl
theorem tb_134 : (.selects R_M y_M_mark y_M_mark : Cond) ∈ GT := gt_k 134 rfl rfl
theorem tb_135 : (.code y_M_mark b_M_mark 8 none : Cond) ∈ GT := gt_k 135 rfl rfl
theorem tb_136 : (.methodLink R_M 23 y_A_min : Cond) ∈ GT := gt_k 136 rfl rfl
theorem tb_137 : (.constantLong R_M 29 (-1) : Cond) ∈ GT := gt_k 137 rfl rfl
theorem tb_138 : (.methodLink R_H 99 y_M_lay : Cond) ∈ GT := gt_k 138 rfl rfl
theorem tb_139 : (.instanceMethod y_M_lay : Cond) ∈ GT := gt_k 139 rfl rfl
theorem tb_140 : (.selects R_M y_M_lay y_M_lay : Cond) ∈ GT := gt_k 140 rfl rfl
theorem tb_141 : (.code y_M_lay b_M_lay 3 none : Cond) ∈ GT := gt_k 141 rfl rfl
theorem tb_142 : (.methodLink R_M 37 y_M_before : Cond) ∈ GT := gt_k 142 rfl rfl
theorem tb_144 : (.instanceMethod y_M_before : Cond) ∈ GT := gt_k 144 rfl rfl
theorem tb_145 : (.code y_M_before b_M_before 8 (some .int) : Cond) ∈ GT := gt_k 145 rfl rfl
theorem tb_146 : (.methodLink R_M 31 y_J_bitCount : Cond) ∈ GT := gt_k 146 rfl rfl
theorem tb_147 : (.static y_J_bitCount : Cond) ∈ GT := gt_k 147 rfl rfl
theorem tb_148 : (.code y_J_bitCount b_J_bitCount 2 (some .int) : Cond) ∈ GT := gt_k 148 rfl rfl
theorem tb_149 : (.constantLong R_J 314 6148914691236517205 : Cond) ∈ GT := gt_k 149 rfl rfl
theorem tb_150 : (.constantLong R_J 316 3689348814741910323 : Cond) ∈ GT := gt_k 150 rfl rfl
theorem tb_151 : (.constantLong R_J 318 1085102592571150095 : Cond) ∈ GT := gt_k 151 rfl rfl
theorem tb_152 : (.methodLink R_H 102 y_H_copy : Cond) ∈ GT := gt_k 152 rfl rfl
theorem tb_154 : (.instanceMethod y_H_copy : Cond) ∈ GT := gt_k 154 rfl rfl
theorem tb_155 : (.code y_H_copy b_H_copy 7 (some .int) : Cond) ∈ GT := gt_k 155 rfl rfl
theorem tb_156 : (.methodLink R_H 81 y_M_has : Cond) ∈ GT := gt_k 156 rfl rfl
theorem tb_157 : (.instanceMethod y_M_has : Cond) ∈ GT := gt_k 157 rfl rfl
theorem tb_158 : (.selects R_M y_M_has y_M_has : Cond) ∈ GT := gt_k 158 rfl rfl
theorem tb_159 : (.code y_M_has b_M_has 2 (some .boolean) : Cond) ∈ GT := gt_k 159 rfl rfl
theorem tb_160 : (.methodLink R_H 78 y_M_address : Cond) ∈ GT := gt_k 160 rfl rfl
theorem tb_161 : (.instanceMethod y_M_address : Cond) ∈ GT := gt_k 161 rfl rfl
theorem tb_162 : (.selects R_M y_M_address y_M_address : Cond) ∈ GT := gt_k 162 rfl rfl
theorem tb_163 : (.code y_M_address b_M_address 2 (some .int) : Cond) ∈ GT := gt_k 163 rfl rfl
theorem tb_164 : (.methodLink R_H 87 y_H_goes : Cond) ∈ GT := gt_k 164 rfl rfl
theorem tb_166 : (.instanceMethod y_H_goes : Cond) ∈ GT := gt_k 166 rfl rfl
theorem tb_167 : (.code y_H_goes b_H_goes 2 (some .int) : Cond) ∈ GT := gt_k 167 rfl rfl
theorem tb_168 : (.methodLink R_L 45 y_H_word : Cond) ∈ GT := gt_k 168 rfl rfl
theorem tb_169 : (.instanceMethod y_H_word : Cond) ∈ GT := gt_k 169 rfl rfl
theorem tb_170 : (.selects R_H y_H_word y_H_word : Cond) ∈ GT := gt_k 170 rfl rfl
theorem tb_171 : (.code y_H_word b_H_word 2 (some .int) : Cond) ∈ GT := gt_k 171 rfl rfl
theorem tb_172 : (.methodLink R_L 55 y_H_rootOf : Cond) ∈ GT := gt_k 172 rfl rfl
theorem tb_173 : (.instanceMethod y_H_rootOf : Cond) ∈ GT := gt_k 173 rfl rfl
theorem tb_174 : (.selects R_H y_H_rootOf y_H_rootOf : Cond) ∈ GT := gt_k 174 rfl rfl
theorem tb_175 : (.code y_H_rootOf b_H_rootOf 2 (some .int) : Cond) ∈ GT := gt_k 175 rfl rfl
theorem tb_176 : (.methodLink R_L 59 y_H_bit : Cond) ∈ GT := gt_k 176 rfl rfl
theorem tb_177 : (.instanceMethod y_H_bit : Cond) ∈ GT := gt_k 177 rfl rfl
theorem tb_178 : (.selects R_H y_H_bit y_H_bit : Cond) ∈ GT := gt_k 178 rfl rfl
theorem tb_179 : (.code y_H_bit b_H_bit 2 (some .int) : Cond) ∈ GT := gt_k 179 rfl rfl
theorem tb_180 : (.methodLink R_L 63 y_H_offset : Cond) ∈ GT := gt_k 180 rfl rfl
theorem tb_181 : (.instanceMethod y_H_offset : Cond) ∈ GT := gt_k 181 rfl rfl
theorem tb_182 : (.selects R_H y_H_offset y_H_offset : Cond) ∈ GT := gt_k 182 rfl rfl
theorem tb_183 : (.code y_H_offset b_H_offset 2 (some .int) : Cond) ∈ GT := gt_k 183 rfl rfl
theorem tb_184 : (.methodLink R_L 67 y_H_moved : Cond) ∈ GT := gt_k 184 rfl rfl
theorem tb_185 : (.instanceMethod y_H_moved : Cond) ∈ GT := gt_k 185 rfl rfl
theorem tb_186 : (.selects R_H y_H_moved y_H_moved : Cond) ∈ GT := gt_k 186 rfl rfl
theorem tb_187 : (.code y_H_moved b_H_moved 2 (some .int) : Cond) ∈ GT := gt_k 187 rfl rfl
theorem tb_188 : (.methodLink R_L 71 y_H_reads : Cond) ∈ GT := gt_k 188 rfl rfl
theorem tb_189 : (.instanceMethod y_H_reads : Cond) ∈ GT := gt_k 189 rfl rfl
theorem tb_190 : (.selects R_H y_H_reads y_H_reads : Cond) ∈ GT := gt_k 190 rfl rfl
theorem tb_191 : (.code y_H_reads b_H_reads 1 (some .int) : Cond) ∈ GT := gt_k 191 rfl rfl
theorem tb_192 : (.methodLink R_L 75 y_H_near : Cond) ∈ GT := gt_k 192 rfl rfl
theorem tb_193 : (.instanceMethod y_H_near : Cond) ∈ GT := gt_k 193 rfl rfl
theorem tb_194 : (.selects R_H y_H_near y_H_near : Cond) ∈ GT := gt_k 194 rfl rfl
theorem tb_195 : (.code y_H_near b_H_near 2 (some .int) : Cond) ∈ GT := gt_k 195 rfl rfl
theorem tb_196 : (.methodLink R_L 79 y_H_sound : Cond) ∈ GT := gt_k 196 rfl rfl
theorem tb_197 : (.instanceMethod y_H_sound : Cond) ∈ GT := gt_k 197 rfl rfl
theorem tb_198 : (.selects R_H y_H_sound y_H_sound : Cond) ∈ GT := gt_k 198 rfl rfl
theorem tb_199 : (.code y_H_sound b_H_sound 5 (some .boolean) : Cond) ∈ GT := gt_k 199 rfl rfl
theorem tb_200 : (.methodLink R_H 115 y_H_leadsWell : Cond) ∈ GT := gt_k 200 rfl rfl
theorem tb_202 : (.instanceMethod y_H_leadsWell : Cond) ∈ GT := gt_k 202 rfl rfl
theorem tb_203 : (.code y_H_leadsWell b_H_leadsWell 2 (some .boolean) : Cond) ∈ GT := gt_k 203 rfl rfl
theorem tb_204 : (.methodLink R_L 84 y_H_count : Cond) ∈ GT := gt_k 204 rfl rfl
theorem tb_205 : (.instanceMethod y_H_count : Cond) ∈ GT := gt_k 205 rfl rfl
theorem tb_206 : (.selects R_H y_H_count y_H_count : Cond) ∈ GT := gt_k 206 rfl rfl
theorem tb_207 : (.code y_H_count b_H_count 2 (some .int) : Cond) ∈ GT := gt_k 207 rfl rfl
theorem tb_208 : (.methodLink R_L 9 y_L_cell : Cond) ∈ GT := gt_k 208 rfl rfl
theorem tb_209 : (.static y_L_cell : Cond) ∈ GT := gt_k 209 rfl rfl
theorem tb_210 : (.code y_L_cell b_L_cell 2 (some .int) : Cond) ∈ GT := gt_k 210 rfl rfl
theorem tb_211 : (.classLink R_L 18 R_D : Cond) ∈ GT := gt_k 211 rfl rfl
theorem tb_212 : (.instantiable R_D 14 : Cond) ∈ GT := gt_k 212 rfl rfl
theorem tb_213 : (.methodLink R_L 20 y_D_init : Cond) ∈ GT := gt_k 213 rfl rfl
theorem tb_214 : (.instanceMethod y_D_init : Cond) ∈ GT := gt_k 214 rfl rfl
theorem tb_215 : (.code y_D_init b_D_init 3 none : Cond) ∈ GT := gt_k 215 rfl rfl
theorem tb_216 : (.methodLink R_D 1 y_O_init : Cond) ∈ GT := gt_k 216 rfl rfl
theorem tb_217 : (.fieldLink R_D 36 "OffsetHeapModel" "most" "I" : Cond) ∈ GT := gt_k 217 rfl rfl
theorem tb_218 : (.fieldLink R_D 39 "OffsetHeapModel" "block" "I" : Cond) ∈ GT := gt_k 218 rfl rfl
theorem tb_219 : (.fieldLink R_D 7 "OffsetHeapModel" "top" "I" : Cond) ∈ GT := gt_k 219 rfl rfl
theorem tb_220 : (.fieldLink R_D 56 "OffsetHeapModel" "objects" "I" : Cond) ∈ GT := gt_k 220 rfl rfl
theorem tb_221 : (.fieldLink R_D 76 "OffsetHeapModel" "collected" "I" : Cond) ∈ GT := gt_k 221 rfl rfl
theorem tb_222 : (.fieldLink R_D 73 "OffsetHeapModel" "lived" "I" : Cond) ∈ GT := gt_k 222 rfl rfl
theorem tb_223 : (.fieldLink R_D 13 "OffsetHeapModel" "words" "[I" : Cond) ∈ GT := gt_k 223 rfl rfl
theorem tb_224 : (.fieldLink R_D 17 "OffsetHeapModel" "fresh" "[I" : Cond) ∈ GT := gt_k 224 rfl rfl
theorem tb_225 : (.fieldLink R_D 20 "OffsetHeapModel" "begins" "[Z" : Cond) ∈ GT := gt_k 225 rfl rfl
theorem tb_226 : (.fieldLink R_D 24 "OffsetHeapModel" "freshBegins" "[Z" : Cond) ∈ GT := gt_k 226 rfl rfl
theorem tb_227 : (.fieldLink R_D 27 "OffsetHeapModel" "roots" "[I" : Cond) ∈ GT := gt_k 227 rfl rfl
theorem tb_228 : (.fieldLink R_D 30 "OffsetHeapModel" "went" "[I" : Cond) ∈ GT := gt_k 228 rfl rfl
theorem tb_229 : (.fieldLink R_D 33 "OffsetHeapModel" "far" "[I" : Cond) ∈ GT := gt_k 229 rfl rfl
theorem tb_259 : (.methodLink R_L 25 y_D_make : Cond) ∈ GT := gt_k 259 rfl rfl
theorem tb_260 : (.instanceMethod y_D_make : Cond) ∈ GT := gt_k 260 rfl rfl
theorem tb_261 : (.selects R_D y_D_make y_D_make : Cond) ∈ GT := gt_k 261 rfl rfl
theorem tb_262 : (.code y_D_make b_D_make 5 (some .int) : Cond) ∈ GT := gt_k 262 rfl rfl
theorem tb_263 : (.methodLink R_D 52 y_D_isIn : Cond) ∈ GT := gt_k 263 rfl rfl
theorem tb_264 : (.static y_D_isIn : Cond) ∈ GT := gt_k 264 rfl rfl
theorem tb_265 : (.code y_D_isIn b_D_isIn 3 (some .boolean) : Cond) ∈ GT := gt_k 265 rfl rfl
theorem tb_266 : (.methodLink R_L 54 y_D_isObject : Cond) ∈ GT := gt_k 266 rfl rfl
theorem tb_267 : (.instanceMethod y_D_isObject : Cond) ∈ GT := gt_k 267 rfl rfl
theorem tb_268 : (.selects R_D y_D_isObject y_D_isObject : Cond) ∈ GT := gt_k 268 rfl rfl
theorem tb_269 : (.code y_D_isObject b_D_isObject 2 (some .boolean) : Cond) ∈ GT := gt_k 269 rfl rfl
theorem tb_270 : (.methodLink R_L 30 y_D_refer : Cond) ∈ GT := gt_k 270 rfl rfl
theorem tb_271 : (.instanceMethod y_D_refer : Cond) ∈ GT := gt_k 271 rfl rfl
theorem tb_272 : (.selects R_D y_D_refer y_D_refer : Cond) ∈ GT := gt_k 272 rfl rfl
theorem tb_273 : (.code y_D_refer b_D_refer 4 (some .boolean) : Cond) ∈ GT := gt_k 273 rfl rfl
theorem tb_274 : (.methodLink R_D 59 y_D_isObject : Cond) ∈ GT := gt_k 274 rfl rfl
theorem tb_275 : (.methodLink R_D 63 y_D_isLead : Cond) ∈ GT := gt_k 275 rfl rfl
theorem tb_277 : (.instanceMethod y_D_isLead : Cond) ∈ GT := gt_k 277 rfl rfl
theorem tb_278 : (.code y_D_isLead b_D_isLead 2 (some .boolean) : Cond) ∈ GT := gt_k 278 rfl rfl
theorem tb_279 : (.methodLink R_D 45 y_D_references : Cond) ∈ GT := gt_k 279 rfl rfl
theorem tb_281 : (.instanceMethod y_D_references : Cond) ∈ GT := gt_k 281 rfl rfl
theorem tb_282 : (.code y_D_references b_D_references 2 (some .int) : Cond) ∈ GT := gt_k 282 rfl rfl
theorem tb_283 : (.methodLink R_L 34 y_D_set : Cond) ∈ GT := gt_k 283 rfl rfl
theorem tb_284 : (.instanceMethod y_D_set : Cond) ∈ GT := gt_k 284 rfl rfl
theorem tb_285 : (.selects R_D y_D_set y_D_set : Cond) ∈ GT := gt_k 285 rfl rfl
theorem tb_286 : (.code y_D_set b_D_set 4 (some .boolean) : Cond) ∈ GT := gt_k 286 rfl rfl
theorem tb_287 : (.methodLink R_D 49 y_D_plain : Cond) ∈ GT := gt_k 287 rfl rfl
theorem tb_289 : (.instanceMethod y_D_plain : Cond) ∈ GT := gt_k 289 rfl rfl
theorem tb_290 : (.code y_D_plain b_D_plain 2 (some .int) : Cond) ∈ GT := gt_k 290 rfl rfl
theorem tb_291 : (.methodLink R_L 39 y_D_root : Cond) ∈ GT := gt_k 291 rfl rfl
theorem tb_292 : (.instanceMethod y_D_root : Cond) ∈ GT := gt_k 292 rfl rfl
theorem tb_293 : (.selects R_D y_D_root y_D_root : Cond) ∈ GT := gt_k 293 rfl rfl
theorem tb_294 : (.code y_D_root b_D_root 3 (some .boolean) : Cond) ∈ GT := gt_k 294 rfl rfl
theorem tb_295 : (.methodLink R_L 44 y_D_collect : Cond) ∈ GT := gt_k 295 rfl rfl
theorem tb_296 : (.instanceMethod y_D_collect : Cond) ∈ GT := gt_k 296 rfl rfl
theorem tb_297 : (.selects R_D y_D_collect y_D_collect : Cond) ∈ GT := gt_k 297 rfl rfl
theorem tb_298 : (.code y_D_collect b_D_collect 5 (some .int) : Cond) ∈ GT := gt_k 298 rfl rfl
theorem tb_299 : (.methodLink R_D 70 y_D_measure : Cond) ∈ GT := gt_k 299 rfl rfl
theorem tb_301 : (.instanceMethod y_D_measure : Cond) ∈ GT := gt_k 301 rfl rfl
theorem tb_302 : (.code y_D_measure b_D_measure 5 none : Cond) ∈ GT := gt_k 302 rfl rfl
theorem tb_303 : (.constant R_D 66 1000000 : Cond) ∈ GT := gt_k 303 rfl rfl
theorem tb_304 : (.methodLink R_D 67 y_D_length : Cond) ∈ GT := gt_k 304 rfl rfl
theorem tb_306 : (.instanceMethod y_D_length : Cond) ∈ GT := gt_k 306 rfl rfl
theorem tb_307 : (.code y_D_length b_D_length 2 (some .int) : Cond) ∈ GT := gt_k 307 rfl rfl
theorem tb_308 : (.methodLink R_L 49 y_D_word : Cond) ∈ GT := gt_k 308 rfl rfl
theorem tb_309 : (.instanceMethod y_D_word : Cond) ∈ GT := gt_k 309 rfl rfl
theorem tb_310 : (.selects R_D y_D_word y_D_word : Cond) ∈ GT := gt_k 310 rfl rfl
theorem tb_311 : (.code y_D_word b_D_word 2 (some .int) : Cond) ∈ GT := gt_k 311 rfl rfl
theorem tb_312 : (.methodLink R_D 79 y_D_isWord : Cond) ∈ GT := gt_k 312 rfl rfl
theorem tb_314 : (.instanceMethod y_D_isWord : Cond) ∈ GT := gt_k 314 rfl rfl
theorem tb_315 : (.code y_D_isWord b_D_isWord 2 (some .boolean) : Cond) ∈ GT := gt_k 315 rfl rfl
theorem tb_316 : (.methodLink R_L 58 y_D_rootOf : Cond) ∈ GT := gt_k 316 rfl rfl
theorem tb_317 : (.instanceMethod y_D_rootOf : Cond) ∈ GT := gt_k 317 rfl rfl
theorem tb_318 : (.selects R_D y_D_rootOf y_D_rootOf : Cond) ∈ GT := gt_k 318 rfl rfl
theorem tb_319 : (.code y_D_rootOf b_D_rootOf 2 (some .int) : Cond) ∈ GT := gt_k 319 rfl rfl
theorem tb_320 : (.methodLink R_L 62 y_D_bit : Cond) ∈ GT := gt_k 320 rfl rfl
theorem tb_321 : (.instanceMethod y_D_bit : Cond) ∈ GT := gt_k 321 rfl rfl
theorem tb_322 : (.selects R_D y_D_bit y_D_bit : Cond) ∈ GT := gt_k 322 rfl rfl
theorem tb_323 : (.code y_D_bit b_D_bit 2 (some .int) : Cond) ∈ GT := gt_k 323 rfl rfl
theorem tb_324 : (.methodLink R_L 66 y_D_offset : Cond) ∈ GT := gt_k 324 rfl rfl
theorem tb_325 : (.instanceMethod y_D_offset : Cond) ∈ GT := gt_k 325 rfl rfl
theorem tb_326 : (.selects R_D y_D_offset y_D_offset : Cond) ∈ GT := gt_k 326 rfl rfl
theorem tb_327 : (.code y_D_offset b_D_offset 4 (some .int) : Cond) ∈ GT := gt_k 327 rfl rfl
theorem tb_328 : (.methodLink R_D 82 y_D_blocks : Cond) ∈ GT := gt_k 328 rfl rfl
theorem tb_330 : (.instanceMethod y_D_blocks : Cond) ∈ GT := gt_k 330 rfl rfl
theorem tb_331 : (.code y_D_blocks b_D_blocks 1 (some .int) : Cond) ∈ GT := gt_k 331 rfl rfl
theorem tb_332 : (.methodLink R_L 70 y_D_moved : Cond) ∈ GT := gt_k 332 rfl rfl
theorem tb_333 : (.instanceMethod y_D_moved : Cond) ∈ GT := gt_k 333 rfl rfl
theorem tb_334 : (.selects R_D y_D_moved y_D_moved : Cond) ∈ GT := gt_k 334 rfl rfl
theorem tb_335 : (.code y_D_moved b_D_moved 2 (some .int) : Cond) ∈ GT := gt_k 335 rfl rfl
theorem tb_336 : (.methodLink R_L 74 y_D_reads : Cond) ∈ GT := gt_k 336 rfl rfl
theorem tb_337 : (.instanceMethod y_D_reads : Cond) ∈ GT := gt_k 337 rfl rfl
theorem tb_338 : (.selects R_D y_D_reads y_D_reads : Cond) ∈ GT := gt_k 338 rfl rfl
theorem tb_339 : (.code y_D_reads b_D_reads 1 (some .int) : Cond) ∈ GT := gt_k 339 rfl rfl
theorem tb_340 : (.methodLink R_L 78 y_D_near : Cond) ∈ GT := gt_k 340 rfl rfl
theorem tb_341 : (.instanceMethod y_D_near : Cond) ∈ GT := gt_k 341 rfl rfl
theorem tb_342 : (.selects R_D y_D_near y_D_near : Cond) ∈ GT := gt_k 342 rfl rfl
theorem tb_343 : (.code y_D_near b_D_near 4 (some .int) : Cond) ∈ GT := gt_k 343 rfl rfl
theorem tb_344 : (.methodLink R_L 83 y_D_sound : Cond) ∈ GT := gt_k 344 rfl rfl
theorem tb_345 : (.instanceMethod y_D_sound : Cond) ∈ GT := gt_k 345 rfl rfl
theorem tb_346 : (.selects R_D y_D_sound y_D_sound : Cond) ∈ GT := gt_k 346 rfl rfl
theorem tb_347 : (.code y_D_sound b_D_sound 5 (some .boolean) : Cond) ∈ GT := gt_k 347 rfl rfl
theorem tb_348 : (.methodLink R_L 87 y_D_count : Cond) ∈ GT := gt_k 348 rfl rfl
theorem tb_349 : (.instanceMethod y_D_count : Cond) ∈ GT := gt_k 349 rfl rfl
theorem tb_350 : (.selects R_D y_D_count y_D_count : Cond) ∈ GT := gt_k 350 rfl rfl
theorem tb_351 : (.code y_D_count b_D_count 2 (some .int) : Cond) ∈ GT := gt_k 351 rfl rfl
theorem tp_H_size : (.selects R_H y_H_size y_H_size : Cond) ∈ GT := gt_p 0 rfl rfl
theorem tp_H_references : (.selects R_H y_H_references y_H_references : Cond) ∈ GT := gt_p 1 rfl rfl
theorem tp_H_plain : (.selects R_H y_H_plain y_H_plain : Cond) ∈ GT := gt_p 2 rfl rfl
theorem tp_H_reach : (.selects R_H y_H_reach y_H_reach : Cond) ∈ GT := gt_p 3 rfl rfl
theorem tp_H_meet : (.selects R_H y_H_meet y_H_meet : Cond) ∈ GT := gt_p 4 rfl rfl
theorem tp_M_before : (.selects R_M y_M_before y_M_before : Cond) ∈ GT := gt_p 5 rfl rfl
theorem tp_H_copy : (.selects R_H y_H_copy y_H_copy : Cond) ∈ GT := gt_p 6 rfl rfl
theorem tp_H_goes : (.selects R_H y_H_goes y_H_goes : Cond) ∈ GT := gt_p 7 rfl rfl
theorem tp_H_leadsWell : (.selects R_H y_H_leadsWell y_H_leadsWell : Cond) ∈ GT := gt_p 8 rfl rfl
theorem tp_D_isLead : (.selects R_D y_D_isLead y_D_isLead : Cond) ∈ GT := gt_p 9 rfl rfl
theorem tp_D_references : (.selects R_D y_D_references y_D_references : Cond) ∈ GT := gt_p 10 rfl rfl
theorem tp_D_plain : (.selects R_D y_D_plain y_D_plain : Cond) ∈ GT := gt_p 11 rfl rfl
theorem tp_D_measure : (.selects R_D y_D_measure y_D_measure : Cond) ∈ GT := gt_p 12 rfl rfl
theorem tp_D_length : (.selects R_D y_D_length y_D_length : Cond) ∈ GT := gt_p 13 rfl rfl
theorem tp_D_isWord : (.selects R_D y_D_isWord y_D_isWord : Cond) ∈ GT := gt_p 14 rfl rfl
theorem tp_D_blocks : (.selects R_D y_D_blocks y_D_blocks : Cond) ∈ GT := gt_p 15 rfl rfl
abbrev nW : Cond := .fieldLinkNest R_H 112 "OffsetHeap$Map" "offsets" "[I" R_H
theorem tb_nest : nW ∈ lw_tbl := List.mem_append_right _ (List.mem_of_getElem? (i := 28) rfl)
end
section
theorem d_H_init_0 : decode b_H_init 0 = .ok (.aload_n 0, 1) := by decide +kernel
theorem d_H_init_1 : decode b_H_init 1 = .ok (.invokespecial 1, 3) := by decide +kernel
theorem d_H_init_4 : decode b_H_init 4 = .ok (.aload_n 0, 1) := by decide +kernel
theorem d_H_init_5 : decode b_H_init 5 = .ok (.bipush 8, 2) := by decide +kernel
theorem d_H_init_7 : decode b_H_init 7 = .ok (.newarray .int, 2) := by decide +kernel
theorem d_H_init_9 : decode b_H_init 9 = .ok (.putfield 7, 3) := by decide +kernel
theorem d_H_init_12 : decode b_H_init 12 = .ok (.aload_n 0, 1) := by decide +kernel
theorem d_H_init_13 : decode b_H_init 13 = .ok (.iconst 1, 1) := by decide +kernel
theorem d_H_init_14 : decode b_H_init 14 = .ok (.putfield 13, 3) := by decide +kernel
theorem d_H_init_17 : decode b_H_init 17 = .ok (.aload_n 0, 1) := by decide +kernel
theorem d_H_init_18 : decode b_H_init 18 = .ok (.bipush 16, 2) := by decide +kernel
theorem d_H_init_20 : decode b_H_init 20 = .ok (.sipush 4000, 3) := by decide +kernel
theorem d_H_init_23 : decode b_H_init 23 = .ok (.iload_n 1, 1) := by decide +kernel
theorem d_H_init_24 : decode b_H_init 24 = .ok (.invokestatic 17, 3) := by decide +kernel
theorem d_H_init_27 : decode b_H_init 27 = .ok (.invokestatic 23, 3) := by decide +kernel
theorem d_H_init_30 : decode b_H_init 30 = .ok (.putfield 26, 3) := by decide +kernel
theorem d_H_init_33 : decode b_H_init 33 = .ok (.aload_n 0, 1) := by decide +kernel
theorem d_H_init_34 : decode b_H_init 34 = .ok (.iload_n 2, 1) := by decide +kernel
theorem d_H_init_35 : decode b_H_init 35 = .ok (.bipush 8, 2) := by decide +kernel
theorem d_H_init_37 : decode b_H_init 37 = .ok (.if_icmp .eq 15, 3) := by decide +kernel
theorem d_H_init_40 : decode b_H_init 40 = .ok (.iload_n 2, 1) := by decide +kernel
theorem d_H_init_41 : decode b_H_init 41 = .ok (.bipush 16, 2) := by decide +kernel
theorem d_H_init_43 : decode b_H_init 43 = .ok (.if_icmp .eq 9, 3) := by decide +kernel
theorem d_H_init_46 : decode b_H_init 46 = .ok (.iload_n 2, 1) := by decide +kernel
theorem d_H_init_47 : decode b_H_init 47 = .ok (.bipush 64, 2) := by decide +kernel
theorem d_H_init_49 : decode b_H_init 49 = .ok (.if_icmp .ne 7, 3) := by decide +kernel
theorem d_H_init_52 : decode b_H_init 52 = .ok (.iload_n 2, 1) := by decide +kernel
theorem d_H_init_53 : decode b_H_init 53 = .ok (.goto 5, 3) := by decide +kernel
theorem d_H_init_56 : decode b_H_init 56 = .ok (.bipush 32, 2) := by decide +kernel
theorem d_H_init_58 : decode b_H_init 58 = .ok (.putfield 29, 3) := by decide +kernel
theorem d_H_init_61 : decode b_H_init 61 = .ok (.aload_n 0, 1) := by decide +kernel
theorem d_H_init_62 : decode b_H_init 62 = .ok (.aload_n 0, 1) := by decide +kernel
theorem d_H_init_63 : decode b_H_init 63 = .ok (.getfield 26, 3) := by decide +kernel
theorem d_H_init_66 : decode b_H_init 66 = .ok (.iconst 1, 1) := by decide +kernel
theorem d_H_init_67 : decode b_H_init 67 = .ok (.iadd, 1) := by decide +kernel
theorem d_H_init_68 : decode b_H_init 68 = .ok (.newarray .int, 2) := by decide +kernel
theorem d_H_init_70 : decode b_H_init 70 = .ok (.putfield 32, 3) := by decide +kernel
theorem d_H_init_73 : decode b_H_init 73 = .ok (.aload_n 0, 1) := by decide +kernel
theorem d_H_init_74 : decode b_H_init 74 = .ok (.aload_n 0, 1) := by decide +kernel
theorem d_H_init_75 : decode b_H_init 75 = .ok (.getfield 26, 3) := by decide +kernel
theorem d_H_init_78 : decode b_H_init 78 = .ok (.iconst 1, 1) := by decide +kernel
theorem d_H_init_79 : decode b_H_init 79 = .ok (.iadd, 1) := by decide +kernel
theorem d_H_init_80 : decode b_H_init 80 = .ok (.newarray .int, 2) := by decide +kernel
theorem d_H_init_82 : decode b_H_init 82 = .ok (.putfield 35, 3) := by decide +kernel
theorem d_H_init_85 : decode b_H_init 85 = .ok (.aload_n 0, 1) := by decide +kernel
theorem d_H_init_86 : decode b_H_init 86 = .ok (.aload_n 0, 1) := by decide +kernel
theorem d_H_init_87 : decode b_H_init 87 = .ok (.getfield 26, 3) := by decide +kernel
theorem d_H_init_90 : decode b_H_init 90 = .ok (.iconst 1, 1) := by decide +kernel
theorem d_H_init_91 : decode b_H_init 91 = .ok (.iadd, 1) := by decide +kernel
theorem d_H_init_92 : decode b_H_init 92 = .ok (.newarray .int, 2) := by decide +kernel
theorem d_H_init_94 : decode b_H_init 94 = .ok (.putfield 38, 3) := by decide +kernel
theorem d_H_init_97 : decode b_H_init 97 = .ok (.aload_n 0, 1) := by decide +kernel
theorem d_H_init_98 : decode b_H_init 98 = .ok (.aload_n 0, 1) := by decide +kernel
theorem d_H_init_99 : decode b_H_init 99 = .ok (.getfield 26, 3) := by decide +kernel
theorem d_H_init_102 : decode b_H_init 102 = .ok (.iconst 1, 1) := by decide +kernel
theorem d_H_init_103 : decode b_H_init 103 = .ok (.iadd, 1) := by decide +kernel
theorem d_H_init_104 : decode b_H_init 104 = .ok (.newarray .boolean, 2) := by decide +kernel
theorem d_H_init_106 : decode b_H_init 106 = .ok (.putfield 41, 3) := by decide +kernel
theorem d_H_init_109 : decode b_H_init 109 = .ok (.aload_n 0, 1) := by decide +kernel
theorem d_H_init_110 : decode b_H_init 110 = .ok (.new 45, 3) := by decide +kernel
theorem d_H_init_113 : decode b_H_init 113 = .ok (.dup, 1) := by decide +kernel
theorem d_H_init_114 : decode b_H_init 114 = .ok (.aload_n 0, 1) := by decide +kernel
theorem d_H_init_115 : decode b_H_init 115 = .ok (.getfield 26, 3) := by decide +kernel
theorem d_H_init_118 : decode b_H_init 118 = .ok (.aload_n 0, 1) := by decide +kernel
theorem d_H_init_119 : decode b_H_init 119 = .ok (.getfield 29, 3) := by decide +kernel
theorem d_H_init_122 : decode b_H_init 122 = .ok (.invokespecial 47, 3) := by decide +kernel
theorem d_H_init_125 : decode b_H_init 125 = .ok (.putfield 50, 3) := by decide +kernel
theorem d_H_init_128 : decode b_H_init 128 = .ok (.return_, 1) := by decide +kernel
theorem d_M_init_0 : decode b_M_init 0 = .ok (.aload_n 0, 1) := by decide +kernel
theorem d_M_init_1 : decode b_M_init 1 = .ok (.invokespecial 3, 3) := by decide +kernel
theorem d_M_init_4 : decode b_M_init 4 = .ok (.aload_n 0, 1) := by decide +kernel
theorem d_M_init_5 : decode b_M_init 5 = .ok (.iload_n 2, 1) := by decide +kernel
theorem d_M_init_6 : decode b_M_init 6 = .ok (.putfield 9, 3) := by decide +kernel
theorem d_M_init_9 : decode b_M_init 9 = .ok (.aload_n 0, 1) := by decide +kernel
theorem d_M_init_10 : decode b_M_init 10 = .ok (.iload_n 1, 1) := by decide +kernel
theorem d_M_init_11 : decode b_M_init 11 = .ok (.bipush 64, 2) := by decide +kernel
theorem d_M_init_13 : decode b_M_init 13 = .ok (.idiv, 1) := by decide +kernel
theorem d_M_init_14 : decode b_M_init 14 = .ok (.iconst 1, 1) := by decide +kernel
theorem d_M_init_15 : decode b_M_init 15 = .ok (.iadd, 1) := by decide +kernel
theorem d_M_init_16 : decode b_M_init 16 = .ok (.newarray .long, 2) := by decide +kernel
theorem d_M_init_18 : decode b_M_init 18 = .ok (.putfield 15, 3) := by decide +kernel
theorem d_M_init_21 : decode b_M_init 21 = .ok (.aload_n 0, 1) := by decide +kernel
theorem d_M_init_22 : decode b_M_init 22 = .ok (.iload_n 1, 1) := by decide +kernel
theorem d_M_init_23 : decode b_M_init 23 = .ok (.iload_n 2, 1) := by decide +kernel
theorem d_M_init_24 : decode b_M_init 24 = .ok (.idiv, 1) := by decide +kernel
theorem d_M_init_25 : decode b_M_init 25 = .ok (.iconst 1, 1) := by decide +kernel
theorem d_M_init_26 : decode b_M_init 26 = .ok (.iadd, 1) := by decide +kernel
theorem d_M_init_27 : decode b_M_init 27 = .ok (.newarray .int, 2) := by decide +kernel
theorem d_M_init_29 : decode b_M_init 29 = .ok (.putfield 19, 3) := by decide +kernel
theorem d_M_init_32 : decode b_M_init 32 = .ok (.return_, 1) := by decide +kernel
theorem d_H_isObject_0 : decode b_H_isObject 0 = .ok (.iconst 1, 1) := by decide +kernel
theorem d_H_isObject_1 : decode b_H_isObject 1 = .ok (.istore_n 2, 1) := by decide +kernel
theorem d_H_isObject_2 : decode b_H_isObject 2 = .ok (.iload_n 2, 1) := by decide +kernel
theorem d_H_isObject_3 : decode b_H_isObject 3 = .ok (.aload_n 0, 1) := by decide +kernel
theorem d_H_isObject_4 : decode b_H_isObject 4 = .ok (.getfield 13, 3) := by decide +kernel
theorem d_H_isObject_7 : decode b_H_isObject 7 = .ok (.if_icmp .ge 19, 3) := by decide +kernel
theorem d_H_isObject_10 : decode b_H_isObject 10 = .ok (.iload_n 2, 1) := by decide +kernel
theorem d_H_isObject_11 : decode b_H_isObject 11 = .ok (.iload_n 1, 1) := by decide +kernel
theorem d_H_isObject_12 : decode b_H_isObject 12 = .ok (.if_icmp .ge 14, 3) := by decide +kernel
theorem d_H_isObject_15 : decode b_H_isObject 15 = .ok (.iload_n 2, 1) := by decide +kernel
theorem d_H_isObject_16 : decode b_H_isObject 16 = .ok (.aload_n 0, 1) := by decide +kernel
theorem d_H_isObject_17 : decode b_H_isObject 17 = .ok (.iload_n 2, 1) := by decide +kernel
theorem d_H_isObject_18 : decode b_H_isObject 18 = .ok (.invokevirtual 61, 3) := by decide +kernel
theorem d_H_isObject_21 : decode b_H_isObject 21 = .ok (.iadd, 1) := by decide +kernel
theorem d_H_isObject_22 : decode b_H_isObject 22 = .ok (.istore_n 2, 1) := by decide +kernel
theorem d_H_isObject_23 : decode b_H_isObject 23 = .ok (.goto (-21), 3) := by decide +kernel
theorem d_H_isObject_26 : decode b_H_isObject 26 = .ok (.iload_n 2, 1) := by decide +kernel
theorem d_H_isObject_27 : decode b_H_isObject 27 = .ok (.aload_n 0, 1) := by decide +kernel
theorem d_H_isObject_28 : decode b_H_isObject 28 = .ok (.getfield 13, 3) := by decide +kernel
theorem d_H_isObject_31 : decode b_H_isObject 31 = .ok (.if_icmp .ge 12, 3) := by decide +kernel
theorem d_H_isObject_34 : decode b_H_isObject 34 = .ok (.iload_n 2, 1) := by decide +kernel
theorem d_H_isObject_35 : decode b_H_isObject 35 = .ok (.iload_n 1, 1) := by decide +kernel
theorem d_H_isObject_36 : decode b_H_isObject 36 = .ok (.if_icmp .ne 7, 3) := by decide +kernel
theorem d_H_isObject_39 : decode b_H_isObject 39 = .ok (.iconst 1, 1) := by decide +kernel
theorem d_H_isObject_40 : decode b_H_isObject 40 = .ok (.goto 4, 3) := by decide +kernel
theorem d_H_isObject_43 : decode b_H_isObject 43 = .ok (.iconst 0, 1) := by decide +kernel
theorem d_H_isObject_44 : decode b_H_isObject 44 = .ok (.ireturn, 1) := by decide +kernel
theorem d_H_size_0 : decode b_H_size 0 = .ok (.iconst 1, 1) := by decide +kernel
theorem d_H_size_1 : decode b_H_size 1 = .ok (.aload_n 0, 1) := by decide +kernel
theorem d_H_size_2 : decode b_H_size 2 = .ok (.iload_n 1, 1) := by decide +kernel
theorem d_H_size_3 : decode b_H_size 3 = .ok (.invokevirtual 54, 3) := by decide +kernel
theorem d_H_size_6 : decode b_H_size 6 = .ok (.iadd, 1) := by decide +kernel
theorem d_H_size_7 : decode b_H_size 7 = .ok (.aload_n 0, 1) := by decide +kernel
theorem d_H_size_8 : decode b_H_size 8 = .ok (.iload_n 1, 1) := by decide +kernel
theorem d_H_size_9 : decode b_H_size 9 = .ok (.invokevirtual 58, 3) := by decide +kernel
theorem d_H_size_12 : decode b_H_size 12 = .ok (.iadd, 1) := by decide +kernel
theorem d_H_size_13 : decode b_H_size 13 = .ok (.ireturn, 1) := by decide +kernel
theorem d_H_references_0 : decode b_H_references 0 = .ok (.aload_n 0, 1) := by decide +kernel
theorem d_H_references_1 : decode b_H_references 1 = .ok (.getfield 32, 3) := by decide +kernel
theorem d_H_references_4 : decode b_H_references 4 = .ok (.iload_n 1, 1) := by decide +kernel
theorem d_H_references_5 : decode b_H_references 5 = .ok (.iaload, 1) := by decide +kernel
theorem d_H_references_6 : decode b_H_references 6 = .ok (.iconst 4, 1) := by decide +kernel
theorem d_H_references_7 : decode b_H_references 7 = .ok (.ishr, 1) := by decide +kernel
theorem d_H_references_8 : decode b_H_references 8 = .ok (.bipush 15, 2) := by decide +kernel
theorem d_H_references_10 : decode b_H_references 10 = .ok (.iand, 1) := by decide +kernel
theorem d_H_references_11 : decode b_H_references 11 = .ok (.ireturn, 1) := by decide +kernel
theorem d_H_plain_0 : decode b_H_plain 0 = .ok (.aload_n 0, 1) := by decide +kernel
theorem d_H_plain_1 : decode b_H_plain 1 = .ok (.getfield 32, 3) := by decide +kernel
theorem d_H_plain_4 : decode b_H_plain 4 = .ok (.iload_n 1, 1) := by decide +kernel
theorem d_H_plain_5 : decode b_H_plain 5 = .ok (.iaload, 1) := by decide +kernel
theorem d_H_plain_6 : decode b_H_plain 6 = .ok (.bipush 8, 2) := by decide +kernel
theorem d_H_plain_8 : decode b_H_plain 8 = .ok (.ishr, 1) := by decide +kernel
theorem d_H_plain_9 : decode b_H_plain 9 = .ok (.ireturn, 1) := by decide +kernel
theorem d_H_make_0 : decode b_H_make 0 = .ok (.iload_n 1, 1) := by decide +kernel
theorem d_H_make_1 : decode b_H_make 1 = .ok (.iconst 0, 1) := by decide +kernel
theorem d_H_make_2 : decode b_H_make 2 = .ok (.bipush 15, 2) := by decide +kernel
theorem d_H_make_4 : decode b_H_make 4 = .ok (.invokestatic 64, 3) := by decide +kernel
theorem d_H_make_7 : decode b_H_make 7 = .ok (.ifCond .eq 13, 3) := by decide +kernel
theorem d_H_make_10 : decode b_H_make 10 = .ok (.iload_n 2, 1) := by decide +kernel
theorem d_H_make_11 : decode b_H_make 11 = .ok (.iconst 0, 1) := by decide +kernel
theorem d_H_make_12 : decode b_H_make 12 = .ok (.bipush 100, 2) := by decide +kernel
theorem d_H_make_14 : decode b_H_make 14 = .ok (.invokestatic 64, 3) := by decide +kernel
theorem d_H_make_17 : decode b_H_make 17 = .ok (.ifCond .ne 5, 3) := by decide +kernel
theorem d_H_make_20 : decode b_H_make 20 = .ok (.iconst (-1), 1) := by decide +kernel
theorem d_H_make_21 : decode b_H_make 21 = .ok (.ireturn, 1) := by decide +kernel
theorem d_H_make_22 : decode b_H_make 22 = .ok (.iconst 1, 1) := by decide +kernel
theorem d_H_make_23 : decode b_H_make 23 = .ok (.iload_n 1, 1) := by decide +kernel
theorem d_H_make_24 : decode b_H_make 24 = .ok (.iadd, 1) := by decide +kernel
theorem d_H_make_25 : decode b_H_make 25 = .ok (.iload_n 2, 1) := by decide +kernel
theorem d_H_make_26 : decode b_H_make 26 = .ok (.iadd, 1) := by decide +kernel
theorem d_H_make_27 : decode b_H_make 27 = .ok (.istore_n 3, 1) := by decide +kernel
theorem d_H_make_28 : decode b_H_make 28 = .ok (.aload_n 0, 1) := by decide +kernel
theorem d_H_make_29 : decode b_H_make 29 = .ok (.getfield 13, 3) := by decide +kernel
theorem d_H_make_32 : decode b_H_make 32 = .ok (.iload_n 3, 1) := by decide +kernel
theorem d_H_make_33 : decode b_H_make 33 = .ok (.iadd, 1) := by decide +kernel
theorem d_H_make_34 : decode b_H_make 34 = .ok (.aload_n 0, 1) := by decide +kernel
theorem d_H_make_35 : decode b_H_make 35 = .ok (.getfield 26, 3) := by decide +kernel
theorem d_H_make_38 : decode b_H_make 38 = .ok (.iconst 1, 1) := by decide +kernel
theorem d_H_make_39 : decode b_H_make 39 = .ok (.iadd, 1) := by decide +kernel
theorem d_H_make_40 : decode b_H_make 40 = .ok (.if_icmp .le 5, 3) := by decide +kernel
theorem d_H_make_43 : decode b_H_make 43 = .ok (.iconst 0, 1) := by decide +kernel
theorem d_H_make_44 : decode b_H_make 44 = .ok (.ireturn, 1) := by decide +kernel
theorem d_H_make_45 : decode b_H_make 45 = .ok (.aload_n 0, 1) := by decide +kernel
theorem d_H_make_46 : decode b_H_make 46 = .ok (.getfield 13, 3) := by decide +kernel
theorem d_H_make_49 : decode b_H_make 49 = .ok (.istore 4, 2) := by decide +kernel
theorem d_H_make_51 : decode b_H_make 51 = .ok (.aload_n 0, 1) := by decide +kernel
theorem d_H_make_52 : decode b_H_make 52 = .ok (.getfield 32, 3) := by decide +kernel
theorem d_H_make_55 : decode b_H_make 55 = .ok (.iload 4, 2) := by decide +kernel
theorem d_H_make_57 : decode b_H_make 57 = .ok (.iload_n 2, 1) := by decide +kernel
theorem d_H_make_58 : decode b_H_make 58 = .ok (.bipush 8, 2) := by decide +kernel
theorem d_H_make_60 : decode b_H_make 60 = .ok (.ishl, 1) := by decide +kernel
theorem d_H_make_61 : decode b_H_make 61 = .ok (.iload_n 1, 1) := by decide +kernel
theorem d_H_make_62 : decode b_H_make 62 = .ok (.iconst 4, 1) := by decide +kernel
theorem d_H_make_63 : decode b_H_make 63 = .ok (.ishl, 1) := by decide +kernel
theorem d_H_make_64 : decode b_H_make 64 = .ok (.ior, 1) := by decide +kernel
theorem d_H_make_65 : decode b_H_make 65 = .ok (.iastore, 1) := by decide +kernel
theorem d_H_make_66 : decode b_H_make 66 = .ok (.aload_n 0, 1) := by decide +kernel
theorem d_H_make_67 : decode b_H_make 67 = .ok (.dup, 1) := by decide +kernel
theorem d_H_make_68 : decode b_H_make 68 = .ok (.getfield 13, 3) := by decide +kernel
theorem d_H_make_71 : decode b_H_make 71 = .ok (.iload_n 3, 1) := by decide +kernel
theorem d_H_make_72 : decode b_H_make 72 = .ok (.iadd, 1) := by decide +kernel
theorem d_H_make_73 : decode b_H_make 73 = .ok (.putfield 13, 3) := by decide +kernel
theorem d_H_make_76 : decode b_H_make 76 = .ok (.aload_n 0, 1) := by decide +kernel
theorem d_H_make_77 : decode b_H_make 77 = .ok (.dup, 1) := by decide +kernel
theorem d_H_make_78 : decode b_H_make 78 = .ok (.getfield 68, 3) := by decide +kernel
theorem d_H_make_81 : decode b_H_make 81 = .ok (.iconst 1, 1) := by decide +kernel
theorem d_H_make_82 : decode b_H_make 82 = .ok (.iadd, 1) := by decide +kernel
theorem d_H_make_83 : decode b_H_make 83 = .ok (.putfield 68, 3) := by decide +kernel
theorem d_H_make_86 : decode b_H_make 86 = .ok (.iload 4, 2) := by decide +kernel
theorem d_H_make_88 : decode b_H_make 88 = .ok (.ireturn, 1) := by decide +kernel
theorem d_H_within_0 : decode b_H_within 0 = .ok (.iload_n 0, 1) := by decide +kernel
theorem d_H_within_1 : decode b_H_within 1 = .ok (.iload_n 1, 1) := by decide +kernel
theorem d_H_within_2 : decode b_H_within 2 = .ok (.if_icmp .lt 12, 3) := by decide +kernel
theorem d_H_within_5 : decode b_H_within 5 = .ok (.iload_n 0, 1) := by decide +kernel
theorem d_H_within_6 : decode b_H_within 6 = .ok (.iload_n 2, 1) := by decide +kernel
theorem d_H_within_7 : decode b_H_within 7 = .ok (.if_icmp .gt 7, 3) := by decide +kernel
theorem d_H_within_10 : decode b_H_within 10 = .ok (.iconst 1, 1) := by decide +kernel
theorem d_H_within_11 : decode b_H_within 11 = .ok (.goto 4, 3) := by decide +kernel
theorem d_H_within_14 : decode b_H_within 14 = .ok (.iconst 0, 1) := by decide +kernel
theorem d_H_within_15 : decode b_H_within 15 = .ok (.ireturn, 1) := by decide +kernel
theorem d_H_refer_0 : decode b_H_refer 0 = .ok (.aload_n 0, 1) := by decide +kernel
theorem d_H_refer_1 : decode b_H_refer 1 = .ok (.iload_n 1, 1) := by decide +kernel
theorem d_H_refer_2 : decode b_H_refer 2 = .ok (.invokevirtual 71, 3) := by decide +kernel
theorem d_H_refer_5 : decode b_H_refer 5 = .ok (.ifCond .eq 30, 3) := by decide +kernel
theorem d_H_refer_8 : decode b_H_refer 8 = .ok (.iload_n 2, 1) := by decide +kernel
theorem d_H_refer_9 : decode b_H_refer 9 = .ok (.iconst 0, 1) := by decide +kernel
theorem d_H_refer_10 : decode b_H_refer 10 = .ok (.aload_n 0, 1) := by decide +kernel
theorem d_H_refer_11 : decode b_H_refer 11 = .ok (.iload_n 1, 1) := by decide +kernel
theorem d_H_refer_12 : decode b_H_refer 12 = .ok (.invokevirtual 54, 3) := by decide +kernel
theorem d_H_refer_15 : decode b_H_refer 15 = .ok (.iconst 1, 1) := by decide +kernel
theorem d_H_refer_16 : decode b_H_refer 16 = .ok (.isub, 1) := by decide +kernel
theorem d_H_refer_17 : decode b_H_refer 17 = .ok (.invokestatic 64, 3) := by decide +kernel
theorem d_H_refer_20 : decode b_H_refer 20 = .ok (.ifCond .eq 15, 3) := by decide +kernel
theorem d_H_refer_23 : decode b_H_refer 23 = .ok (.iload_n 3, 1) := by decide +kernel
theorem d_H_refer_24 : decode b_H_refer 24 = .ok (.ifCond .eq 13, 3) := by decide +kernel
theorem d_H_refer_27 : decode b_H_refer 27 = .ok (.aload_n 0, 1) := by decide +kernel
theorem d_H_refer_28 : decode b_H_refer 28 = .ok (.iload_n 3, 1) := by decide +kernel
theorem d_H_refer_29 : decode b_H_refer 29 = .ok (.invokevirtual 71, 3) := by decide +kernel
theorem d_H_refer_32 : decode b_H_refer 32 = .ok (.ifCond .ne 5, 3) := by decide +kernel
theorem d_H_refer_35 : decode b_H_refer 35 = .ok (.iconst 0, 1) := by decide +kernel
theorem d_H_refer_36 : decode b_H_refer 36 = .ok (.ireturn, 1) := by decide +kernel
theorem d_H_refer_37 : decode b_H_refer 37 = .ok (.aload_n 0, 1) := by decide +kernel
theorem d_H_refer_38 : decode b_H_refer 38 = .ok (.getfield 32, 3) := by decide +kernel
theorem d_H_refer_41 : decode b_H_refer 41 = .ok (.iload_n 1, 1) := by decide +kernel
theorem d_H_refer_42 : decode b_H_refer 42 = .ok (.iconst 1, 1) := by decide +kernel
theorem d_H_refer_43 : decode b_H_refer 43 = .ok (.iadd, 1) := by decide +kernel
theorem d_H_refer_44 : decode b_H_refer 44 = .ok (.iload_n 2, 1) := by decide +kernel
theorem d_H_refer_45 : decode b_H_refer 45 = .ok (.iadd, 1) := by decide +kernel
theorem d_H_refer_46 : decode b_H_refer 46 = .ok (.iload_n 3, 1) := by decide +kernel
theorem d_H_refer_47 : decode b_H_refer 47 = .ok (.iastore, 1) := by decide +kernel
theorem d_H_refer_48 : decode b_H_refer 48 = .ok (.iconst 1, 1) := by decide +kernel
theorem d_H_refer_49 : decode b_H_refer 49 = .ok (.ireturn, 1) := by decide +kernel
theorem d_H_set_0 : decode b_H_set 0 = .ok (.aload_n 0, 1) := by decide +kernel
theorem d_H_set_1 : decode b_H_set 1 = .ok (.iload_n 1, 1) := by decide +kernel
theorem d_H_set_2 : decode b_H_set 2 = .ok (.invokevirtual 71, 3) := by decide +kernel
theorem d_H_set_5 : decode b_H_set 5 = .ok (.ifCond .eq 18, 3) := by decide +kernel
theorem d_H_set_8 : decode b_H_set 8 = .ok (.iload_n 2, 1) := by decide +kernel
theorem d_H_set_9 : decode b_H_set 9 = .ok (.iconst 0, 1) := by decide +kernel
theorem d_H_set_10 : decode b_H_set 10 = .ok (.aload_n 0, 1) := by decide +kernel
theorem d_H_set_11 : decode b_H_set 11 = .ok (.iload_n 1, 1) := by decide +kernel
theorem d_H_set_12 : decode b_H_set 12 = .ok (.invokevirtual 58, 3) := by decide +kernel
theorem d_H_set_15 : decode b_H_set 15 = .ok (.iconst 1, 1) := by decide +kernel
theorem d_H_set_16 : decode b_H_set 16 = .ok (.isub, 1) := by decide +kernel
theorem d_H_set_17 : decode b_H_set 17 = .ok (.invokestatic 64, 3) := by decide +kernel
theorem d_H_set_20 : decode b_H_set 20 = .ok (.ifCond .ne 5, 3) := by decide +kernel
theorem d_H_set_23 : decode b_H_set 23 = .ok (.iconst 0, 1) := by decide +kernel
theorem d_H_set_24 : decode b_H_set 24 = .ok (.ireturn, 1) := by decide +kernel
theorem d_H_set_25 : decode b_H_set 25 = .ok (.aload_n 0, 1) := by decide +kernel
theorem d_H_set_26 : decode b_H_set 26 = .ok (.getfield 32, 3) := by decide +kernel
theorem d_H_set_29 : decode b_H_set 29 = .ok (.iload_n 1, 1) := by decide +kernel
theorem d_H_set_30 : decode b_H_set 30 = .ok (.iconst 1, 1) := by decide +kernel
theorem d_H_set_31 : decode b_H_set 31 = .ok (.iadd, 1) := by decide +kernel
theorem d_H_set_32 : decode b_H_set 32 = .ok (.aload_n 0, 1) := by decide +kernel
theorem d_H_set_33 : decode b_H_set 33 = .ok (.iload_n 1, 1) := by decide +kernel
theorem d_H_set_34 : decode b_H_set 34 = .ok (.invokevirtual 54, 3) := by decide +kernel
theorem d_H_set_37 : decode b_H_set 37 = .ok (.iadd, 1) := by decide +kernel
theorem d_H_set_38 : decode b_H_set 38 = .ok (.iload_n 2, 1) := by decide +kernel
theorem d_H_set_39 : decode b_H_set 39 = .ok (.iadd, 1) := by decide +kernel
theorem d_H_set_40 : decode b_H_set 40 = .ok (.iload_n 3, 1) := by decide +kernel
theorem d_H_set_41 : decode b_H_set 41 = .ok (.iastore, 1) := by decide +kernel
theorem d_H_set_42 : decode b_H_set 42 = .ok (.iconst 1, 1) := by decide +kernel
theorem d_H_set_43 : decode b_H_set 43 = .ok (.ireturn, 1) := by decide +kernel
theorem d_H_root_0 : decode b_H_root 0 = .ok (.iload_n 1, 1) := by decide +kernel
theorem d_H_root_1 : decode b_H_root 1 = .ok (.iconst 0, 1) := by decide +kernel
theorem d_H_root_2 : decode b_H_root 2 = .ok (.bipush 7, 2) := by decide +kernel
theorem d_H_root_4 : decode b_H_root 4 = .ok (.invokestatic 64, 3) := by decide +kernel
theorem d_H_root_7 : decode b_H_root 7 = .ok (.ifCond .eq 15, 3) := by decide +kernel
theorem d_H_root_10 : decode b_H_root 10 = .ok (.iload_n 2, 1) := by decide +kernel
theorem d_H_root_11 : decode b_H_root 11 = .ok (.ifCond .eq 13, 3) := by decide +kernel
theorem d_H_root_14 : decode b_H_root 14 = .ok (.aload_n 0, 1) := by decide +kernel
theorem d_H_root_15 : decode b_H_root 15 = .ok (.iload_n 2, 1) := by decide +kernel
theorem d_H_root_16 : decode b_H_root 16 = .ok (.invokevirtual 71, 3) := by decide +kernel
theorem d_H_root_19 : decode b_H_root 19 = .ok (.ifCond .ne 5, 3) := by decide +kernel
theorem d_H_root_22 : decode b_H_root 22 = .ok (.iconst 0, 1) := by decide +kernel
theorem d_H_root_23 : decode b_H_root 23 = .ok (.ireturn, 1) := by decide +kernel
theorem d_H_root_24 : decode b_H_root 24 = .ok (.aload_n 0, 1) := by decide +kernel
theorem d_H_root_25 : decode b_H_root 25 = .ok (.getfield 7, 3) := by decide +kernel
theorem d_H_root_28 : decode b_H_root 28 = .ok (.iload_n 1, 1) := by decide +kernel
theorem d_H_root_29 : decode b_H_root 29 = .ok (.iload_n 2, 1) := by decide +kernel
theorem d_H_root_30 : decode b_H_root 30 = .ok (.iastore, 1) := by decide +kernel
theorem d_H_root_31 : decode b_H_root 31 = .ok (.iconst 1, 1) := by decide +kernel
theorem d_H_root_32 : decode b_H_root 32 = .ok (.ireturn, 1) := by decide +kernel
theorem d_H_collect_0 : decode b_H_collect 0 = .ok (.aload_n 0, 1) := by decide +kernel
theorem d_H_collect_1 : decode b_H_collect 1 = .ok (.aload_n 0, 1) := by decide +kernel
theorem d_H_collect_2 : decode b_H_collect 2 = .ok (.aload_n 0, 1) := by decide +kernel
theorem d_H_collect_3 : decode b_H_collect 3 = .ok (.getfield 26, 3) := by decide +kernel
theorem d_H_collect_6 : decode b_H_collect 6 = .ok (.invokevirtual 90, 3) := by decide +kernel
theorem d_H_collect_9 : decode b_H_collect 9 = .ok (.putfield 68, 3) := by decide +kernel
theorem d_H_collect_12 : decode b_H_collect 12 = .ok (.aload_n 0, 1) := by decide +kernel
theorem d_H_collect_13 : decode b_H_collect 13 = .ok (.getfield 50, 3) := by decide +kernel
theorem d_H_collect_16 : decode b_H_collect 16 = .ok (.invokevirtual 93, 3) := by decide +kernel
theorem d_H_collect_19 : decode b_H_collect 19 = .ok (.iconst 0, 1) := by decide +kernel
theorem d_H_collect_20 : decode b_H_collect 20 = .ok (.istore_n 1, 1) := by decide +kernel
theorem d_H_collect_21 : decode b_H_collect 21 = .ok (.iload_n 1, 1) := by decide +kernel
theorem d_H_collect_22 : decode b_H_collect 22 = .ok (.aload_n 0, 1) := by decide +kernel
theorem d_H_collect_23 : decode b_H_collect 23 = .ok (.getfield 68, 3) := by decide +kernel
theorem d_H_collect_26 : decode b_H_collect 26 = .ok (.if_icmp .ge 32, 3) := by decide +kernel
theorem d_H_collect_29 : decode b_H_collect 29 = .ok (.aload_n 0, 1) := by decide +kernel
theorem d_H_collect_30 : decode b_H_collect 30 = .ok (.getfield 50, 3) := by decide +kernel
theorem d_H_collect_33 : decode b_H_collect 33 = .ok (.aload_n 0, 1) := by decide +kernel
theorem d_H_collect_34 : decode b_H_collect 34 = .ok (.getfield 38, 3) := by decide +kernel
theorem d_H_collect_37 : decode b_H_collect 37 = .ok (.iload_n 1, 1) := by decide +kernel
theorem d_H_collect_38 : decode b_H_collect 38 = .ok (.iaload, 1) := by decide +kernel
theorem d_H_collect_39 : decode b_H_collect 39 = .ok (.aload_n 0, 1) := by decide +kernel
theorem d_H_collect_40 : decode b_H_collect 40 = .ok (.aload_n 0, 1) := by decide +kernel
theorem d_H_collect_41 : decode b_H_collect 41 = .ok (.getfield 38, 3) := by decide +kernel
theorem d_H_collect_44 : decode b_H_collect 44 = .ok (.iload_n 1, 1) := by decide +kernel
theorem d_H_collect_45 : decode b_H_collect 45 = .ok (.iaload, 1) := by decide +kernel
theorem d_H_collect_46 : decode b_H_collect 46 = .ok (.invokevirtual 61, 3) := by decide +kernel
theorem d_H_collect_49 : decode b_H_collect 49 = .ok (.invokevirtual 96, 3) := by decide +kernel
theorem d_H_collect_52 : decode b_H_collect 52 = .ok (.iinc 1 1, 3) := by decide +kernel
theorem d_H_collect_55 : decode b_H_collect 55 = .ok (.goto (-34), 3) := by decide +kernel
theorem d_H_collect_58 : decode b_H_collect 58 = .ok (.aload_n 0, 1) := by decide +kernel
theorem d_H_collect_59 : decode b_H_collect 59 = .ok (.getfield 50, 3) := by decide +kernel
theorem d_H_collect_62 : decode b_H_collect 62 = .ok (.invokevirtual 99, 3) := by decide +kernel
theorem d_H_collect_65 : decode b_H_collect 65 = .ok (.iconst 0, 1) := by decide +kernel
theorem d_H_collect_66 : decode b_H_collect 66 = .ok (.istore_n 1, 1) := by decide +kernel
theorem d_H_collect_67 : decode b_H_collect 67 = .ok (.iload_n 1, 1) := by decide +kernel
theorem d_H_collect_68 : decode b_H_collect 68 = .ok (.aload_n 0, 1) := by decide +kernel
theorem d_H_collect_69 : decode b_H_collect 69 = .ok (.getfield 26, 3) := by decide +kernel
theorem d_H_collect_72 : decode b_H_collect 72 = .ok (.if_icmp .gt 16, 3) := by decide +kernel
theorem d_H_collect_75 : decode b_H_collect 75 = .ok (.aload_n 0, 1) := by decide +kernel
theorem d_H_collect_76 : decode b_H_collect 76 = .ok (.getfield 35, 3) := by decide +kernel
theorem d_H_collect_79 : decode b_H_collect 79 = .ok (.iload_n 1, 1) := by decide +kernel
theorem d_H_collect_80 : decode b_H_collect 80 = .ok (.iconst 0, 1) := by decide +kernel
theorem d_H_collect_81 : decode b_H_collect 81 = .ok (.iastore, 1) := by decide +kernel
theorem d_H_collect_82 : decode b_H_collect 82 = .ok (.iinc 1 1, 3) := by decide +kernel
theorem d_H_collect_85 : decode b_H_collect 85 = .ok (.goto (-18), 3) := by decide +kernel
theorem d_H_collect_88 : decode b_H_collect 88 = .ok (.aload_n 0, 1) := by decide +kernel
theorem d_H_collect_89 : decode b_H_collect 89 = .ok (.iconst 0, 1) := by decide +kernel
theorem d_H_collect_90 : decode b_H_collect 90 = .ok (.putfield 84, 3) := by decide +kernel
theorem d_H_collect_93 : decode b_H_collect 93 = .ok (.aload_n 0, 1) := by decide +kernel
theorem d_H_collect_94 : decode b_H_collect 94 = .ok (.aload_n 0, 1) := by decide +kernel
theorem d_H_collect_95 : decode b_H_collect 95 = .ok (.invokevirtual 102, 3) := by decide +kernel
theorem d_H_collect_98 : decode b_H_collect 98 = .ok (.putfield 106, 3) := by decide +kernel
theorem d_H_collect_101 : decode b_H_collect 101 = .ok (.iconst 0, 1) := by decide +kernel
theorem d_H_collect_102 : decode b_H_collect 102 = .ok (.istore_n 1, 1) := by decide +kernel
theorem d_H_collect_103 : decode b_H_collect 103 = .ok (.iload_n 1, 1) := by decide +kernel
theorem d_H_collect_104 : decode b_H_collect 104 = .ok (.bipush 8, 2) := by decide +kernel
theorem d_H_collect_106 : decode b_H_collect 106 = .ok (.if_icmp .ge 25, 3) := by decide +kernel
theorem d_H_collect_109 : decode b_H_collect 109 = .ok (.aload_n 0, 1) := by decide +kernel
theorem d_H_collect_110 : decode b_H_collect 110 = .ok (.getfield 7, 3) := by decide +kernel
theorem d_H_collect_113 : decode b_H_collect 113 = .ok (.iload_n 1, 1) := by decide +kernel
theorem d_H_collect_114 : decode b_H_collect 114 = .ok (.aload_n 0, 1) := by decide +kernel
theorem d_H_collect_115 : decode b_H_collect 115 = .ok (.aload_n 0, 1) := by decide +kernel
theorem d_H_collect_116 : decode b_H_collect 116 = .ok (.getfield 7, 3) := by decide +kernel
theorem d_H_collect_119 : decode b_H_collect 119 = .ok (.iload_n 1, 1) := by decide +kernel
theorem d_H_collect_120 : decode b_H_collect 120 = .ok (.iaload, 1) := by decide +kernel
theorem d_H_collect_121 : decode b_H_collect 121 = .ok (.invokevirtual 87, 3) := by decide +kernel
theorem d_H_collect_124 : decode b_H_collect 124 = .ok (.iastore, 1) := by decide +kernel
theorem d_H_collect_125 : decode b_H_collect 125 = .ok (.iinc 1 1, 3) := by decide +kernel
theorem d_H_collect_128 : decode b_H_collect 128 = .ok (.goto (-25), 3) := by decide +kernel
theorem d_H_collect_131 : decode b_H_collect 131 = .ok (.aload_n 0, 1) := by decide +kernel
theorem d_H_collect_132 : decode b_H_collect 132 = .ok (.getfield 32, 3) := by decide +kernel
theorem d_H_collect_135 : decode b_H_collect 135 = .ok (.astore_n 1, 1) := by decide +kernel
theorem d_H_collect_136 : decode b_H_collect 136 = .ok (.aload_n 0, 1) := by decide +kernel
theorem d_H_collect_137 : decode b_H_collect 137 = .ok (.aload_n 0, 1) := by decide +kernel
theorem d_H_collect_138 : decode b_H_collect 138 = .ok (.getfield 35, 3) := by decide +kernel
theorem d_H_collect_141 : decode b_H_collect 141 = .ok (.putfield 32, 3) := by decide +kernel
theorem d_H_collect_144 : decode b_H_collect 144 = .ok (.aload_n 0, 1) := by decide +kernel
theorem d_H_collect_145 : decode b_H_collect 145 = .ok (.aload_n 1, 1) := by decide +kernel
theorem d_H_collect_146 : decode b_H_collect 146 = .ok (.putfield 35, 3) := by decide +kernel
theorem d_H_collect_149 : decode b_H_collect 149 = .ok (.aload_n 0, 1) := by decide +kernel
theorem d_H_collect_150 : decode b_H_collect 150 = .ok (.iconst 1, 1) := by decide +kernel
theorem d_H_collect_151 : decode b_H_collect 151 = .ok (.aload_n 0, 1) := by decide +kernel
theorem d_H_collect_152 : decode b_H_collect 152 = .ok (.getfield 106, 3) := by decide +kernel
theorem d_H_collect_155 : decode b_H_collect 155 = .ok (.iadd, 1) := by decide +kernel
theorem d_H_collect_156 : decode b_H_collect 156 = .ok (.putfield 13, 3) := by decide +kernel
theorem d_H_collect_159 : decode b_H_collect 159 = .ok (.aload_n 0, 1) := by decide +kernel
theorem d_H_collect_160 : decode b_H_collect 160 = .ok (.dup, 1) := by decide +kernel
theorem d_H_collect_161 : decode b_H_collect 161 = .ok (.getfield 109, 3) := by decide +kernel
theorem d_H_collect_164 : decode b_H_collect 164 = .ok (.iconst 1, 1) := by decide +kernel
theorem d_H_collect_165 : decode b_H_collect 165 = .ok (.iadd, 1) := by decide +kernel
theorem d_H_collect_166 : decode b_H_collect 166 = .ok (.putfield 109, 3) := by decide +kernel
theorem d_H_collect_169 : decode b_H_collect 169 = .ok (.aload_n 0, 1) := by decide +kernel
theorem d_H_collect_170 : decode b_H_collect 170 = .ok (.getfield 106, 3) := by decide +kernel
theorem d_H_collect_173 : decode b_H_collect 173 = .ok (.ireturn, 1) := by decide +kernel
theorem d_H_reach_0 : decode b_H_reach 0 = .ok (.iconst 0, 1) := by decide +kernel
theorem d_H_reach_1 : decode b_H_reach 1 = .ok (.istore_n 2, 1) := by decide +kernel
theorem d_H_reach_2 : decode b_H_reach 2 = .ok (.iload_n 2, 1) := by decide +kernel
theorem d_H_reach_3 : decode b_H_reach 3 = .ok (.aload_n 0, 1) := by decide +kernel
theorem d_H_reach_4 : decode b_H_reach 4 = .ok (.getfield 26, 3) := by decide +kernel
theorem d_H_reach_7 : decode b_H_reach 7 = .ok (.if_icmp .gt 16, 3) := by decide +kernel
theorem d_H_reach_10 : decode b_H_reach 10 = .ok (.aload_n 0, 1) := by decide +kernel
theorem d_H_reach_11 : decode b_H_reach 11 = .ok (.getfield 41, 3) := by decide +kernel
theorem d_H_reach_14 : decode b_H_reach 14 = .ok (.iload_n 2, 1) := by decide +kernel
theorem d_H_reach_15 : decode b_H_reach 15 = .ok (.iconst 0, 1) := by decide +kernel
theorem d_H_reach_16 : decode b_H_reach 16 = .ok (.bastore, 1) := by decide +kernel
theorem d_H_reach_17 : decode b_H_reach 17 = .ok (.iinc 2 1, 3) := by decide +kernel
theorem d_H_reach_20 : decode b_H_reach 20 = .ok (.goto (-18), 3) := by decide +kernel
theorem d_H_reach_23 : decode b_H_reach 23 = .ok (.iconst 0, 1) := by decide +kernel
theorem d_H_reach_24 : decode b_H_reach 24 = .ok (.istore_n 2, 1) := by decide +kernel
theorem d_H_reach_25 : decode b_H_reach 25 = .ok (.iconst 0, 1) := by decide +kernel
theorem d_H_reach_26 : decode b_H_reach 26 = .ok (.istore_n 3, 1) := by decide +kernel
theorem d_H_reach_27 : decode b_H_reach 27 = .ok (.iload_n 3, 1) := by decide +kernel
theorem d_H_reach_28 : decode b_H_reach 28 = .ok (.bipush 8, 2) := by decide +kernel
theorem d_H_reach_30 : decode b_H_reach 30 = .ok (.if_icmp .ge 21, 3) := by decide +kernel
theorem d_H_reach_33 : decode b_H_reach 33 = .ok (.aload_n 0, 1) := by decide +kernel
theorem d_H_reach_34 : decode b_H_reach 34 = .ok (.aload_n 0, 1) := by decide +kernel
theorem d_H_reach_35 : decode b_H_reach 35 = .ok (.getfield 7, 3) := by decide +kernel
theorem d_H_reach_38 : decode b_H_reach 38 = .ok (.iload_n 3, 1) := by decide +kernel
theorem d_H_reach_39 : decode b_H_reach 39 = .ok (.iaload, 1) := by decide +kernel
theorem d_H_reach_40 : decode b_H_reach 40 = .ok (.iload_n 2, 1) := by decide +kernel
theorem d_H_reach_41 : decode b_H_reach 41 = .ok (.invokevirtual 75, 3) := by decide +kernel
theorem d_H_reach_44 : decode b_H_reach 44 = .ok (.istore_n 2, 1) := by decide +kernel
theorem d_H_reach_45 : decode b_H_reach 45 = .ok (.iinc 3 1, 3) := by decide +kernel
theorem d_H_reach_48 : decode b_H_reach 48 = .ok (.goto (-21), 3) := by decide +kernel
theorem d_H_reach_51 : decode b_H_reach 51 = .ok (.iconst 0, 1) := by decide +kernel
theorem d_H_reach_52 : decode b_H_reach 52 = .ok (.istore_n 3, 1) := by decide +kernel
theorem d_H_reach_53 : decode b_H_reach 53 = .ok (.iconst 0, 1) := by decide +kernel
theorem d_H_reach_54 : decode b_H_reach 54 = .ok (.istore 4, 2) := by decide +kernel
theorem d_H_reach_56 : decode b_H_reach 56 = .ok (.iload 4, 2) := by decide +kernel
theorem d_H_reach_58 : decode b_H_reach 58 = .ok (.iload_n 1, 1) := by decide +kernel
theorem d_H_reach_59 : decode b_H_reach 59 = .ok (.if_icmp .ge 75, 3) := by decide +kernel
theorem d_H_reach_62 : decode b_H_reach 62 = .ok (.iload_n 3, 1) := by decide +kernel
theorem d_H_reach_63 : decode b_H_reach 63 = .ok (.iload_n 2, 1) := by decide +kernel
theorem d_H_reach_64 : decode b_H_reach 64 = .ok (.if_icmp .ge 70, 3) := by decide +kernel
theorem d_H_reach_67 : decode b_H_reach 67 = .ok (.iload_n 2, 1) := by decide +kernel
theorem d_H_reach_68 : decode b_H_reach 68 = .ok (.istore 5, 2) := by decide +kernel
theorem d_H_reach_70 : decode b_H_reach 70 = .ok (.iload_n 3, 1) := by decide +kernel
theorem d_H_reach_71 : decode b_H_reach 71 = .ok (.iload 5, 2) := by decide +kernel
theorem d_H_reach_73 : decode b_H_reach 73 = .ok (.if_icmp .ge 55, 3) := by decide +kernel
theorem d_H_reach_76 : decode b_H_reach 76 = .ok (.aload_n 0, 1) := by decide +kernel
theorem d_H_reach_77 : decode b_H_reach 77 = .ok (.getfield 38, 3) := by decide +kernel
theorem d_H_reach_80 : decode b_H_reach 80 = .ok (.iload_n 3, 1) := by decide +kernel
theorem d_H_reach_81 : decode b_H_reach 81 = .ok (.iaload, 1) := by decide +kernel
theorem d_H_reach_82 : decode b_H_reach 82 = .ok (.istore 6, 2) := by decide +kernel
theorem d_H_reach_84 : decode b_H_reach 84 = .ok (.iconst 0, 1) := by decide +kernel
theorem d_H_reach_85 : decode b_H_reach 85 = .ok (.istore 7, 2) := by decide +kernel
theorem d_H_reach_87 : decode b_H_reach 87 = .ok (.iload 7, 2) := by decide +kernel
theorem d_H_reach_89 : decode b_H_reach 89 = .ok (.aload_n 0, 1) := by decide +kernel
theorem d_H_reach_90 : decode b_H_reach 90 = .ok (.iload 6, 2) := by decide +kernel
theorem d_H_reach_92 : decode b_H_reach 92 = .ok (.invokevirtual 54, 3) := by decide +kernel
theorem d_H_reach_95 : decode b_H_reach 95 = .ok (.if_icmp .ge 27, 3) := by decide +kernel
theorem d_H_reach_98 : decode b_H_reach 98 = .ok (.aload_n 0, 1) := by decide +kernel
theorem d_H_reach_99 : decode b_H_reach 99 = .ok (.aload_n 0, 1) := by decide +kernel
theorem d_H_reach_100 : decode b_H_reach 100 = .ok (.getfield 32, 3) := by decide +kernel
theorem d_H_reach_103 : decode b_H_reach 103 = .ok (.iload 6, 2) := by decide +kernel
theorem d_H_reach_105 : decode b_H_reach 105 = .ok (.iconst 1, 1) := by decide +kernel
theorem d_H_reach_106 : decode b_H_reach 106 = .ok (.iadd, 1) := by decide +kernel
end
section
theorem d_H_reach_107 : decode b_H_reach 107 = .ok (.iload 7, 2) := by decide +kernel
theorem d_H_reach_109 : decode b_H_reach 109 = .ok (.iadd, 1) := by decide +kernel
theorem d_H_reach_110 : decode b_H_reach 110 = .ok (.iaload, 1) := by decide +kernel
theorem d_H_reach_111 : decode b_H_reach 111 = .ok (.iload_n 2, 1) := by decide +kernel
theorem d_H_reach_112 : decode b_H_reach 112 = .ok (.invokevirtual 75, 3) := by decide +kernel
theorem d_H_reach_115 : decode b_H_reach 115 = .ok (.istore_n 2, 1) := by decide +kernel
theorem d_H_reach_116 : decode b_H_reach 116 = .ok (.iinc 7 1, 3) := by decide +kernel
theorem d_H_reach_119 : decode b_H_reach 119 = .ok (.goto (-32), 3) := by decide +kernel
theorem d_H_reach_122 : decode b_H_reach 122 = .ok (.iinc 3 1, 3) := by decide +kernel
theorem d_H_reach_125 : decode b_H_reach 125 = .ok (.goto (-55), 3) := by decide +kernel
theorem d_H_reach_128 : decode b_H_reach 128 = .ok (.iinc 4 1, 3) := by decide +kernel
theorem d_H_reach_131 : decode b_H_reach 131 = .ok (.goto (-75), 3) := by decide +kernel
theorem d_H_reach_134 : decode b_H_reach 134 = .ok (.iload_n 2, 1) := by decide +kernel
theorem d_H_reach_135 : decode b_H_reach 135 = .ok (.ireturn, 1) := by decide +kernel
theorem d_H_meet_0 : decode b_H_meet 0 = .ok (.iload_n 1, 1) := by decide +kernel
theorem d_H_meet_1 : decode b_H_meet 1 = .ok (.ifCond .eq 12, 3) := by decide +kernel
theorem d_H_meet_4 : decode b_H_meet 4 = .ok (.aload_n 0, 1) := by decide +kernel
theorem d_H_meet_5 : decode b_H_meet 5 = .ok (.getfield 41, 3) := by decide +kernel
theorem d_H_meet_8 : decode b_H_meet 8 = .ok (.iload_n 1, 1) := by decide +kernel
theorem d_H_meet_9 : decode b_H_meet 9 = .ok (.baload, 1) := by decide +kernel
theorem d_H_meet_10 : decode b_H_meet 10 = .ok (.ifCond .eq 5, 3) := by decide +kernel
theorem d_H_meet_13 : decode b_H_meet 13 = .ok (.iload_n 2, 1) := by decide +kernel
theorem d_H_meet_14 : decode b_H_meet 14 = .ok (.ireturn, 1) := by decide +kernel
theorem d_H_meet_15 : decode b_H_meet 15 = .ok (.aload_n 0, 1) := by decide +kernel
theorem d_H_meet_16 : decode b_H_meet 16 = .ok (.getfield 41, 3) := by decide +kernel
theorem d_H_meet_19 : decode b_H_meet 19 = .ok (.iload_n 1, 1) := by decide +kernel
theorem d_H_meet_20 : decode b_H_meet 20 = .ok (.iconst 1, 1) := by decide +kernel
theorem d_H_meet_21 : decode b_H_meet 21 = .ok (.bastore, 1) := by decide +kernel
theorem d_H_meet_22 : decode b_H_meet 22 = .ok (.aload_n 0, 1) := by decide +kernel
theorem d_H_meet_23 : decode b_H_meet 23 = .ok (.getfield 38, 3) := by decide +kernel
theorem d_H_meet_26 : decode b_H_meet 26 = .ok (.iload_n 2, 1) := by decide +kernel
theorem d_H_meet_27 : decode b_H_meet 27 = .ok (.iload_n 1, 1) := by decide +kernel
theorem d_H_meet_28 : decode b_H_meet 28 = .ok (.iastore, 1) := by decide +kernel
theorem d_H_meet_29 : decode b_H_meet 29 = .ok (.iload_n 2, 1) := by decide +kernel
theorem d_H_meet_30 : decode b_H_meet 30 = .ok (.iconst 1, 1) := by decide +kernel
theorem d_H_meet_31 : decode b_H_meet 31 = .ok (.iadd, 1) := by decide +kernel
theorem d_H_meet_32 : decode b_H_meet 32 = .ok (.ireturn, 1) := by decide +kernel
theorem d_M_clear_0 : decode b_M_clear 0 = .ok (.iconst 0, 1) := by decide +kernel
theorem d_M_clear_1 : decode b_M_clear 1 = .ok (.istore_n 1, 1) := by decide +kernel
theorem d_M_clear_2 : decode b_M_clear 2 = .ok (.iload_n 1, 1) := by decide +kernel
theorem d_M_clear_3 : decode b_M_clear 3 = .ok (.aload_n 0, 1) := by decide +kernel
theorem d_M_clear_4 : decode b_M_clear 4 = .ok (.getfield 15, 3) := by decide +kernel
theorem d_M_clear_7 : decode b_M_clear 7 = .ok (.arraylength, 1) := by decide +kernel
theorem d_M_clear_8 : decode b_M_clear 8 = .ok (.if_icmp .ge 16, 3) := by decide +kernel
theorem d_M_clear_11 : decode b_M_clear 11 = .ok (.aload_n 0, 1) := by decide +kernel
theorem d_M_clear_12 : decode b_M_clear 12 = .ok (.getfield 15, 3) := by decide +kernel
theorem d_M_clear_15 : decode b_M_clear 15 = .ok (.iload_n 1, 1) := by decide +kernel
theorem d_M_clear_16 : decode b_M_clear 16 = .ok (.lconst 0, 1) := by decide +kernel
theorem d_M_clear_17 : decode b_M_clear 17 = .ok (.lastore, 1) := by decide +kernel
theorem d_M_clear_18 : decode b_M_clear 18 = .ok (.iinc 1 1, 3) := by decide +kernel
theorem d_M_clear_21 : decode b_M_clear 21 = .ok (.goto (-19), 3) := by decide +kernel
theorem d_M_clear_24 : decode b_M_clear 24 = .ok (.return_, 1) := by decide +kernel
theorem d_M_mark_0 : decode b_M_mark 0 = .ok (.iload_n 1, 1) := by decide +kernel
theorem d_M_mark_1 : decode b_M_mark 1 = .ok (.istore_n 3, 1) := by decide +kernel
theorem d_M_mark_2 : decode b_M_mark 2 = .ok (.iload_n 2, 1) := by decide +kernel
theorem d_M_mark_3 : decode b_M_mark 3 = .ok (.istore 4, 2) := by decide +kernel
theorem d_M_mark_5 : decode b_M_mark 5 = .ok (.iload 4, 2) := by decide +kernel
theorem d_M_mark_7 : decode b_M_mark 7 = .ok (.ifCond .le 72, 3) := by decide +kernel
theorem d_M_mark_10 : decode b_M_mark 10 = .ok (.iload 4, 2) := by decide +kernel
theorem d_M_mark_12 : decode b_M_mark 12 = .ok (.bipush 64, 2) := by decide +kernel
theorem d_M_mark_14 : decode b_M_mark 14 = .ok (.iload_n 3, 1) := by decide +kernel
theorem d_M_mark_15 : decode b_M_mark 15 = .ok (.bipush 64, 2) := by decide +kernel
theorem d_M_mark_17 : decode b_M_mark 17 = .ok (.irem, 1) := by decide +kernel
theorem d_M_mark_18 : decode b_M_mark 18 = .ok (.isub, 1) := by decide +kernel
theorem d_M_mark_19 : decode b_M_mark 19 = .ok (.invokestatic 23, 3) := by decide +kernel
theorem d_M_mark_22 : decode b_M_mark 22 = .ok (.istore 5, 2) := by decide +kernel
theorem d_M_mark_24 : decode b_M_mark 24 = .ok (.iload 5, 2) := by decide +kernel
theorem d_M_mark_26 : decode b_M_mark 26 = .ok (.bipush 64, 2) := by decide +kernel
theorem d_M_mark_28 : decode b_M_mark 28 = .ok (.if_icmp .ne 9, 3) := by decide +kernel
theorem d_M_mark_31 : decode b_M_mark 31 = .ok (.ldc2_w 29, 3) := by decide +kernel
theorem d_M_mark_34 : decode b_M_mark 34 = .ok (.goto 9, 3) := by decide +kernel
theorem d_M_mark_37 : decode b_M_mark 37 = .ok (.lconst 1, 1) := by decide +kernel
theorem d_M_mark_38 : decode b_M_mark 38 = .ok (.iload 5, 2) := by decide +kernel
theorem d_M_mark_40 : decode b_M_mark 40 = .ok (.lshl, 1) := by decide +kernel
theorem d_M_mark_41 : decode b_M_mark 41 = .ok (.lconst 1, 1) := by decide +kernel
theorem d_M_mark_42 : decode b_M_mark 42 = .ok (.lsub, 1) := by decide +kernel
theorem d_M_mark_43 : decode b_M_mark 43 = .ok (.lstore 6, 2) := by decide +kernel
theorem d_M_mark_45 : decode b_M_mark 45 = .ok (.aload_n 0, 1) := by decide +kernel
theorem d_M_mark_46 : decode b_M_mark 46 = .ok (.getfield 15, 3) := by decide +kernel
theorem d_M_mark_49 : decode b_M_mark 49 = .ok (.iload_n 3, 1) := by decide +kernel
theorem d_M_mark_50 : decode b_M_mark 50 = .ok (.bipush 64, 2) := by decide +kernel
theorem d_M_mark_52 : decode b_M_mark 52 = .ok (.idiv, 1) := by decide +kernel
theorem d_M_mark_53 : decode b_M_mark 53 = .ok (.dup2, 1) := by decide +kernel
theorem d_M_mark_54 : decode b_M_mark 54 = .ok (.laload, 1) := by decide +kernel
theorem d_M_mark_55 : decode b_M_mark 55 = .ok (.lload 6, 2) := by decide +kernel
theorem d_M_mark_57 : decode b_M_mark 57 = .ok (.iload_n 3, 1) := by decide +kernel
theorem d_M_mark_58 : decode b_M_mark 58 = .ok (.bipush 64, 2) := by decide +kernel
theorem d_M_mark_60 : decode b_M_mark 60 = .ok (.irem, 1) := by decide +kernel
theorem d_M_mark_61 : decode b_M_mark 61 = .ok (.lshl, 1) := by decide +kernel
theorem d_M_mark_62 : decode b_M_mark 62 = .ok (.lor, 1) := by decide +kernel
theorem d_M_mark_63 : decode b_M_mark 63 = .ok (.lastore, 1) := by decide +kernel
theorem d_M_mark_64 : decode b_M_mark 64 = .ok (.iload_n 3, 1) := by decide +kernel
theorem d_M_mark_65 : decode b_M_mark 65 = .ok (.iload 5, 2) := by decide +kernel
theorem d_M_mark_67 : decode b_M_mark 67 = .ok (.iadd, 1) := by decide +kernel
theorem d_M_mark_68 : decode b_M_mark 68 = .ok (.istore_n 3, 1) := by decide +kernel
theorem d_M_mark_69 : decode b_M_mark 69 = .ok (.iload 4, 2) := by decide +kernel
theorem d_M_mark_71 : decode b_M_mark 71 = .ok (.iload 5, 2) := by decide +kernel
theorem d_M_mark_73 : decode b_M_mark 73 = .ok (.isub, 1) := by decide +kernel
theorem d_M_mark_74 : decode b_M_mark 74 = .ok (.istore 4, 2) := by decide +kernel
theorem d_M_mark_76 : decode b_M_mark 76 = .ok (.goto (-71), 3) := by decide +kernel
theorem d_M_mark_79 : decode b_M_mark 79 = .ok (.return_, 1) := by decide +kernel
theorem d_M_lay_0 : decode b_M_lay 0 = .ok (.iconst 0, 1) := by decide +kernel
theorem d_M_lay_1 : decode b_M_lay 1 = .ok (.istore_n 1, 1) := by decide +kernel
theorem d_M_lay_2 : decode b_M_lay 2 = .ok (.iconst 0, 1) := by decide +kernel
theorem d_M_lay_3 : decode b_M_lay 3 = .ok (.istore_n 2, 1) := by decide +kernel
theorem d_M_lay_4 : decode b_M_lay 4 = .ok (.iload_n 2, 1) := by decide +kernel
theorem d_M_lay_5 : decode b_M_lay 5 = .ok (.aload_n 0, 1) := by decide +kernel
theorem d_M_lay_6 : decode b_M_lay 6 = .ok (.getfield 19, 3) := by decide +kernel
theorem d_M_lay_9 : decode b_M_lay 9 = .ok (.arraylength, 1) := by decide +kernel
theorem d_M_lay_10 : decode b_M_lay 10 = .ok (.if_icmp .ge 28, 3) := by decide +kernel
theorem d_M_lay_13 : decode b_M_lay 13 = .ok (.aload_n 0, 1) := by decide +kernel
theorem d_M_lay_14 : decode b_M_lay 14 = .ok (.getfield 19, 3) := by decide +kernel
theorem d_M_lay_17 : decode b_M_lay 17 = .ok (.iload_n 2, 1) := by decide +kernel
theorem d_M_lay_18 : decode b_M_lay 18 = .ok (.iload_n 1, 1) := by decide +kernel
theorem d_M_lay_19 : decode b_M_lay 19 = .ok (.iastore, 1) := by decide +kernel
theorem d_M_lay_20 : decode b_M_lay 20 = .ok (.iload_n 1, 1) := by decide +kernel
theorem d_M_lay_21 : decode b_M_lay 21 = .ok (.aload_n 0, 1) := by decide +kernel
theorem d_M_lay_22 : decode b_M_lay 22 = .ok (.iload_n 2, 1) := by decide +kernel
theorem d_M_lay_23 : decode b_M_lay 23 = .ok (.aload_n 0, 1) := by decide +kernel
theorem d_M_lay_24 : decode b_M_lay 24 = .ok (.getfield 9, 3) := by decide +kernel
theorem d_M_lay_27 : decode b_M_lay 27 = .ok (.invokevirtual 37, 3) := by decide +kernel
theorem d_M_lay_30 : decode b_M_lay 30 = .ok (.iadd, 1) := by decide +kernel
theorem d_M_lay_31 : decode b_M_lay 31 = .ok (.istore_n 1, 1) := by decide +kernel
theorem d_M_lay_32 : decode b_M_lay 32 = .ok (.iinc 2 1, 3) := by decide +kernel
theorem d_M_lay_35 : decode b_M_lay 35 = .ok (.goto (-31), 3) := by decide +kernel
theorem d_M_lay_38 : decode b_M_lay 38 = .ok (.return_, 1) := by decide +kernel
theorem d_M_before_0 : decode b_M_before 0 = .ok (.iload_n 1, 1) := by decide +kernel
theorem d_M_before_1 : decode b_M_before 1 = .ok (.aload_n 0, 1) := by decide +kernel
theorem d_M_before_2 : decode b_M_before 2 = .ok (.getfield 9, 3) := by decide +kernel
theorem d_M_before_5 : decode b_M_before 5 = .ok (.imul, 1) := by decide +kernel
theorem d_M_before_6 : decode b_M_before 6 = .ok (.istore_n 3, 1) := by decide +kernel
theorem d_M_before_7 : decode b_M_before 7 = .ok (.aload_n 0, 1) := by decide +kernel
theorem d_M_before_8 : decode b_M_before 8 = .ok (.getfield 15, 3) := by decide +kernel
theorem d_M_before_11 : decode b_M_before 11 = .ok (.iload_n 3, 1) := by decide +kernel
theorem d_M_before_12 : decode b_M_before 12 = .ok (.bipush 64, 2) := by decide +kernel
theorem d_M_before_14 : decode b_M_before 14 = .ok (.idiv, 1) := by decide +kernel
theorem d_M_before_15 : decode b_M_before 15 = .ok (.laload, 1) := by decide +kernel
theorem d_M_before_16 : decode b_M_before 16 = .ok (.iload_n 3, 1) := by decide +kernel
theorem d_M_before_17 : decode b_M_before 17 = .ok (.bipush 64, 2) := by decide +kernel
theorem d_M_before_19 : decode b_M_before 19 = .ok (.irem, 1) := by decide +kernel
theorem d_M_before_20 : decode b_M_before 20 = .ok (.lushr, 1) := by decide +kernel
theorem d_M_before_21 : decode b_M_before 21 = .ok (.lstore 4, 2) := by decide +kernel
theorem d_M_before_23 : decode b_M_before 23 = .ok (.iload_n 2, 1) := by decide +kernel
theorem d_M_before_24 : decode b_M_before 24 = .ok (.bipush 64, 2) := by decide +kernel
theorem d_M_before_26 : decode b_M_before 26 = .ok (.if_icmp .ne 9, 3) := by decide +kernel
theorem d_M_before_29 : decode b_M_before 29 = .ok (.ldc2_w 29, 3) := by decide +kernel
theorem d_M_before_32 : decode b_M_before 32 = .ok (.goto 8, 3) := by decide +kernel
theorem d_M_before_35 : decode b_M_before 35 = .ok (.lconst 1, 1) := by decide +kernel
theorem d_M_before_36 : decode b_M_before 36 = .ok (.iload_n 2, 1) := by decide +kernel
theorem d_M_before_37 : decode b_M_before 37 = .ok (.lshl, 1) := by decide +kernel
theorem d_M_before_38 : decode b_M_before 38 = .ok (.lconst 1, 1) := by decide +kernel
theorem d_M_before_39 : decode b_M_before 39 = .ok (.lsub, 1) := by decide +kernel
theorem d_M_before_40 : decode b_M_before 40 = .ok (.lstore 6, 2) := by decide +kernel
theorem d_M_before_42 : decode b_M_before 42 = .ok (.lload 4, 2) := by decide +kernel
theorem d_M_before_44 : decode b_M_before 44 = .ok (.lload 6, 2) := by decide +kernel
theorem d_M_before_46 : decode b_M_before 46 = .ok (.land, 1) := by decide +kernel
theorem d_M_before_47 : decode b_M_before 47 = .ok (.invokestatic 31, 3) := by decide +kernel
theorem d_M_before_50 : decode b_M_before 50 = .ok (.ireturn, 1) := by decide +kernel
theorem d_J_bitCount_0 : decode b_J_bitCount 0 = .ok (.lload_n 0, 1) := by decide +kernel
theorem d_J_bitCount_1 : decode b_J_bitCount 1 = .ok (.lload_n 0, 1) := by decide +kernel
theorem d_J_bitCount_2 : decode b_J_bitCount 2 = .ok (.iconst 1, 1) := by decide +kernel
theorem d_J_bitCount_3 : decode b_J_bitCount 3 = .ok (.lushr, 1) := by decide +kernel
theorem d_J_bitCount_4 : decode b_J_bitCount 4 = .ok (.ldc2_w 314, 3) := by decide +kernel
theorem d_J_bitCount_7 : decode b_J_bitCount 7 = .ok (.land, 1) := by decide +kernel
theorem d_J_bitCount_8 : decode b_J_bitCount 8 = .ok (.lsub, 1) := by decide +kernel
theorem d_J_bitCount_9 : decode b_J_bitCount 9 = .ok (.lstore_n 0, 1) := by decide +kernel
theorem d_J_bitCount_10 : decode b_J_bitCount 10 = .ok (.lload_n 0, 1) := by decide +kernel
theorem d_J_bitCount_11 : decode b_J_bitCount 11 = .ok (.ldc2_w 316, 3) := by decide +kernel
theorem d_J_bitCount_14 : decode b_J_bitCount 14 = .ok (.land, 1) := by decide +kernel
theorem d_J_bitCount_15 : decode b_J_bitCount 15 = .ok (.lload_n 0, 1) := by decide +kernel
theorem d_J_bitCount_16 : decode b_J_bitCount 16 = .ok (.iconst 2, 1) := by decide +kernel
theorem d_J_bitCount_17 : decode b_J_bitCount 17 = .ok (.lushr, 1) := by decide +kernel
theorem d_J_bitCount_18 : decode b_J_bitCount 18 = .ok (.ldc2_w 316, 3) := by decide +kernel
theorem d_J_bitCount_21 : decode b_J_bitCount 21 = .ok (.land, 1) := by decide +kernel
theorem d_J_bitCount_22 : decode b_J_bitCount 22 = .ok (.ladd, 1) := by decide +kernel
theorem d_J_bitCount_23 : decode b_J_bitCount 23 = .ok (.lstore_n 0, 1) := by decide +kernel
theorem d_J_bitCount_24 : decode b_J_bitCount 24 = .ok (.lload_n 0, 1) := by decide +kernel
theorem d_J_bitCount_25 : decode b_J_bitCount 25 = .ok (.lload_n 0, 1) := by decide +kernel
theorem d_J_bitCount_26 : decode b_J_bitCount 26 = .ok (.iconst 4, 1) := by decide +kernel
theorem d_J_bitCount_27 : decode b_J_bitCount 27 = .ok (.lushr, 1) := by decide +kernel
theorem d_J_bitCount_28 : decode b_J_bitCount 28 = .ok (.ladd, 1) := by decide +kernel
theorem d_J_bitCount_29 : decode b_J_bitCount 29 = .ok (.ldc2_w 318, 3) := by decide +kernel
theorem d_J_bitCount_32 : decode b_J_bitCount 32 = .ok (.land, 1) := by decide +kernel
theorem d_J_bitCount_33 : decode b_J_bitCount 33 = .ok (.lstore_n 0, 1) := by decide +kernel
theorem d_J_bitCount_34 : decode b_J_bitCount 34 = .ok (.lload_n 0, 1) := by decide +kernel
theorem d_J_bitCount_35 : decode b_J_bitCount 35 = .ok (.lload_n 0, 1) := by decide +kernel
theorem d_J_bitCount_36 : decode b_J_bitCount 36 = .ok (.bipush 8, 2) := by decide +kernel
theorem d_J_bitCount_38 : decode b_J_bitCount 38 = .ok (.lushr, 1) := by decide +kernel
theorem d_J_bitCount_39 : decode b_J_bitCount 39 = .ok (.ladd, 1) := by decide +kernel
theorem d_J_bitCount_40 : decode b_J_bitCount 40 = .ok (.lstore_n 0, 1) := by decide +kernel
theorem d_J_bitCount_41 : decode b_J_bitCount 41 = .ok (.lload_n 0, 1) := by decide +kernel
theorem d_J_bitCount_42 : decode b_J_bitCount 42 = .ok (.lload_n 0, 1) := by decide +kernel
theorem d_J_bitCount_43 : decode b_J_bitCount 43 = .ok (.bipush 16, 2) := by decide +kernel
theorem d_J_bitCount_45 : decode b_J_bitCount 45 = .ok (.lushr, 1) := by decide +kernel
theorem d_J_bitCount_46 : decode b_J_bitCount 46 = .ok (.ladd, 1) := by decide +kernel
theorem d_J_bitCount_47 : decode b_J_bitCount 47 = .ok (.lstore_n 0, 1) := by decide +kernel
theorem d_J_bitCount_48 : decode b_J_bitCount 48 = .ok (.lload_n 0, 1) := by decide +kernel
theorem d_J_bitCount_49 : decode b_J_bitCount 49 = .ok (.lload_n 0, 1) := by decide +kernel
theorem d_J_bitCount_50 : decode b_J_bitCount 50 = .ok (.bipush 32, 2) := by decide +kernel
theorem d_J_bitCount_52 : decode b_J_bitCount 52 = .ok (.lushr, 1) := by decide +kernel
theorem d_J_bitCount_53 : decode b_J_bitCount 53 = .ok (.ladd, 1) := by decide +kernel
theorem d_J_bitCount_54 : decode b_J_bitCount 54 = .ok (.lstore_n 0, 1) := by decide +kernel
theorem d_J_bitCount_55 : decode b_J_bitCount 55 = .ok (.lload_n 0, 1) := by decide +kernel
theorem d_J_bitCount_56 : decode b_J_bitCount 56 = .ok (.l2i, 1) := by decide +kernel
theorem d_J_bitCount_57 : decode b_J_bitCount 57 = .ok (.bipush 127, 2) := by decide +kernel
theorem d_J_bitCount_59 : decode b_J_bitCount 59 = .ok (.iand, 1) := by decide +kernel
theorem d_J_bitCount_60 : decode b_J_bitCount 60 = .ok (.ireturn, 1) := by decide +kernel
theorem d_H_copy_0 : decode b_H_copy 0 = .ok (.iconst 0, 1) := by decide +kernel
theorem d_H_copy_1 : decode b_H_copy 1 = .ok (.istore_n 1, 1) := by decide +kernel
theorem d_H_copy_2 : decode b_H_copy 2 = .ok (.iconst 0, 1) := by decide +kernel
theorem d_H_copy_3 : decode b_H_copy 3 = .ok (.istore_n 2, 1) := by decide +kernel
theorem d_H_copy_4 : decode b_H_copy 4 = .ok (.iconst 0, 1) := by decide +kernel
theorem d_H_copy_5 : decode b_H_copy 5 = .ok (.istore_n 3, 1) := by decide +kernel
theorem d_H_copy_6 : decode b_H_copy 6 = .ok (.iload_n 3, 1) := by decide +kernel
theorem d_H_copy_7 : decode b_H_copy 7 = .ok (.aload_n 0, 1) := by decide +kernel
theorem d_H_copy_8 : decode b_H_copy 8 = .ok (.getfield 13, 3) := by decide +kernel
theorem d_H_copy_11 : decode b_H_copy 11 = .ok (.if_icmp .ge 144, 3) := by decide +kernel
theorem d_H_copy_14 : decode b_H_copy 14 = .ok (.aload_n 0, 1) := by decide +kernel
theorem d_H_copy_15 : decode b_H_copy 15 = .ok (.getfield 50, 3) := by decide +kernel
theorem d_H_copy_18 : decode b_H_copy 18 = .ok (.iload_n 3, 1) := by decide +kernel
theorem d_H_copy_19 : decode b_H_copy 19 = .ok (.invokevirtual 81, 3) := by decide +kernel
theorem d_H_copy_22 : decode b_H_copy 22 = .ok (.ifCond .eq 127, 3) := by decide +kernel
theorem d_H_copy_25 : decode b_H_copy 25 = .ok (.aload_n 0, 1) := by decide +kernel
theorem d_H_copy_26 : decode b_H_copy 26 = .ok (.getfield 32, 3) := by decide +kernel
theorem d_H_copy_29 : decode b_H_copy 29 = .ok (.iload_n 3, 1) := by decide +kernel
theorem d_H_copy_30 : decode b_H_copy 30 = .ok (.iaload, 1) := by decide +kernel
theorem d_H_copy_31 : decode b_H_copy 31 = .ok (.istore 4, 2) := by decide +kernel
theorem d_H_copy_33 : decode b_H_copy 33 = .ok (.iinc 1 1, 3) := by decide +kernel
theorem d_H_copy_36 : decode b_H_copy 36 = .ok (.iload_n 2, 1) := by decide +kernel
theorem d_H_copy_37 : decode b_H_copy 37 = .ok (.ifCond .ne 7, 3) := by decide +kernel
theorem d_H_copy_40 : decode b_H_copy 40 = .ok (.iconst 1, 1) := by decide +kernel
theorem d_H_copy_41 : decode b_H_copy 41 = .ok (.goto 4, 3) := by decide +kernel
theorem d_H_copy_44 : decode b_H_copy 44 = .ok (.iconst 0, 1) := by decide +kernel
theorem d_H_copy_45 : decode b_H_copy 45 = .ok (.istore 5, 2) := by decide +kernel
theorem d_H_copy_47 : decode b_H_copy 47 = .ok (.iload 5, 2) := by decide +kernel
theorem d_H_copy_49 : decode b_H_copy 49 = .ok (.ifCond .eq 19, 3) := by decide +kernel
theorem d_H_copy_52 : decode b_H_copy 52 = .ok (.iload 4, 2) := by decide +kernel
theorem d_H_copy_54 : decode b_H_copy 54 = .ok (.iconst 4, 1) := by decide +kernel
theorem d_H_copy_55 : decode b_H_copy 55 = .ok (.ishr, 1) := by decide +kernel
theorem d_H_copy_56 : decode b_H_copy 56 = .ok (.bipush 15, 2) := by decide +kernel
theorem d_H_copy_58 : decode b_H_copy 58 = .ok (.iand, 1) := by decide +kernel
theorem d_H_copy_59 : decode b_H_copy 59 = .ok (.iload 4, 2) := by decide +kernel
theorem d_H_copy_61 : decode b_H_copy 61 = .ok (.bipush 8, 2) := by decide +kernel
theorem d_H_copy_63 : decode b_H_copy 63 = .ok (.ishr, 1) := by decide +kernel
theorem d_H_copy_64 : decode b_H_copy 64 = .ok (.iadd, 1) := by decide +kernel
theorem d_H_copy_65 : decode b_H_copy 65 = .ok (.goto 6, 3) := by decide +kernel
theorem d_H_copy_68 : decode b_H_copy 68 = .ok (.iload_n 2, 1) := by decide +kernel
theorem d_H_copy_69 : decode b_H_copy 69 = .ok (.iconst 1, 1) := by decide +kernel
theorem d_H_copy_70 : decode b_H_copy 70 = .ok (.isub, 1) := by decide +kernel
theorem d_H_copy_71 : decode b_H_copy 71 = .ok (.istore_n 2, 1) := by decide +kernel
theorem d_H_copy_72 : decode b_H_copy 72 = .ok (.iload 5, 2) := by decide +kernel
theorem d_H_copy_74 : decode b_H_copy 74 = .ok (.ifCond .ne 14, 3) := by decide +kernel
theorem d_H_copy_77 : decode b_H_copy 77 = .ok (.aload_n 0, 1) := by decide +kernel
theorem d_H_copy_78 : decode b_H_copy 78 = .ok (.getfield 84, 3) := by decide +kernel
theorem d_H_copy_81 : decode b_H_copy 81 = .ok (.ifCond .le 7, 3) := by decide +kernel
theorem d_H_copy_84 : decode b_H_copy 84 = .ok (.iconst 1, 1) := by decide +kernel
theorem d_H_copy_85 : decode b_H_copy 85 = .ok (.goto 4, 3) := by decide +kernel
theorem d_H_copy_88 : decode b_H_copy 88 = .ok (.iconst 0, 1) := by decide +kernel
theorem d_H_copy_89 : decode b_H_copy 89 = .ok (.istore 6, 2) := by decide +kernel
theorem d_H_copy_91 : decode b_H_copy 91 = .ok (.aload_n 0, 1) := by decide +kernel
theorem d_H_copy_92 : decode b_H_copy 92 = .ok (.iload 5, 2) := by decide +kernel
theorem d_H_copy_94 : decode b_H_copy 94 = .ok (.ifCond .eq 13, 3) := by decide +kernel
theorem d_H_copy_97 : decode b_H_copy 97 = .ok (.iload 4, 2) := by decide +kernel
theorem d_H_copy_99 : decode b_H_copy 99 = .ok (.iconst 4, 1) := by decide +kernel
theorem d_H_copy_100 : decode b_H_copy 100 = .ok (.ishr, 1) := by decide +kernel
theorem d_H_copy_101 : decode b_H_copy 101 = .ok (.bipush 15, 2) := by decide +kernel
theorem d_H_copy_103 : decode b_H_copy 103 = .ok (.iand, 1) := by decide +kernel
theorem d_H_copy_104 : decode b_H_copy 104 = .ok (.goto 13, 3) := by decide +kernel
theorem d_H_copy_107 : decode b_H_copy 107 = .ok (.iconst 0, 1) := by decide +kernel
theorem d_H_copy_108 : decode b_H_copy 108 = .ok (.aload_n 0, 1) := by decide +kernel
theorem d_H_copy_109 : decode b_H_copy 109 = .ok (.getfield 84, 3) := by decide +kernel
theorem d_H_copy_112 : decode b_H_copy 112 = .ok (.iconst 1, 1) := by decide +kernel
theorem d_H_copy_113 : decode b_H_copy 113 = .ok (.isub, 1) := by decide +kernel
theorem d_H_copy_114 : decode b_H_copy 114 = .ok (.invokestatic 23, 3) := by decide +kernel
theorem d_H_copy_117 : decode b_H_copy 117 = .ok (.putfield 84, 3) := by decide +kernel
theorem d_H_copy_120 : decode b_H_copy 120 = .ok (.aload_n 0, 1) := by decide +kernel
theorem d_H_copy_121 : decode b_H_copy 121 = .ok (.getfield 35, 3) := by decide +kernel
theorem d_H_copy_124 : decode b_H_copy 124 = .ok (.aload_n 0, 1) := by decide +kernel
theorem d_H_copy_125 : decode b_H_copy 125 = .ok (.getfield 50, 3) := by decide +kernel
theorem d_H_copy_128 : decode b_H_copy 128 = .ok (.iload_n 3, 1) := by decide +kernel
theorem d_H_copy_129 : decode b_H_copy 129 = .ok (.invokevirtual 78, 3) := by decide +kernel
theorem d_H_copy_132 : decode b_H_copy 132 = .ok (.iload 6, 2) := by decide +kernel
theorem d_H_copy_134 : decode b_H_copy 134 = .ok (.ifCond .eq 12, 3) := by decide +kernel
theorem d_H_copy_137 : decode b_H_copy 137 = .ok (.aload_n 0, 1) := by decide +kernel
theorem d_H_copy_138 : decode b_H_copy 138 = .ok (.iload 4, 2) := by decide +kernel
theorem d_H_copy_140 : decode b_H_copy 140 = .ok (.invokevirtual 87, 3) := by decide +kernel
theorem d_H_copy_143 : decode b_H_copy 143 = .ok (.goto 5, 3) := by decide +kernel
theorem d_H_copy_146 : decode b_H_copy 146 = .ok (.iload 4, 2) := by decide +kernel
theorem d_H_copy_148 : decode b_H_copy 148 = .ok (.iastore, 1) := by decide +kernel
theorem d_H_copy_149 : decode b_H_copy 149 = .ok (.iinc 3 1, 3) := by decide +kernel
theorem d_H_copy_152 : decode b_H_copy 152 = .ok (.goto (-146), 3) := by decide +kernel
theorem d_H_copy_155 : decode b_H_copy 155 = .ok (.iload_n 1, 1) := by decide +kernel
theorem d_H_copy_156 : decode b_H_copy 156 = .ok (.ireturn, 1) := by decide +kernel
theorem d_M_has_0 : decode b_M_has 0 = .ok (.aload_n 0, 1) := by decide +kernel
theorem d_M_has_1 : decode b_M_has 1 = .ok (.getfield 15, 3) := by decide +kernel
theorem d_M_has_4 : decode b_M_has 4 = .ok (.iload_n 1, 1) := by decide +kernel
theorem d_M_has_5 : decode b_M_has 5 = .ok (.bipush 64, 2) := by decide +kernel
theorem d_M_has_7 : decode b_M_has 7 = .ok (.idiv, 1) := by decide +kernel
theorem d_M_has_8 : decode b_M_has 8 = .ok (.laload, 1) := by decide +kernel
theorem d_M_has_9 : decode b_M_has 9 = .ok (.iload_n 1, 1) := by decide +kernel
theorem d_M_has_10 : decode b_M_has 10 = .ok (.bipush 64, 2) := by decide +kernel
theorem d_M_has_12 : decode b_M_has 12 = .ok (.irem, 1) := by decide +kernel
theorem d_M_has_13 : decode b_M_has 13 = .ok (.lushr, 1) := by decide +kernel
theorem d_M_has_14 : decode b_M_has 14 = .ok (.lconst 1, 1) := by decide +kernel
theorem d_M_has_15 : decode b_M_has 15 = .ok (.land, 1) := by decide +kernel
theorem d_M_has_16 : decode b_M_has 16 = .ok (.lconst 0, 1) := by decide +kernel
theorem d_M_has_17 : decode b_M_has 17 = .ok (.lcmp, 1) := by decide +kernel
theorem d_M_has_18 : decode b_M_has 18 = .ok (.ifCond .eq 7, 3) := by decide +kernel
theorem d_M_has_21 : decode b_M_has 21 = .ok (.iconst 1, 1) := by decide +kernel
theorem d_M_has_22 : decode b_M_has 22 = .ok (.goto 4, 3) := by decide +kernel
theorem d_M_has_25 : decode b_M_has 25 = .ok (.iconst 0, 1) := by decide +kernel
theorem d_M_has_26 : decode b_M_has 26 = .ok (.ireturn, 1) := by decide +kernel
theorem d_M_address_0 : decode b_M_address 0 = .ok (.iconst 1, 1) := by decide +kernel
theorem d_M_address_1 : decode b_M_address 1 = .ok (.aload_n 0, 1) := by decide +kernel
theorem d_M_address_2 : decode b_M_address 2 = .ok (.getfield 19, 3) := by decide +kernel
theorem d_M_address_5 : decode b_M_address 5 = .ok (.iload_n 1, 1) := by decide +kernel
theorem d_M_address_6 : decode b_M_address 6 = .ok (.aload_n 0, 1) := by decide +kernel
theorem d_M_address_7 : decode b_M_address 7 = .ok (.getfield 9, 3) := by decide +kernel
theorem d_M_address_10 : decode b_M_address 10 = .ok (.idiv, 1) := by decide +kernel
theorem d_M_address_11 : decode b_M_address 11 = .ok (.iaload, 1) := by decide +kernel
theorem d_M_address_12 : decode b_M_address 12 = .ok (.iadd, 1) := by decide +kernel
theorem d_M_address_13 : decode b_M_address 13 = .ok (.aload_n 0, 1) := by decide +kernel
theorem d_M_address_14 : decode b_M_address 14 = .ok (.iload_n 1, 1) := by decide +kernel
theorem d_M_address_15 : decode b_M_address 15 = .ok (.aload_n 0, 1) := by decide +kernel
theorem d_M_address_16 : decode b_M_address 16 = .ok (.getfield 9, 3) := by decide +kernel
theorem d_M_address_19 : decode b_M_address 19 = .ok (.idiv, 1) := by decide +kernel
theorem d_M_address_20 : decode b_M_address 20 = .ok (.iload_n 1, 1) := by decide +kernel
theorem d_M_address_21 : decode b_M_address 21 = .ok (.aload_n 0, 1) := by decide +kernel
theorem d_M_address_22 : decode b_M_address 22 = .ok (.getfield 9, 3) := by decide +kernel
theorem d_M_address_25 : decode b_M_address 25 = .ok (.irem, 1) := by decide +kernel
theorem d_M_address_26 : decode b_M_address 26 = .ok (.invokevirtual 37, 3) := by decide +kernel
theorem d_M_address_29 : decode b_M_address 29 = .ok (.iadd, 1) := by decide +kernel
theorem d_M_address_30 : decode b_M_address 30 = .ok (.ireturn, 1) := by decide +kernel
theorem d_H_goes_0 : decode b_H_goes 0 = .ok (.iload_n 1, 1) := by decide +kernel
theorem d_H_goes_1 : decode b_H_goes 1 = .ok (.ifCond .ne 7, 3) := by decide +kernel
theorem d_H_goes_4 : decode b_H_goes 4 = .ok (.iconst 0, 1) := by decide +kernel
theorem d_H_goes_5 : decode b_H_goes 5 = .ok (.goto 11, 3) := by decide +kernel
theorem d_H_goes_8 : decode b_H_goes 8 = .ok (.aload_n 0, 1) := by decide +kernel
theorem d_H_goes_9 : decode b_H_goes 9 = .ok (.getfield 50, 3) := by decide +kernel
theorem d_H_goes_12 : decode b_H_goes 12 = .ok (.iload_n 1, 1) := by decide +kernel
theorem d_H_goes_13 : decode b_H_goes 13 = .ok (.invokevirtual 78, 3) := by decide +kernel
theorem d_H_goes_16 : decode b_H_goes 16 = .ok (.ireturn, 1) := by decide +kernel
theorem d_H_word_0 : decode b_H_word 0 = .ok (.iload_n 1, 1) := by decide +kernel
theorem d_H_word_1 : decode b_H_word 1 = .ok (.iconst 0, 1) := by decide +kernel
theorem d_H_word_2 : decode b_H_word 2 = .ok (.aload_n 0, 1) := by decide +kernel
theorem d_H_word_3 : decode b_H_word 3 = .ok (.getfield 26, 3) := by decide +kernel
theorem d_H_word_6 : decode b_H_word 6 = .ok (.invokestatic 64, 3) := by decide +kernel
theorem d_H_word_9 : decode b_H_word 9 = .ok (.ifCond .eq 12, 3) := by decide +kernel
theorem d_H_word_12 : decode b_H_word 12 = .ok (.aload_n 0, 1) := by decide +kernel
theorem d_H_word_13 : decode b_H_word 13 = .ok (.getfield 32, 3) := by decide +kernel
theorem d_H_word_16 : decode b_H_word 16 = .ok (.iload_n 1, 1) := by decide +kernel
theorem d_H_word_17 : decode b_H_word 17 = .ok (.iaload, 1) := by decide +kernel
theorem d_H_word_18 : decode b_H_word 18 = .ok (.goto 4, 3) := by decide +kernel
theorem d_H_word_21 : decode b_H_word 21 = .ok (.iconst (-1), 1) := by decide +kernel
theorem d_H_word_22 : decode b_H_word 22 = .ok (.ireturn, 1) := by decide +kernel
theorem d_H_rootOf_0 : decode b_H_rootOf 0 = .ok (.iload_n 1, 1) := by decide +kernel
theorem d_H_rootOf_1 : decode b_H_rootOf 1 = .ok (.iconst 0, 1) := by decide +kernel
theorem d_H_rootOf_2 : decode b_H_rootOf 2 = .ok (.bipush 7, 2) := by decide +kernel
theorem d_H_rootOf_4 : decode b_H_rootOf 4 = .ok (.invokestatic 64, 3) := by decide +kernel
theorem d_H_rootOf_7 : decode b_H_rootOf 7 = .ok (.ifCond .eq 12, 3) := by decide +kernel
theorem d_H_rootOf_10 : decode b_H_rootOf 10 = .ok (.aload_n 0, 1) := by decide +kernel
theorem d_H_rootOf_11 : decode b_H_rootOf 11 = .ok (.getfield 7, 3) := by decide +kernel
theorem d_H_rootOf_14 : decode b_H_rootOf 14 = .ok (.iload_n 1, 1) := by decide +kernel
theorem d_H_rootOf_15 : decode b_H_rootOf 15 = .ok (.iaload, 1) := by decide +kernel
theorem d_H_rootOf_16 : decode b_H_rootOf 16 = .ok (.goto 4, 3) := by decide +kernel
theorem d_H_rootOf_19 : decode b_H_rootOf 19 = .ok (.iconst (-1), 1) := by decide +kernel
theorem d_H_rootOf_20 : decode b_H_rootOf 20 = .ok (.ireturn, 1) := by decide +kernel
theorem d_H_bit_0 : decode b_H_bit 0 = .ok (.iload_n 1, 1) := by decide +kernel
theorem d_H_bit_1 : decode b_H_bit 1 = .ok (.iconst 0, 1) := by decide +kernel
theorem d_H_bit_2 : decode b_H_bit 2 = .ok (.aload_n 0, 1) := by decide +kernel
theorem d_H_bit_3 : decode b_H_bit 3 = .ok (.getfield 26, 3) := by decide +kernel
theorem d_H_bit_6 : decode b_H_bit 6 = .ok (.invokestatic 64, 3) := by decide +kernel
theorem d_H_bit_9 : decode b_H_bit 9 = .ok (.ifCond .eq 22, 3) := by decide +kernel
theorem d_H_bit_12 : decode b_H_bit 12 = .ok (.aload_n 0, 1) := by decide +kernel
theorem d_H_bit_13 : decode b_H_bit 13 = .ok (.getfield 50, 3) := by decide +kernel
theorem d_H_bit_16 : decode b_H_bit 16 = .ok (.iload_n 1, 1) := by decide +kernel
theorem d_H_bit_17 : decode b_H_bit 17 = .ok (.invokevirtual 81, 3) := by decide +kernel
theorem d_H_bit_20 : decode b_H_bit 20 = .ok (.ifCond .eq 7, 3) := by decide +kernel
theorem d_H_bit_23 : decode b_H_bit 23 = .ok (.iconst 1, 1) := by decide +kernel
theorem d_H_bit_24 : decode b_H_bit 24 = .ok (.goto 8, 3) := by decide +kernel
theorem d_H_bit_27 : decode b_H_bit 27 = .ok (.iconst 0, 1) := by decide +kernel
theorem d_H_bit_28 : decode b_H_bit 28 = .ok (.goto 4, 3) := by decide +kernel
theorem d_H_bit_31 : decode b_H_bit 31 = .ok (.iconst (-1), 1) := by decide +kernel
theorem d_H_bit_32 : decode b_H_bit 32 = .ok (.ireturn, 1) := by decide +kernel
theorem d_H_offset_0 : decode b_H_offset 0 = .ok (.iload_n 1, 1) := by decide +kernel
theorem d_H_offset_1 : decode b_H_offset 1 = .ok (.iconst 0, 1) := by decide +kernel
theorem d_H_offset_2 : decode b_H_offset 2 = .ok (.aload_n 0, 1) := by decide +kernel
theorem d_H_offset_3 : decode b_H_offset 3 = .ok (.getfield 50, 3) := by decide +kernel
theorem d_H_offset_6 : decode b_H_offset 6 = .ok (.getfield 112, 3) := by decide +kernel
theorem d_H_offset_9 : decode b_H_offset 9 = .ok (.arraylength, 1) := by decide +kernel
theorem d_H_offset_10 : decode b_H_offset 10 = .ok (.iconst 1, 1) := by decide +kernel
theorem d_H_offset_11 : decode b_H_offset 11 = .ok (.isub, 1) := by decide +kernel
theorem d_H_offset_12 : decode b_H_offset 12 = .ok (.invokestatic 64, 3) := by decide +kernel
theorem d_H_offset_15 : decode b_H_offset 15 = .ok (.ifCond .eq 15, 3) := by decide +kernel
theorem d_H_offset_18 : decode b_H_offset 18 = .ok (.aload_n 0, 1) := by decide +kernel
theorem d_H_offset_19 : decode b_H_offset 19 = .ok (.getfield 50, 3) := by decide +kernel
theorem d_H_offset_22 : decode b_H_offset 22 = .ok (.getfield 112, 3) := by decide +kernel
theorem d_H_offset_25 : decode b_H_offset 25 = .ok (.iload_n 1, 1) := by decide +kernel
theorem d_H_offset_26 : decode b_H_offset 26 = .ok (.iaload, 1) := by decide +kernel
theorem d_H_offset_27 : decode b_H_offset 27 = .ok (.goto 4, 3) := by decide +kernel
theorem d_H_offset_30 : decode b_H_offset 30 = .ok (.iconst (-1), 1) := by decide +kernel
theorem d_H_offset_31 : decode b_H_offset 31 = .ok (.ireturn, 1) := by decide +kernel
theorem d_H_moved_0 : decode b_H_moved 0 = .ok (.iload_n 1, 1) := by decide +kernel
theorem d_H_moved_1 : decode b_H_moved 1 = .ok (.iconst 0, 1) := by decide +kernel
theorem d_H_moved_2 : decode b_H_moved 2 = .ok (.aload_n 0, 1) := by decide +kernel
theorem d_H_moved_3 : decode b_H_moved 3 = .ok (.getfield 26, 3) := by decide +kernel
theorem d_H_moved_6 : decode b_H_moved 6 = .ok (.invokestatic 64, 3) := by decide +kernel
theorem d_H_moved_9 : decode b_H_moved 9 = .ok (.ifCond .eq 29, 3) := by decide +kernel
theorem d_H_moved_12 : decode b_H_moved 12 = .ok (.aload_n 0, 1) := by decide +kernel
theorem d_H_moved_13 : decode b_H_moved 13 = .ok (.getfield 50, 3) := by decide +kernel
theorem d_H_moved_16 : decode b_H_moved 16 = .ok (.iload_n 1, 1) := by decide +kernel
theorem d_H_moved_17 : decode b_H_moved 17 = .ok (.invokevirtual 81, 3) := by decide +kernel
theorem d_H_moved_20 : decode b_H_moved 20 = .ok (.ifCond .eq 14, 3) := by decide +kernel
theorem d_H_moved_23 : decode b_H_moved 23 = .ok (.aload_n 0, 1) := by decide +kernel
theorem d_H_moved_24 : decode b_H_moved 24 = .ok (.getfield 50, 3) := by decide +kernel
theorem d_H_moved_27 : decode b_H_moved 27 = .ok (.iload_n 1, 1) := by decide +kernel
theorem d_H_moved_28 : decode b_H_moved 28 = .ok (.invokevirtual 78, 3) := by decide +kernel
theorem d_H_moved_31 : decode b_H_moved 31 = .ok (.goto 8, 3) := by decide +kernel
theorem d_H_moved_34 : decode b_H_moved 34 = .ok (.iconst 0, 1) := by decide +kernel
theorem d_H_moved_35 : decode b_H_moved 35 = .ok (.goto 4, 3) := by decide +kernel
theorem d_H_moved_38 : decode b_H_moved 38 = .ok (.iconst (-1), 1) := by decide +kernel
theorem d_H_moved_39 : decode b_H_moved 39 = .ok (.ireturn, 1) := by decide +kernel
theorem d_H_reads_0 : decode b_H_reads 0 = .ok (.aload_n 0, 1) := by decide +kernel
theorem d_H_reads_1 : decode b_H_reads 1 = .ok (.getfield 106, 3) := by decide +kernel
theorem d_H_reads_4 : decode b_H_reads 4 = .ok (.ireturn, 1) := by decide +kernel
theorem d_H_near_0 : decode b_H_near 0 = .ok (.iload_n 1, 1) := by decide +kernel
theorem d_H_near_1 : decode b_H_near 1 = .ok (.iconst 0, 1) := by decide +kernel
theorem d_H_near_2 : decode b_H_near 2 = .ok (.bipush 100, 2) := by decide +kernel
theorem d_H_near_4 : decode b_H_near 4 = .ok (.invokestatic 64, 3) := by decide +kernel
theorem d_H_near_7 : decode b_H_near 7 = .ok (.ifCond .eq 11, 3) := by decide +kernel
theorem d_H_near_10 : decode b_H_near 10 = .ok (.aload_n 0, 1) := by decide +kernel
theorem d_H_near_11 : decode b_H_near 11 = .ok (.iload_n 1, 1) := by decide +kernel
theorem d_H_near_12 : decode b_H_near 12 = .ok (.invokevirtual 90, 3) := by decide +kernel
theorem d_H_near_15 : decode b_H_near 15 = .ok (.goto 4, 3) := by decide +kernel
theorem d_H_near_18 : decode b_H_near 18 = .ok (.iconst (-1), 1) := by decide +kernel
theorem d_H_near_19 : decode b_H_near 19 = .ok (.ireturn, 1) := by decide +kernel
theorem d_H_sound_0 : decode b_H_sound 0 = .ok (.iconst 1, 1) := by decide +kernel
theorem d_H_sound_1 : decode b_H_sound 1 = .ok (.istore_n 1, 1) := by decide +kernel
theorem d_H_sound_2 : decode b_H_sound 2 = .ok (.iconst 1, 1) := by decide +kernel
theorem d_H_sound_3 : decode b_H_sound 3 = .ok (.istore_n 2, 1) := by decide +kernel
theorem d_H_sound_4 : decode b_H_sound 4 = .ok (.iload_n 2, 1) := by decide +kernel
theorem d_H_sound_5 : decode b_H_sound 5 = .ok (.aload_n 0, 1) := by decide +kernel
theorem d_H_sound_6 : decode b_H_sound 6 = .ok (.getfield 13, 3) := by decide +kernel
theorem d_H_sound_9 : decode b_H_sound 9 = .ok (.if_icmp .ge 48, 3) := by decide +kernel
theorem d_H_sound_12 : decode b_H_sound 12 = .ok (.iconst 0, 1) := by decide +kernel
theorem d_H_sound_13 : decode b_H_sound 13 = .ok (.istore_n 3, 1) := by decide +kernel
theorem d_H_sound_14 : decode b_H_sound 14 = .ok (.iload_n 3, 1) := by decide +kernel
theorem d_H_sound_15 : decode b_H_sound 15 = .ok (.aload_n 0, 1) := by decide +kernel
theorem d_H_sound_16 : decode b_H_sound 16 = .ok (.iload_n 2, 1) := by decide +kernel
theorem d_H_sound_17 : decode b_H_sound 17 = .ok (.invokevirtual 54, 3) := by decide +kernel
end
section
theorem d_H_sound_20 : decode b_H_sound 20 = .ok (.if_icmp .ge 26, 3) := by decide +kernel
theorem d_H_sound_23 : decode b_H_sound 23 = .ok (.iload_n 1, 1) := by decide +kernel
theorem d_H_sound_24 : decode b_H_sound 24 = .ok (.aload_n 0, 1) := by decide +kernel
theorem d_H_sound_25 : decode b_H_sound 25 = .ok (.aload_n 0, 1) := by decide +kernel
theorem d_H_sound_26 : decode b_H_sound 26 = .ok (.getfield 32, 3) := by decide +kernel
theorem d_H_sound_29 : decode b_H_sound 29 = .ok (.iload_n 2, 1) := by decide +kernel
theorem d_H_sound_30 : decode b_H_sound 30 = .ok (.iconst 1, 1) := by decide +kernel
theorem d_H_sound_31 : decode b_H_sound 31 = .ok (.iadd, 1) := by decide +kernel
theorem d_H_sound_32 : decode b_H_sound 32 = .ok (.iload_n 3, 1) := by decide +kernel
theorem d_H_sound_33 : decode b_H_sound 33 = .ok (.iadd, 1) := by decide +kernel
theorem d_H_sound_34 : decode b_H_sound 34 = .ok (.iaload, 1) := by decide +kernel
theorem d_H_sound_35 : decode b_H_sound 35 = .ok (.invokevirtual 115, 3) := by decide +kernel
theorem d_H_sound_38 : decode b_H_sound 38 = .ok (.iand, 1) := by decide +kernel
theorem d_H_sound_39 : decode b_H_sound 39 = .ok (.istore_n 1, 1) := by decide +kernel
theorem d_H_sound_40 : decode b_H_sound 40 = .ok (.iinc 3 1, 3) := by decide +kernel
theorem d_H_sound_43 : decode b_H_sound 43 = .ok (.goto (-29), 3) := by decide +kernel
theorem d_H_sound_46 : decode b_H_sound 46 = .ok (.iload_n 2, 1) := by decide +kernel
theorem d_H_sound_47 : decode b_H_sound 47 = .ok (.aload_n 0, 1) := by decide +kernel
theorem d_H_sound_48 : decode b_H_sound 48 = .ok (.iload_n 2, 1) := by decide +kernel
theorem d_H_sound_49 : decode b_H_sound 49 = .ok (.invokevirtual 61, 3) := by decide +kernel
theorem d_H_sound_52 : decode b_H_sound 52 = .ok (.iadd, 1) := by decide +kernel
theorem d_H_sound_53 : decode b_H_sound 53 = .ok (.istore_n 2, 1) := by decide +kernel
theorem d_H_sound_54 : decode b_H_sound 54 = .ok (.goto (-50), 3) := by decide +kernel
theorem d_H_sound_57 : decode b_H_sound 57 = .ok (.iload_n 1, 1) := by decide +kernel
theorem d_H_sound_58 : decode b_H_sound 58 = .ok (.iload_n 2, 1) := by decide +kernel
theorem d_H_sound_59 : decode b_H_sound 59 = .ok (.aload_n 0, 1) := by decide +kernel
theorem d_H_sound_60 : decode b_H_sound 60 = .ok (.getfield 13, 3) := by decide +kernel
theorem d_H_sound_63 : decode b_H_sound 63 = .ok (.if_icmp .ne 7, 3) := by decide +kernel
theorem d_H_sound_66 : decode b_H_sound 66 = .ok (.iconst 1, 1) := by decide +kernel
theorem d_H_sound_67 : decode b_H_sound 67 = .ok (.goto 4, 3) := by decide +kernel
theorem d_H_sound_70 : decode b_H_sound 70 = .ok (.iconst 0, 1) := by decide +kernel
theorem d_H_sound_71 : decode b_H_sound 71 = .ok (.iand, 1) := by decide +kernel
theorem d_H_sound_72 : decode b_H_sound 72 = .ok (.istore_n 1, 1) := by decide +kernel
theorem d_H_sound_73 : decode b_H_sound 73 = .ok (.iconst 0, 1) := by decide +kernel
theorem d_H_sound_74 : decode b_H_sound 74 = .ok (.istore_n 3, 1) := by decide +kernel
theorem d_H_sound_75 : decode b_H_sound 75 = .ok (.iload_n 3, 1) := by decide +kernel
theorem d_H_sound_76 : decode b_H_sound 76 = .ok (.bipush 8, 2) := by decide +kernel
theorem d_H_sound_78 : decode b_H_sound 78 = .ok (.if_icmp .ge 22, 3) := by decide +kernel
theorem d_H_sound_81 : decode b_H_sound 81 = .ok (.iload_n 1, 1) := by decide +kernel
theorem d_H_sound_82 : decode b_H_sound 82 = .ok (.aload_n 0, 1) := by decide +kernel
theorem d_H_sound_83 : decode b_H_sound 83 = .ok (.aload_n 0, 1) := by decide +kernel
theorem d_H_sound_84 : decode b_H_sound 84 = .ok (.getfield 7, 3) := by decide +kernel
theorem d_H_sound_87 : decode b_H_sound 87 = .ok (.iload_n 3, 1) := by decide +kernel
theorem d_H_sound_88 : decode b_H_sound 88 = .ok (.iaload, 1) := by decide +kernel
theorem d_H_sound_89 : decode b_H_sound 89 = .ok (.invokevirtual 115, 3) := by decide +kernel
theorem d_H_sound_92 : decode b_H_sound 92 = .ok (.iand, 1) := by decide +kernel
theorem d_H_sound_93 : decode b_H_sound 93 = .ok (.istore_n 1, 1) := by decide +kernel
theorem d_H_sound_94 : decode b_H_sound 94 = .ok (.iinc 3 1, 3) := by decide +kernel
theorem d_H_sound_97 : decode b_H_sound 97 = .ok (.goto (-22), 3) := by decide +kernel
theorem d_H_sound_100 : decode b_H_sound 100 = .ok (.iconst 0, 1) := by decide +kernel
theorem d_H_sound_101 : decode b_H_sound 101 = .ok (.istore_n 3, 1) := by decide +kernel
theorem d_H_sound_102 : decode b_H_sound 102 = .ok (.iconst 0, 1) := by decide +kernel
theorem d_H_sound_103 : decode b_H_sound 103 = .ok (.istore 4, 2) := by decide +kernel
theorem d_H_sound_105 : decode b_H_sound 105 = .ok (.iload 4, 2) := by decide +kernel
theorem d_H_sound_107 : decode b_H_sound 107 = .ok (.aload_n 0, 1) := by decide +kernel
theorem d_H_sound_108 : decode b_H_sound 108 = .ok (.getfield 26, 3) := by decide +kernel
theorem d_H_sound_111 : decode b_H_sound 111 = .ok (.if_icmp .gt 47, 3) := by decide +kernel
theorem d_H_sound_114 : decode b_H_sound 114 = .ok (.aload_n 0, 1) := by decide +kernel
theorem d_H_sound_115 : decode b_H_sound 115 = .ok (.getfield 50, 3) := by decide +kernel
theorem d_H_sound_118 : decode b_H_sound 118 = .ok (.iload 4, 2) := by decide +kernel
theorem d_H_sound_120 : decode b_H_sound 120 = .ok (.invokevirtual 81, 3) := by decide +kernel
theorem d_H_sound_123 : decode b_H_sound 123 = .ok (.ifCond .eq 29, 3) := by decide +kernel
theorem d_H_sound_126 : decode b_H_sound 126 = .ok (.iload_n 1, 1) := by decide +kernel
theorem d_H_sound_127 : decode b_H_sound 127 = .ok (.aload_n 0, 1) := by decide +kernel
theorem d_H_sound_128 : decode b_H_sound 128 = .ok (.getfield 50, 3) := by decide +kernel
theorem d_H_sound_131 : decode b_H_sound 131 = .ok (.iload 4, 2) := by decide +kernel
theorem d_H_sound_133 : decode b_H_sound 133 = .ok (.invokevirtual 78, 3) := by decide +kernel
theorem d_H_sound_136 : decode b_H_sound 136 = .ok (.iconst 1, 1) := by decide +kernel
theorem d_H_sound_137 : decode b_H_sound 137 = .ok (.iload_n 3, 1) := by decide +kernel
theorem d_H_sound_138 : decode b_H_sound 138 = .ok (.iadd, 1) := by decide +kernel
theorem d_H_sound_139 : decode b_H_sound 139 = .ok (.if_icmp .ne 7, 3) := by decide +kernel
theorem d_H_sound_142 : decode b_H_sound 142 = .ok (.iconst 1, 1) := by decide +kernel
theorem d_H_sound_143 : decode b_H_sound 143 = .ok (.goto 4, 3) := by decide +kernel
theorem d_H_sound_146 : decode b_H_sound 146 = .ok (.iconst 0, 1) := by decide +kernel
theorem d_H_sound_147 : decode b_H_sound 147 = .ok (.iand, 1) := by decide +kernel
theorem d_H_sound_148 : decode b_H_sound 148 = .ok (.istore_n 1, 1) := by decide +kernel
theorem d_H_sound_149 : decode b_H_sound 149 = .ok (.iinc 3 1, 3) := by decide +kernel
theorem d_H_sound_152 : decode b_H_sound 152 = .ok (.iinc 4 1, 3) := by decide +kernel
theorem d_H_sound_155 : decode b_H_sound 155 = .ok (.goto (-50), 3) := by decide +kernel
theorem d_H_sound_158 : decode b_H_sound 158 = .ok (.iload_n 1, 1) := by decide +kernel
theorem d_H_sound_159 : decode b_H_sound 159 = .ok (.ireturn, 1) := by decide +kernel
theorem d_H_leadsWell_0 : decode b_H_leadsWell 0 = .ok (.iload_n 1, 1) := by decide +kernel
theorem d_H_leadsWell_1 : decode b_H_leadsWell 1 = .ok (.ifCond .eq 11, 3) := by decide +kernel
theorem d_H_leadsWell_4 : decode b_H_leadsWell 4 = .ok (.aload_n 0, 1) := by decide +kernel
theorem d_H_leadsWell_5 : decode b_H_leadsWell 5 = .ok (.iload_n 1, 1) := by decide +kernel
theorem d_H_leadsWell_6 : decode b_H_leadsWell 6 = .ok (.invokevirtual 71, 3) := by decide +kernel
theorem d_H_leadsWell_9 : decode b_H_leadsWell 9 = .ok (.ifCond .eq 7, 3) := by decide +kernel
theorem d_H_leadsWell_12 : decode b_H_leadsWell 12 = .ok (.iconst 1, 1) := by decide +kernel
theorem d_H_leadsWell_13 : decode b_H_leadsWell 13 = .ok (.goto 4, 3) := by decide +kernel
theorem d_H_leadsWell_16 : decode b_H_leadsWell 16 = .ok (.iconst 0, 1) := by decide +kernel
theorem d_H_leadsWell_17 : decode b_H_leadsWell 17 = .ok (.ireturn, 1) := by decide +kernel
theorem d_H_count_0 : decode b_H_count 0 = .ok (.iload_n 1, 1) := by decide +kernel
theorem d_H_count_1 : decode b_H_count 1 = .ok (.tableswitch 64 0 4 #[35, 40, 45, 50, 55], 35) := by decide +kernel
theorem d_H_count_36 : decode b_H_count 36 = .ok (.aload_n 0, 1) := by decide +kernel
theorem d_H_count_37 : decode b_H_count 37 = .ok (.getfield 13, 3) := by decide +kernel
theorem d_H_count_40 : decode b_H_count 40 = .ok (.ireturn, 1) := by decide +kernel
theorem d_H_count_41 : decode b_H_count 41 = .ok (.aload_n 0, 1) := by decide +kernel
theorem d_H_count_42 : decode b_H_count 42 = .ok (.getfield 68, 3) := by decide +kernel
theorem d_H_count_45 : decode b_H_count 45 = .ok (.ireturn, 1) := by decide +kernel
theorem d_H_count_46 : decode b_H_count 46 = .ok (.aload_n 0, 1) := by decide +kernel
theorem d_H_count_47 : decode b_H_count 47 = .ok (.getfield 109, 3) := by decide +kernel
theorem d_H_count_50 : decode b_H_count 50 = .ok (.ireturn, 1) := by decide +kernel
theorem d_H_count_51 : decode b_H_count 51 = .ok (.aload_n 0, 1) := by decide +kernel
theorem d_H_count_52 : decode b_H_count 52 = .ok (.getfield 26, 3) := by decide +kernel
theorem d_H_count_55 : decode b_H_count 55 = .ok (.ireturn, 1) := by decide +kernel
theorem d_H_count_56 : decode b_H_count 56 = .ok (.aload_n 0, 1) := by decide +kernel
theorem d_H_count_57 : decode b_H_count 57 = .ok (.getfield 50, 3) := by decide +kernel
theorem d_H_count_60 : decode b_H_count 60 = .ok (.getfield 112, 3) := by decide +kernel
theorem d_H_count_63 : decode b_H_count 63 = .ok (.arraylength, 1) := by decide +kernel
theorem d_H_count_64 : decode b_H_count 64 = .ok (.ireturn, 1) := by decide +kernel
theorem d_H_count_65 : decode b_H_count 65 = .ok (.iconst (-1), 1) := by decide +kernel
theorem d_H_count_66 : decode b_H_count 66 = .ok (.ireturn, 1) := by decide +kernel
theorem d_L_cell_0 : decode b_L_cell 0 = .ok (.iload_n 1, 1) := by decide +kernel
theorem d_L_cell_1 : decode b_L_cell 1 = .ok (.aload_n 0, 1) := by decide +kernel
theorem d_L_cell_2 : decode b_L_cell 2 = .ok (.arraylength, 1) := by decide +kernel
theorem d_L_cell_3 : decode b_L_cell 3 = .ok (.if_icmp .ge 9, 3) := by decide +kernel
theorem d_L_cell_6 : decode b_L_cell 6 = .ok (.aload_n 0, 1) := by decide +kernel
theorem d_L_cell_7 : decode b_L_cell 7 = .ok (.iload_n 1, 1) := by decide +kernel
theorem d_L_cell_8 : decode b_L_cell 8 = .ok (.iaload, 1) := by decide +kernel
theorem d_L_cell_9 : decode b_L_cell 9 = .ok (.goto 4, 3) := by decide +kernel
theorem d_L_cell_12 : decode b_L_cell 12 = .ok (.iconst 0, 1) := by decide +kernel
theorem d_L_cell_13 : decode b_L_cell 13 = .ok (.ireturn, 1) := by decide +kernel
theorem d_D_init_0 : decode b_D_init 0 = .ok (.aload_n 0, 1) := by decide +kernel
theorem d_D_init_1 : decode b_D_init 1 = .ok (.invokespecial 1, 3) := by decide +kernel
theorem d_D_init_4 : decode b_D_init 4 = .ok (.aload_n 0, 1) := by decide +kernel
theorem d_D_init_5 : decode b_D_init 5 = .ok (.iconst 1, 1) := by decide +kernel
theorem d_D_init_6 : decode b_D_init 6 = .ok (.putfield 7, 3) := by decide +kernel
theorem d_D_init_9 : decode b_D_init 9 = .ok (.aload_n 0, 1) := by decide +kernel
theorem d_D_init_10 : decode b_D_init 10 = .ok (.sipush 4001, 3) := by decide +kernel
theorem d_D_init_13 : decode b_D_init 13 = .ok (.newarray .int, 2) := by decide +kernel
theorem d_D_init_15 : decode b_D_init 15 = .ok (.putfield 13, 3) := by decide +kernel
theorem d_D_init_18 : decode b_D_init 18 = .ok (.aload_n 0, 1) := by decide +kernel
theorem d_D_init_19 : decode b_D_init 19 = .ok (.sipush 4001, 3) := by decide +kernel
theorem d_D_init_22 : decode b_D_init 22 = .ok (.newarray .int, 2) := by decide +kernel
theorem d_D_init_24 : decode b_D_init 24 = .ok (.putfield 17, 3) := by decide +kernel
theorem d_D_init_27 : decode b_D_init 27 = .ok (.aload_n 0, 1) := by decide +kernel
theorem d_D_init_28 : decode b_D_init 28 = .ok (.sipush 4002, 3) := by decide +kernel
theorem d_D_init_31 : decode b_D_init 31 = .ok (.newarray .boolean, 2) := by decide +kernel
theorem d_D_init_33 : decode b_D_init 33 = .ok (.putfield 20, 3) := by decide +kernel
theorem d_D_init_36 : decode b_D_init 36 = .ok (.aload_n 0, 1) := by decide +kernel
theorem d_D_init_37 : decode b_D_init 37 = .ok (.sipush 4002, 3) := by decide +kernel
theorem d_D_init_40 : decode b_D_init 40 = .ok (.newarray .boolean, 2) := by decide +kernel
theorem d_D_init_42 : decode b_D_init 42 = .ok (.putfield 24, 3) := by decide +kernel
theorem d_D_init_45 : decode b_D_init 45 = .ok (.aload_n 0, 1) := by decide +kernel
theorem d_D_init_46 : decode b_D_init 46 = .ok (.bipush 8, 2) := by decide +kernel
theorem d_D_init_48 : decode b_D_init 48 = .ok (.newarray .int, 2) := by decide +kernel
theorem d_D_init_50 : decode b_D_init 50 = .ok (.putfield 27, 3) := by decide +kernel
theorem d_D_init_53 : decode b_D_init 53 = .ok (.aload_n 0, 1) := by decide +kernel
theorem d_D_init_54 : decode b_D_init 54 = .ok (.sipush 4001, 3) := by decide +kernel
theorem d_D_init_57 : decode b_D_init 57 = .ok (.newarray .int, 2) := by decide +kernel
theorem d_D_init_59 : decode b_D_init 59 = .ok (.putfield 30, 3) := by decide +kernel
theorem d_D_init_62 : decode b_D_init 62 = .ok (.aload_n 0, 1) := by decide +kernel
theorem d_D_init_63 : decode b_D_init 63 = .ok (.sipush 4001, 3) := by decide +kernel
theorem d_D_init_66 : decode b_D_init 66 = .ok (.newarray .int, 2) := by decide +kernel
theorem d_D_init_68 : decode b_D_init 68 = .ok (.putfield 33, 3) := by decide +kernel
theorem d_D_init_71 : decode b_D_init 71 = .ok (.aload_n 0, 1) := by decide +kernel
theorem d_D_init_72 : decode b_D_init 72 = .ok (.iload_n 1, 1) := by decide +kernel
theorem d_D_init_73 : decode b_D_init 73 = .ok (.bipush 16, 2) := by decide +kernel
theorem d_D_init_75 : decode b_D_init 75 = .ok (.if_icmp .ge 8, 3) := by decide +kernel
theorem d_D_init_78 : decode b_D_init 78 = .ok (.bipush 16, 2) := by decide +kernel
theorem d_D_init_80 : decode b_D_init 80 = .ok (.goto 17, 3) := by decide +kernel
theorem d_D_init_83 : decode b_D_init 83 = .ok (.iload_n 1, 1) := by decide +kernel
theorem d_D_init_84 : decode b_D_init 84 = .ok (.sipush 4000, 3) := by decide +kernel
theorem d_D_init_87 : decode b_D_init 87 = .ok (.if_icmp .le 9, 3) := by decide +kernel
theorem d_D_init_90 : decode b_D_init 90 = .ok (.sipush 4000, 3) := by decide +kernel
theorem d_D_init_93 : decode b_D_init 93 = .ok (.goto 4, 3) := by decide +kernel
theorem d_D_init_96 : decode b_D_init 96 = .ok (.iload_n 1, 1) := by decide +kernel
theorem d_D_init_97 : decode b_D_init 97 = .ok (.putfield 36, 3) := by decide +kernel
theorem d_D_init_100 : decode b_D_init 100 = .ok (.aload_n 0, 1) := by decide +kernel
theorem d_D_init_101 : decode b_D_init 101 = .ok (.iload_n 2, 1) := by decide +kernel
theorem d_D_init_102 : decode b_D_init 102 = .ok (.bipush 8, 2) := by decide +kernel
theorem d_D_init_104 : decode b_D_init 104 = .ok (.if_icmp .eq 15, 3) := by decide +kernel
theorem d_D_init_107 : decode b_D_init 107 = .ok (.iload_n 2, 1) := by decide +kernel
theorem d_D_init_108 : decode b_D_init 108 = .ok (.bipush 16, 2) := by decide +kernel
theorem d_D_init_110 : decode b_D_init 110 = .ok (.if_icmp .eq 9, 3) := by decide +kernel
theorem d_D_init_113 : decode b_D_init 113 = .ok (.iload_n 2, 1) := by decide +kernel
theorem d_D_init_114 : decode b_D_init 114 = .ok (.bipush 64, 2) := by decide +kernel
theorem d_D_init_116 : decode b_D_init 116 = .ok (.if_icmp .ne 7, 3) := by decide +kernel
theorem d_D_init_119 : decode b_D_init 119 = .ok (.iload_n 2, 1) := by decide +kernel
theorem d_D_init_120 : decode b_D_init 120 = .ok (.goto 5, 3) := by decide +kernel
theorem d_D_init_123 : decode b_D_init 123 = .ok (.bipush 32, 2) := by decide +kernel
theorem d_D_init_125 : decode b_D_init 125 = .ok (.putfield 39, 3) := by decide +kernel
theorem d_D_init_128 : decode b_D_init 128 = .ok (.return_, 1) := by decide +kernel
theorem d_D_make_0 : decode b_D_make 0 = .ok (.iload_n 1, 1) := by decide +kernel
theorem d_D_make_1 : decode b_D_make 1 = .ok (.iconst 0, 1) := by decide +kernel
theorem d_D_make_2 : decode b_D_make 2 = .ok (.bipush 15, 2) := by decide +kernel
theorem d_D_make_4 : decode b_D_make 4 = .ok (.invokestatic 52, 3) := by decide +kernel
theorem d_D_make_7 : decode b_D_make 7 = .ok (.ifCond .eq 13, 3) := by decide +kernel
theorem d_D_make_10 : decode b_D_make 10 = .ok (.iload_n 2, 1) := by decide +kernel
theorem d_D_make_11 : decode b_D_make 11 = .ok (.iconst 0, 1) := by decide +kernel
theorem d_D_make_12 : decode b_D_make 12 = .ok (.bipush 100, 2) := by decide +kernel
theorem d_D_make_14 : decode b_D_make 14 = .ok (.invokestatic 52, 3) := by decide +kernel
theorem d_D_make_17 : decode b_D_make 17 = .ok (.ifCond .ne 5, 3) := by decide +kernel
theorem d_D_make_20 : decode b_D_make 20 = .ok (.iconst (-1), 1) := by decide +kernel
theorem d_D_make_21 : decode b_D_make 21 = .ok (.ireturn, 1) := by decide +kernel
theorem d_D_make_22 : decode b_D_make 22 = .ok (.aload_n 0, 1) := by decide +kernel
theorem d_D_make_23 : decode b_D_make 23 = .ok (.getfield 7, 3) := by decide +kernel
theorem d_D_make_26 : decode b_D_make 26 = .ok (.iload_n 1, 1) := by decide +kernel
theorem d_D_make_27 : decode b_D_make 27 = .ok (.iadd, 1) := by decide +kernel
theorem d_D_make_28 : decode b_D_make 28 = .ok (.iload_n 2, 1) := by decide +kernel
theorem d_D_make_29 : decode b_D_make 29 = .ok (.iadd, 1) := by decide +kernel
theorem d_D_make_30 : decode b_D_make 30 = .ok (.aload_n 0, 1) := by decide +kernel
theorem d_D_make_31 : decode b_D_make 31 = .ok (.getfield 36, 3) := by decide +kernel
theorem d_D_make_34 : decode b_D_make 34 = .ok (.if_icmp .le 5, 3) := by decide +kernel
theorem d_D_make_37 : decode b_D_make 37 = .ok (.iconst 0, 1) := by decide +kernel
theorem d_D_make_38 : decode b_D_make 38 = .ok (.ireturn, 1) := by decide +kernel
theorem d_D_make_39 : decode b_D_make 39 = .ok (.aload_n 0, 1) := by decide +kernel
theorem d_D_make_40 : decode b_D_make 40 = .ok (.getfield 7, 3) := by decide +kernel
theorem d_D_make_43 : decode b_D_make 43 = .ok (.istore_n 3, 1) := by decide +kernel
theorem d_D_make_44 : decode b_D_make 44 = .ok (.aload_n 0, 1) := by decide +kernel
theorem d_D_make_45 : decode b_D_make 45 = .ok (.getfield 13, 3) := by decide +kernel
theorem d_D_make_48 : decode b_D_make 48 = .ok (.iload_n 3, 1) := by decide +kernel
theorem d_D_make_49 : decode b_D_make 49 = .ok (.sipush 256, 3) := by decide +kernel
theorem d_D_make_52 : decode b_D_make 52 = .ok (.iload_n 2, 1) := by decide +kernel
theorem d_D_make_53 : decode b_D_make 53 = .ok (.imul, 1) := by decide +kernel
theorem d_D_make_54 : decode b_D_make 54 = .ok (.bipush 16, 2) := by decide +kernel
theorem d_D_make_56 : decode b_D_make 56 = .ok (.iload_n 1, 1) := by decide +kernel
theorem d_D_make_57 : decode b_D_make 57 = .ok (.imul, 1) := by decide +kernel
theorem d_D_make_58 : decode b_D_make 58 = .ok (.iadd, 1) := by decide +kernel
theorem d_D_make_59 : decode b_D_make 59 = .ok (.iastore, 1) := by decide +kernel
theorem d_D_make_60 : decode b_D_make 60 = .ok (.iconst 1, 1) := by decide +kernel
theorem d_D_make_61 : decode b_D_make 61 = .ok (.istore 4, 2) := by decide +kernel
theorem d_D_make_63 : decode b_D_make 63 = .ok (.iload 4, 2) := by decide +kernel
theorem d_D_make_65 : decode b_D_make 65 = .ok (.iload_n 1, 1) := by decide +kernel
theorem d_D_make_66 : decode b_D_make 66 = .ok (.iload_n 2, 1) := by decide +kernel
theorem d_D_make_67 : decode b_D_make 67 = .ok (.iadd, 1) := by decide +kernel
theorem d_D_make_68 : decode b_D_make 68 = .ok (.if_icmp .gt 19, 3) := by decide +kernel
theorem d_D_make_71 : decode b_D_make 71 = .ok (.aload_n 0, 1) := by decide +kernel
theorem d_D_make_72 : decode b_D_make 72 = .ok (.getfield 13, 3) := by decide +kernel
theorem d_D_make_75 : decode b_D_make 75 = .ok (.iload_n 3, 1) := by decide +kernel
theorem d_D_make_76 : decode b_D_make 76 = .ok (.iload 4, 2) := by decide +kernel
theorem d_D_make_78 : decode b_D_make 78 = .ok (.iadd, 1) := by decide +kernel
theorem d_D_make_79 : decode b_D_make 79 = .ok (.iconst 0, 1) := by decide +kernel
theorem d_D_make_80 : decode b_D_make 80 = .ok (.iastore, 1) := by decide +kernel
theorem d_D_make_81 : decode b_D_make 81 = .ok (.iinc 4 1, 3) := by decide +kernel
theorem d_D_make_84 : decode b_D_make 84 = .ok (.goto (-21), 3) := by decide +kernel
theorem d_D_make_87 : decode b_D_make 87 = .ok (.aload_n 0, 1) := by decide +kernel
theorem d_D_make_88 : decode b_D_make 88 = .ok (.getfield 20, 3) := by decide +kernel
theorem d_D_make_91 : decode b_D_make 91 = .ok (.iload_n 3, 1) := by decide +kernel
theorem d_D_make_92 : decode b_D_make 92 = .ok (.iconst 1, 1) := by decide +kernel
theorem d_D_make_93 : decode b_D_make 93 = .ok (.bastore, 1) := by decide +kernel
theorem d_D_make_94 : decode b_D_make 94 = .ok (.aload_n 0, 1) := by decide +kernel
theorem d_D_make_95 : decode b_D_make 95 = .ok (.aload_n 0, 1) := by decide +kernel
theorem d_D_make_96 : decode b_D_make 96 = .ok (.getfield 7, 3) := by decide +kernel
theorem d_D_make_99 : decode b_D_make 99 = .ok (.iconst 1, 1) := by decide +kernel
theorem d_D_make_100 : decode b_D_make 100 = .ok (.iadd, 1) := by decide +kernel
theorem d_D_make_101 : decode b_D_make 101 = .ok (.iload_n 1, 1) := by decide +kernel
theorem d_D_make_102 : decode b_D_make 102 = .ok (.iadd, 1) := by decide +kernel
theorem d_D_make_103 : decode b_D_make 103 = .ok (.iload_n 2, 1) := by decide +kernel
theorem d_D_make_104 : decode b_D_make 104 = .ok (.iadd, 1) := by decide +kernel
theorem d_D_make_105 : decode b_D_make 105 = .ok (.putfield 7, 3) := by decide +kernel
theorem d_D_make_108 : decode b_D_make 108 = .ok (.aload_n 0, 1) := by decide +kernel
theorem d_D_make_109 : decode b_D_make 109 = .ok (.dup, 1) := by decide +kernel
theorem d_D_make_110 : decode b_D_make 110 = .ok (.getfield 56, 3) := by decide +kernel
theorem d_D_make_113 : decode b_D_make 113 = .ok (.iconst 1, 1) := by decide +kernel
theorem d_D_make_114 : decode b_D_make 114 = .ok (.iadd, 1) := by decide +kernel
theorem d_D_make_115 : decode b_D_make 115 = .ok (.putfield 56, 3) := by decide +kernel
theorem d_D_make_118 : decode b_D_make 118 = .ok (.iload_n 3, 1) := by decide +kernel
theorem d_D_make_119 : decode b_D_make 119 = .ok (.ireturn, 1) := by decide +kernel
theorem d_D_isIn_0 : decode b_D_isIn 0 = .ok (.iload_n 0, 1) := by decide +kernel
theorem d_D_isIn_1 : decode b_D_isIn 1 = .ok (.iload_n 1, 1) := by decide +kernel
theorem d_D_isIn_2 : decode b_D_isIn 2 = .ok (.if_icmp .lt 12, 3) := by decide +kernel
theorem d_D_isIn_5 : decode b_D_isIn 5 = .ok (.iload_n 0, 1) := by decide +kernel
theorem d_D_isIn_6 : decode b_D_isIn 6 = .ok (.iload_n 2, 1) := by decide +kernel
theorem d_D_isIn_7 : decode b_D_isIn 7 = .ok (.if_icmp .gt 7, 3) := by decide +kernel
theorem d_D_isIn_10 : decode b_D_isIn 10 = .ok (.iconst 1, 1) := by decide +kernel
theorem d_D_isIn_11 : decode b_D_isIn 11 = .ok (.goto 4, 3) := by decide +kernel
theorem d_D_isIn_14 : decode b_D_isIn 14 = .ok (.iconst 0, 1) := by decide +kernel
theorem d_D_isIn_15 : decode b_D_isIn 15 = .ok (.ireturn, 1) := by decide +kernel
theorem d_D_isObject_0 : decode b_D_isObject 0 = .ok (.iload_n 1, 1) := by decide +kernel
theorem d_D_isObject_1 : decode b_D_isObject 1 = .ok (.iconst 1, 1) := by decide +kernel
theorem d_D_isObject_2 : decode b_D_isObject 2 = .ok (.aload_n 0, 1) := by decide +kernel
theorem d_D_isObject_3 : decode b_D_isObject 3 = .ok (.getfield 36, 3) := by decide +kernel
theorem d_D_isObject_6 : decode b_D_isObject 6 = .ok (.invokestatic 52, 3) := by decide +kernel
theorem d_D_isObject_9 : decode b_D_isObject 9 = .ok (.ifCond .eq 16, 3) := by decide +kernel
theorem d_D_isObject_12 : decode b_D_isObject 12 = .ok (.aload_n 0, 1) := by decide +kernel
theorem d_D_isObject_13 : decode b_D_isObject 13 = .ok (.getfield 20, 3) := by decide +kernel
theorem d_D_isObject_16 : decode b_D_isObject 16 = .ok (.iload_n 1, 1) := by decide +kernel
theorem d_D_isObject_17 : decode b_D_isObject 17 = .ok (.baload, 1) := by decide +kernel
theorem d_D_isObject_18 : decode b_D_isObject 18 = .ok (.ifCond .eq 7, 3) := by decide +kernel
theorem d_D_isObject_21 : decode b_D_isObject 21 = .ok (.iconst 1, 1) := by decide +kernel
theorem d_D_isObject_22 : decode b_D_isObject 22 = .ok (.goto 4, 3) := by decide +kernel
theorem d_D_isObject_25 : decode b_D_isObject 25 = .ok (.iconst 0, 1) := by decide +kernel
theorem d_D_isObject_26 : decode b_D_isObject 26 = .ok (.ireturn, 1) := by decide +kernel
theorem d_D_refer_0 : decode b_D_refer 0 = .ok (.aload_n 0, 1) := by decide +kernel
theorem d_D_refer_1 : decode b_D_refer 1 = .ok (.iload_n 1, 1) := by decide +kernel
theorem d_D_refer_2 : decode b_D_refer 2 = .ok (.invokevirtual 59, 3) := by decide +kernel
theorem d_D_refer_5 : decode b_D_refer 5 = .ok (.ifCond .eq 26, 3) := by decide +kernel
theorem d_D_refer_8 : decode b_D_refer 8 = .ok (.aload_n 0, 1) := by decide +kernel
theorem d_D_refer_9 : decode b_D_refer 9 = .ok (.iload_n 3, 1) := by decide +kernel
theorem d_D_refer_10 : decode b_D_refer 10 = .ok (.invokevirtual 63, 3) := by decide +kernel
theorem d_D_refer_13 : decode b_D_refer 13 = .ok (.ifCond .eq 18, 3) := by decide +kernel
theorem d_D_refer_16 : decode b_D_refer 16 = .ok (.iload_n 2, 1) := by decide +kernel
theorem d_D_refer_17 : decode b_D_refer 17 = .ok (.iconst 0, 1) := by decide +kernel
theorem d_D_refer_18 : decode b_D_refer 18 = .ok (.aload_n 0, 1) := by decide +kernel
theorem d_D_refer_19 : decode b_D_refer 19 = .ok (.iload_n 1, 1) := by decide +kernel
theorem d_D_refer_20 : decode b_D_refer 20 = .ok (.invokevirtual 45, 3) := by decide +kernel
theorem d_D_refer_23 : decode b_D_refer 23 = .ok (.iconst 1, 1) := by decide +kernel
theorem d_D_refer_24 : decode b_D_refer 24 = .ok (.isub, 1) := by decide +kernel
theorem d_D_refer_25 : decode b_D_refer 25 = .ok (.invokestatic 52, 3) := by decide +kernel
theorem d_D_refer_28 : decode b_D_refer 28 = .ok (.ifCond .ne 5, 3) := by decide +kernel
theorem d_D_refer_31 : decode b_D_refer 31 = .ok (.iconst 0, 1) := by decide +kernel
theorem d_D_refer_32 : decode b_D_refer 32 = .ok (.ireturn, 1) := by decide +kernel
theorem d_D_refer_33 : decode b_D_refer 33 = .ok (.aload_n 0, 1) := by decide +kernel
theorem d_D_refer_34 : decode b_D_refer 34 = .ok (.getfield 13, 3) := by decide +kernel
theorem d_D_refer_37 : decode b_D_refer 37 = .ok (.iload_n 1, 1) := by decide +kernel
theorem d_D_refer_38 : decode b_D_refer 38 = .ok (.iconst 1, 1) := by decide +kernel
theorem d_D_refer_39 : decode b_D_refer 39 = .ok (.iadd, 1) := by decide +kernel
theorem d_D_refer_40 : decode b_D_refer 40 = .ok (.iload_n 2, 1) := by decide +kernel
theorem d_D_refer_41 : decode b_D_refer 41 = .ok (.iadd, 1) := by decide +kernel
theorem d_D_refer_42 : decode b_D_refer 42 = .ok (.iload_n 3, 1) := by decide +kernel
theorem d_D_refer_43 : decode b_D_refer 43 = .ok (.iastore, 1) := by decide +kernel
theorem d_D_refer_44 : decode b_D_refer 44 = .ok (.iconst 1, 1) := by decide +kernel
theorem d_D_refer_45 : decode b_D_refer 45 = .ok (.ireturn, 1) := by decide +kernel
theorem d_D_isLead_0 : decode b_D_isLead 0 = .ok (.iload_n 1, 1) := by decide +kernel
theorem d_D_isLead_1 : decode b_D_isLead 1 = .ok (.ifCond .eq 11, 3) := by decide +kernel
theorem d_D_isLead_4 : decode b_D_isLead 4 = .ok (.aload_n 0, 1) := by decide +kernel
theorem d_D_isLead_5 : decode b_D_isLead 5 = .ok (.iload_n 1, 1) := by decide +kernel
theorem d_D_isLead_6 : decode b_D_isLead 6 = .ok (.invokevirtual 59, 3) := by decide +kernel
theorem d_D_isLead_9 : decode b_D_isLead 9 = .ok (.ifCond .eq 7, 3) := by decide +kernel
theorem d_D_isLead_12 : decode b_D_isLead 12 = .ok (.iconst 1, 1) := by decide +kernel
theorem d_D_isLead_13 : decode b_D_isLead 13 = .ok (.goto 4, 3) := by decide +kernel
theorem d_D_isLead_16 : decode b_D_isLead 16 = .ok (.iconst 0, 1) := by decide +kernel
theorem d_D_isLead_17 : decode b_D_isLead 17 = .ok (.ireturn, 1) := by decide +kernel
theorem d_D_references_0 : decode b_D_references 0 = .ok (.aload_n 0, 1) := by decide +kernel
theorem d_D_references_1 : decode b_D_references 1 = .ok (.getfield 13, 3) := by decide +kernel
theorem d_D_references_4 : decode b_D_references 4 = .ok (.iload_n 1, 1) := by decide +kernel
theorem d_D_references_5 : decode b_D_references 5 = .ok (.iaload, 1) := by decide +kernel
theorem d_D_references_6 : decode b_D_references 6 = .ok (.bipush 16, 2) := by decide +kernel
theorem d_D_references_8 : decode b_D_references 8 = .ok (.idiv, 1) := by decide +kernel
theorem d_D_references_9 : decode b_D_references 9 = .ok (.bipush 16, 2) := by decide +kernel
theorem d_D_references_11 : decode b_D_references 11 = .ok (.irem, 1) := by decide +kernel
theorem d_D_references_12 : decode b_D_references 12 = .ok (.ireturn, 1) := by decide +kernel
theorem d_D_set_0 : decode b_D_set 0 = .ok (.aload_n 0, 1) := by decide +kernel
theorem d_D_set_1 : decode b_D_set 1 = .ok (.iload_n 1, 1) := by decide +kernel
theorem d_D_set_2 : decode b_D_set 2 = .ok (.invokevirtual 59, 3) := by decide +kernel
theorem d_D_set_5 : decode b_D_set 5 = .ok (.ifCond .eq 18, 3) := by decide +kernel
theorem d_D_set_8 : decode b_D_set 8 = .ok (.iload_n 2, 1) := by decide +kernel
theorem d_D_set_9 : decode b_D_set 9 = .ok (.iconst 0, 1) := by decide +kernel
theorem d_D_set_10 : decode b_D_set 10 = .ok (.aload_n 0, 1) := by decide +kernel
theorem d_D_set_11 : decode b_D_set 11 = .ok (.iload_n 1, 1) := by decide +kernel
theorem d_D_set_12 : decode b_D_set 12 = .ok (.invokevirtual 49, 3) := by decide +kernel
theorem d_D_set_15 : decode b_D_set 15 = .ok (.iconst 1, 1) := by decide +kernel
theorem d_D_set_16 : decode b_D_set 16 = .ok (.isub, 1) := by decide +kernel
theorem d_D_set_17 : decode b_D_set 17 = .ok (.invokestatic 52, 3) := by decide +kernel
theorem d_D_set_20 : decode b_D_set 20 = .ok (.ifCond .ne 5, 3) := by decide +kernel
theorem d_D_set_23 : decode b_D_set 23 = .ok (.iconst 0, 1) := by decide +kernel
theorem d_D_set_24 : decode b_D_set 24 = .ok (.ireturn, 1) := by decide +kernel
theorem d_D_set_25 : decode b_D_set 25 = .ok (.aload_n 0, 1) := by decide +kernel
theorem d_D_set_26 : decode b_D_set 26 = .ok (.getfield 13, 3) := by decide +kernel
theorem d_D_set_29 : decode b_D_set 29 = .ok (.iload_n 1, 1) := by decide +kernel
theorem d_D_set_30 : decode b_D_set 30 = .ok (.iconst 1, 1) := by decide +kernel
theorem d_D_set_31 : decode b_D_set 31 = .ok (.iadd, 1) := by decide +kernel
theorem d_D_set_32 : decode b_D_set 32 = .ok (.aload_n 0, 1) := by decide +kernel
theorem d_D_set_33 : decode b_D_set 33 = .ok (.iload_n 1, 1) := by decide +kernel
theorem d_D_set_34 : decode b_D_set 34 = .ok (.invokevirtual 45, 3) := by decide +kernel
theorem d_D_set_37 : decode b_D_set 37 = .ok (.iadd, 1) := by decide +kernel
theorem d_D_set_38 : decode b_D_set 38 = .ok (.iload_n 2, 1) := by decide +kernel
theorem d_D_set_39 : decode b_D_set 39 = .ok (.iadd, 1) := by decide +kernel
theorem d_D_set_40 : decode b_D_set 40 = .ok (.iload_n 3, 1) := by decide +kernel
theorem d_D_set_41 : decode b_D_set 41 = .ok (.iastore, 1) := by decide +kernel
theorem d_D_set_42 : decode b_D_set 42 = .ok (.iconst 1, 1) := by decide +kernel
theorem d_D_set_43 : decode b_D_set 43 = .ok (.ireturn, 1) := by decide +kernel
theorem d_D_plain_0 : decode b_D_plain 0 = .ok (.aload_n 0, 1) := by decide +kernel
theorem d_D_plain_1 : decode b_D_plain 1 = .ok (.getfield 13, 3) := by decide +kernel
theorem d_D_plain_4 : decode b_D_plain 4 = .ok (.iload_n 1, 1) := by decide +kernel
theorem d_D_plain_5 : decode b_D_plain 5 = .ok (.iaload, 1) := by decide +kernel
theorem d_D_plain_6 : decode b_D_plain 6 = .ok (.sipush 256, 3) := by decide +kernel
theorem d_D_plain_9 : decode b_D_plain 9 = .ok (.idiv, 1) := by decide +kernel
theorem d_D_plain_10 : decode b_D_plain 10 = .ok (.ireturn, 1) := by decide +kernel
theorem d_D_root_0 : decode b_D_root 0 = .ok (.iload_n 1, 1) := by decide +kernel
theorem d_D_root_1 : decode b_D_root 1 = .ok (.iconst 0, 1) := by decide +kernel
theorem d_D_root_2 : decode b_D_root 2 = .ok (.bipush 7, 2) := by decide +kernel
theorem d_D_root_4 : decode b_D_root 4 = .ok (.invokestatic 52, 3) := by decide +kernel
theorem d_D_root_7 : decode b_D_root 7 = .ok (.ifCond .eq 11, 3) := by decide +kernel
theorem d_D_root_10 : decode b_D_root 10 = .ok (.aload_n 0, 1) := by decide +kernel
theorem d_D_root_11 : decode b_D_root 11 = .ok (.iload_n 2, 1) := by decide +kernel
theorem d_D_root_12 : decode b_D_root 12 = .ok (.invokevirtual 63, 3) := by decide +kernel
theorem d_D_root_15 : decode b_D_root 15 = .ok (.ifCond .ne 5, 3) := by decide +kernel
theorem d_D_root_18 : decode b_D_root 18 = .ok (.iconst 0, 1) := by decide +kernel
theorem d_D_root_19 : decode b_D_root 19 = .ok (.ireturn, 1) := by decide +kernel
theorem d_D_root_20 : decode b_D_root 20 = .ok (.aload_n 0, 1) := by decide +kernel
theorem d_D_root_21 : decode b_D_root 21 = .ok (.getfield 27, 3) := by decide +kernel
theorem d_D_root_24 : decode b_D_root 24 = .ok (.iload_n 1, 1) := by decide +kernel
theorem d_D_root_25 : decode b_D_root 25 = .ok (.iload_n 2, 1) := by decide +kernel
theorem d_D_root_26 : decode b_D_root 26 = .ok (.iastore, 1) := by decide +kernel
theorem d_D_root_27 : decode b_D_root 27 = .ok (.iconst 1, 1) := by decide +kernel
theorem d_D_root_28 : decode b_D_root 28 = .ok (.ireturn, 1) := by decide +kernel
theorem d_D_collect_0 : decode b_D_collect 0 = .ok (.aload_n 0, 1) := by decide +kernel
theorem d_D_collect_1 : decode b_D_collect 1 = .ok (.invokevirtual 70, 3) := by decide +kernel
theorem d_D_collect_4 : decode b_D_collect 4 = .ok (.iconst 1, 1) := by decide +kernel
theorem d_D_collect_5 : decode b_D_collect 5 = .ok (.istore_n 1, 1) := by decide +kernel
theorem d_D_collect_6 : decode b_D_collect 6 = .ok (.iconst 0, 1) := by decide +kernel
theorem d_D_collect_7 : decode b_D_collect 7 = .ok (.istore_n 2, 1) := by decide +kernel
theorem d_D_collect_8 : decode b_D_collect 8 = .ok (.iload_n 2, 1) := by decide +kernel
theorem d_D_collect_9 : decode b_D_collect 9 = .ok (.aload_n 0, 1) := by decide +kernel
theorem d_D_collect_10 : decode b_D_collect 10 = .ok (.getfield 36, 3) := by decide +kernel
theorem d_D_collect_13 : decode b_D_collect 13 = .ok (.if_icmp .gt 23, 3) := by decide +kernel
theorem d_D_collect_16 : decode b_D_collect 16 = .ok (.aload_n 0, 1) := by decide +kernel
theorem d_D_collect_17 : decode b_D_collect 17 = .ok (.getfield 30, 3) := by decide +kernel
theorem d_D_collect_20 : decode b_D_collect 20 = .ok (.iload_n 2, 1) := by decide +kernel
theorem d_D_collect_21 : decode b_D_collect 21 = .ok (.iconst 0, 1) := by decide +kernel
theorem d_D_collect_22 : decode b_D_collect 22 = .ok (.iastore, 1) := by decide +kernel
theorem d_D_collect_23 : decode b_D_collect 23 = .ok (.aload_n 0, 1) := by decide +kernel
theorem d_D_collect_24 : decode b_D_collect 24 = .ok (.getfield 24, 3) := by decide +kernel
theorem d_D_collect_27 : decode b_D_collect 27 = .ok (.iload_n 2, 1) := by decide +kernel
theorem d_D_collect_28 : decode b_D_collect 28 = .ok (.iconst 0, 1) := by decide +kernel
theorem d_D_collect_29 : decode b_D_collect 29 = .ok (.bastore, 1) := by decide +kernel
theorem d_D_collect_30 : decode b_D_collect 30 = .ok (.iinc 2 1, 3) := by decide +kernel
theorem d_D_collect_33 : decode b_D_collect 33 = .ok (.goto (-25), 3) := by decide +kernel
theorem d_D_collect_36 : decode b_D_collect 36 = .ok (.iconst 1, 1) := by decide +kernel
theorem d_D_collect_37 : decode b_D_collect 37 = .ok (.istore_n 2, 1) := by decide +kernel
theorem d_D_collect_38 : decode b_D_collect 38 = .ok (.iload_n 2, 1) := by decide +kernel
theorem d_D_collect_39 : decode b_D_collect 39 = .ok (.aload_n 0, 1) := by decide +kernel
theorem d_D_collect_40 : decode b_D_collect 40 = .ok (.getfield 7, 3) := by decide +kernel
theorem d_D_collect_43 : decode b_D_collect 43 = .ok (.if_icmp .ge 54, 3) := by decide +kernel
theorem d_D_collect_46 : decode b_D_collect 46 = .ok (.iconst 0, 1) := by decide +kernel
theorem d_D_collect_47 : decode b_D_collect 47 = .ok (.istore_n 3, 1) := by decide +kernel
theorem d_D_collect_48 : decode b_D_collect 48 = .ok (.iload_n 3, 1) := by decide +kernel
theorem d_D_collect_49 : decode b_D_collect 49 = .ok (.aload_n 0, 1) := by decide +kernel
theorem d_D_collect_50 : decode b_D_collect 50 = .ok (.iload_n 2, 1) := by decide +kernel
theorem d_D_collect_51 : decode b_D_collect 51 = .ok (.invokevirtual 67, 3) := by decide +kernel
theorem d_D_collect_54 : decode b_D_collect 54 = .ok (.if_icmp .ge 32, 3) := by decide +kernel
theorem d_D_collect_57 : decode b_D_collect 57 = .ok (.aload_n 0, 1) := by decide +kernel
theorem d_D_collect_58 : decode b_D_collect 58 = .ok (.getfield 33, 3) := by decide +kernel
theorem d_D_collect_61 : decode b_D_collect 61 = .ok (.iload_n 2, 1) := by decide +kernel
theorem d_D_collect_62 : decode b_D_collect 62 = .ok (.iaload, 1) := by decide +kernel
theorem d_D_collect_63 : decode b_D_collect 63 = .ok (.ldc 66, 2) := by decide +kernel
theorem d_D_collect_65 : decode b_D_collect 65 = .ok (.if_icmp .ge 21, 3) := by decide +kernel
theorem d_D_collect_68 : decode b_D_collect 68 = .ok (.aload_n 0, 1) := by decide +kernel
theorem d_D_collect_69 : decode b_D_collect 69 = .ok (.getfield 30, 3) := by decide +kernel
theorem d_D_collect_72 : decode b_D_collect 72 = .ok (.iload_n 2, 1) := by decide +kernel
theorem d_D_collect_73 : decode b_D_collect 73 = .ok (.iload_n 3, 1) := by decide +kernel
theorem d_D_collect_74 : decode b_D_collect 74 = .ok (.iadd, 1) := by decide +kernel
theorem d_D_collect_75 : decode b_D_collect 75 = .ok (.iload_n 1, 1) := by decide +kernel
theorem d_D_collect_76 : decode b_D_collect 76 = .ok (.iastore, 1) := by decide +kernel
theorem d_D_collect_77 : decode b_D_collect 77 = .ok (.iinc 1 1, 3) := by decide +kernel
theorem d_D_collect_80 : decode b_D_collect 80 = .ok (.iinc 3 1, 3) := by decide +kernel
theorem d_D_collect_83 : decode b_D_collect 83 = .ok (.goto (-35), 3) := by decide +kernel
theorem d_D_collect_86 : decode b_D_collect 86 = .ok (.iload_n 2, 1) := by decide +kernel
theorem d_D_collect_87 : decode b_D_collect 87 = .ok (.aload_n 0, 1) := by decide +kernel
theorem d_D_collect_88 : decode b_D_collect 88 = .ok (.iload_n 2, 1) := by decide +kernel
theorem d_D_collect_89 : decode b_D_collect 89 = .ok (.invokevirtual 67, 3) := by decide +kernel
theorem d_D_collect_92 : decode b_D_collect 92 = .ok (.iadd, 1) := by decide +kernel
theorem d_D_collect_93 : decode b_D_collect 93 = .ok (.istore_n 2, 1) := by decide +kernel
theorem d_D_collect_94 : decode b_D_collect 94 = .ok (.goto (-56), 3) := by decide +kernel
theorem d_D_collect_97 : decode b_D_collect 97 = .ok (.iconst 0, 1) := by decide +kernel
theorem d_D_collect_98 : decode b_D_collect 98 = .ok (.istore_n 2, 1) := by decide +kernel
theorem d_D_collect_99 : decode b_D_collect 99 = .ok (.iload_n 2, 1) := by decide +kernel
theorem d_D_collect_100 : decode b_D_collect 100 = .ok (.aload_n 0, 1) := by decide +kernel
end
section
theorem d_D_collect_101 : decode b_D_collect 101 = .ok (.getfield 36, 3) := by decide +kernel
theorem d_D_collect_104 : decode b_D_collect 104 = .ok (.if_icmp .gt 16, 3) := by decide +kernel
theorem d_D_collect_107 : decode b_D_collect 107 = .ok (.aload_n 0, 1) := by decide +kernel
theorem d_D_collect_108 : decode b_D_collect 108 = .ok (.getfield 17, 3) := by decide +kernel
theorem d_D_collect_111 : decode b_D_collect 111 = .ok (.iload_n 2, 1) := by decide +kernel
theorem d_D_collect_112 : decode b_D_collect 112 = .ok (.iconst 0, 1) := by decide +kernel
theorem d_D_collect_113 : decode b_D_collect 113 = .ok (.iastore, 1) := by decide +kernel
theorem d_D_collect_114 : decode b_D_collect 114 = .ok (.iinc 2 1, 3) := by decide +kernel
theorem d_D_collect_117 : decode b_D_collect 117 = .ok (.goto (-18), 3) := by decide +kernel
theorem d_D_collect_120 : decode b_D_collect 120 = .ok (.aload_n 0, 1) := by decide +kernel
theorem d_D_collect_121 : decode b_D_collect 121 = .ok (.iconst 0, 1) := by decide +kernel
theorem d_D_collect_122 : decode b_D_collect 122 = .ok (.putfield 56, 3) := by decide +kernel
theorem d_D_collect_125 : decode b_D_collect 125 = .ok (.iconst 1, 1) := by decide +kernel
theorem d_D_collect_126 : decode b_D_collect 126 = .ok (.istore_n 2, 1) := by decide +kernel
theorem d_D_collect_127 : decode b_D_collect 127 = .ok (.iload_n 2, 1) := by decide +kernel
theorem d_D_collect_128 : decode b_D_collect 128 = .ok (.aload_n 0, 1) := by decide +kernel
theorem d_D_collect_129 : decode b_D_collect 129 = .ok (.getfield 7, 3) := by decide +kernel
theorem d_D_collect_132 : decode b_D_collect 132 = .ok (.if_icmp .ge 124, 3) := by decide +kernel
theorem d_D_collect_135 : decode b_D_collect 135 = .ok (.aload_n 0, 1) := by decide +kernel
theorem d_D_collect_136 : decode b_D_collect 136 = .ok (.getfield 30, 3) := by decide +kernel
theorem d_D_collect_139 : decode b_D_collect 139 = .ok (.iload_n 2, 1) := by decide +kernel
theorem d_D_collect_140 : decode b_D_collect 140 = .ok (.iaload, 1) := by decide +kernel
theorem d_D_collect_141 : decode b_D_collect 141 = .ok (.ifCond .le 104, 3) := by decide +kernel
theorem d_D_collect_144 : decode b_D_collect 144 = .ok (.aload_n 0, 1) := by decide +kernel
theorem d_D_collect_145 : decode b_D_collect 145 = .ok (.getfield 24, 3) := by decide +kernel
theorem d_D_collect_148 : decode b_D_collect 148 = .ok (.aload_n 0, 1) := by decide +kernel
theorem d_D_collect_149 : decode b_D_collect 149 = .ok (.getfield 30, 3) := by decide +kernel
theorem d_D_collect_152 : decode b_D_collect 152 = .ok (.iload_n 2, 1) := by decide +kernel
theorem d_D_collect_153 : decode b_D_collect 153 = .ok (.iaload, 1) := by decide +kernel
theorem d_D_collect_154 : decode b_D_collect 154 = .ok (.iconst 1, 1) := by decide +kernel
theorem d_D_collect_155 : decode b_D_collect 155 = .ok (.bastore, 1) := by decide +kernel
theorem d_D_collect_156 : decode b_D_collect 156 = .ok (.aload_n 0, 1) := by decide +kernel
theorem d_D_collect_157 : decode b_D_collect 157 = .ok (.dup, 1) := by decide +kernel
theorem d_D_collect_158 : decode b_D_collect 158 = .ok (.getfield 56, 3) := by decide +kernel
theorem d_D_collect_161 : decode b_D_collect 161 = .ok (.iconst 1, 1) := by decide +kernel
theorem d_D_collect_162 : decode b_D_collect 162 = .ok (.iadd, 1) := by decide +kernel
theorem d_D_collect_163 : decode b_D_collect 163 = .ok (.putfield 56, 3) := by decide +kernel
theorem d_D_collect_166 : decode b_D_collect 166 = .ok (.iconst 0, 1) := by decide +kernel
theorem d_D_collect_167 : decode b_D_collect 167 = .ok (.istore_n 3, 1) := by decide +kernel
theorem d_D_collect_168 : decode b_D_collect 168 = .ok (.iload_n 3, 1) := by decide +kernel
theorem d_D_collect_169 : decode b_D_collect 169 = .ok (.aload_n 0, 1) := by decide +kernel
theorem d_D_collect_170 : decode b_D_collect 170 = .ok (.iload_n 2, 1) := by decide +kernel
theorem d_D_collect_171 : decode b_D_collect 171 = .ok (.invokevirtual 67, 3) := by decide +kernel
theorem d_D_collect_174 : decode b_D_collect 174 = .ok (.if_icmp .ge 71, 3) := by decide +kernel
theorem d_D_collect_177 : decode b_D_collect 177 = .ok (.iload_n 3, 1) := by decide +kernel
theorem d_D_collect_178 : decode b_D_collect 178 = .ok (.ifCond .le 16, 3) := by decide +kernel
theorem d_D_collect_181 : decode b_D_collect 181 = .ok (.iload_n 3, 1) := by decide +kernel
theorem d_D_collect_182 : decode b_D_collect 182 = .ok (.aload_n 0, 1) := by decide +kernel
theorem d_D_collect_183 : decode b_D_collect 183 = .ok (.iload_n 2, 1) := by decide +kernel
theorem d_D_collect_184 : decode b_D_collect 184 = .ok (.invokevirtual 45, 3) := by decide +kernel
theorem d_D_collect_187 : decode b_D_collect 187 = .ok (.if_icmp .gt 7, 3) := by decide +kernel
theorem d_D_collect_190 : decode b_D_collect 190 = .ok (.iconst 1, 1) := by decide +kernel
theorem d_D_collect_191 : decode b_D_collect 191 = .ok (.goto 4, 3) := by decide +kernel
theorem d_D_collect_194 : decode b_D_collect 194 = .ok (.iconst 0, 1) := by decide +kernel
theorem d_D_collect_195 : decode b_D_collect 195 = .ok (.istore 4, 2) := by decide +kernel
theorem d_D_collect_197 : decode b_D_collect 197 = .ok (.aload_n 0, 1) := by decide +kernel
theorem d_D_collect_198 : decode b_D_collect 198 = .ok (.getfield 17, 3) := by decide +kernel
theorem d_D_collect_201 : decode b_D_collect 201 = .ok (.aload_n 0, 1) := by decide +kernel
theorem d_D_collect_202 : decode b_D_collect 202 = .ok (.getfield 30, 3) := by decide +kernel
theorem d_D_collect_205 : decode b_D_collect 205 = .ok (.iload_n 2, 1) := by decide +kernel
theorem d_D_collect_206 : decode b_D_collect 206 = .ok (.iaload, 1) := by decide +kernel
theorem d_D_collect_207 : decode b_D_collect 207 = .ok (.iload_n 3, 1) := by decide +kernel
theorem d_D_collect_208 : decode b_D_collect 208 = .ok (.iadd, 1) := by decide +kernel
theorem d_D_collect_209 : decode b_D_collect 209 = .ok (.iload 4, 2) := by decide +kernel
theorem d_D_collect_211 : decode b_D_collect 211 = .ok (.ifCond .eq 19, 3) := by decide +kernel
theorem d_D_collect_214 : decode b_D_collect 214 = .ok (.aload_n 0, 1) := by decide +kernel
theorem d_D_collect_215 : decode b_D_collect 215 = .ok (.getfield 30, 3) := by decide +kernel
theorem d_D_collect_218 : decode b_D_collect 218 = .ok (.aload_n 0, 1) := by decide +kernel
theorem d_D_collect_219 : decode b_D_collect 219 = .ok (.getfield 13, 3) := by decide +kernel
theorem d_D_collect_222 : decode b_D_collect 222 = .ok (.iload_n 2, 1) := by decide +kernel
theorem d_D_collect_223 : decode b_D_collect 223 = .ok (.iload_n 3, 1) := by decide +kernel
theorem d_D_collect_224 : decode b_D_collect 224 = .ok (.iadd, 1) := by decide +kernel
theorem d_D_collect_225 : decode b_D_collect 225 = .ok (.iaload, 1) := by decide +kernel
theorem d_D_collect_226 : decode b_D_collect 226 = .ok (.iaload, 1) := by decide +kernel
theorem d_D_collect_227 : decode b_D_collect 227 = .ok (.goto 11, 3) := by decide +kernel
theorem d_D_collect_230 : decode b_D_collect 230 = .ok (.aload_n 0, 1) := by decide +kernel
theorem d_D_collect_231 : decode b_D_collect 231 = .ok (.getfield 13, 3) := by decide +kernel
theorem d_D_collect_234 : decode b_D_collect 234 = .ok (.iload_n 2, 1) := by decide +kernel
theorem d_D_collect_235 : decode b_D_collect 235 = .ok (.iload_n 3, 1) := by decide +kernel
theorem d_D_collect_236 : decode b_D_collect 236 = .ok (.iadd, 1) := by decide +kernel
theorem d_D_collect_237 : decode b_D_collect 237 = .ok (.iaload, 1) := by decide +kernel
theorem d_D_collect_238 : decode b_D_collect 238 = .ok (.iastore, 1) := by decide +kernel
theorem d_D_collect_239 : decode b_D_collect 239 = .ok (.iinc 3 1, 3) := by decide +kernel
theorem d_D_collect_242 : decode b_D_collect 242 = .ok (.goto (-74), 3) := by decide +kernel
theorem d_D_collect_245 : decode b_D_collect 245 = .ok (.iload_n 2, 1) := by decide +kernel
theorem d_D_collect_246 : decode b_D_collect 246 = .ok (.aload_n 0, 1) := by decide +kernel
theorem d_D_collect_247 : decode b_D_collect 247 = .ok (.iload_n 2, 1) := by decide +kernel
theorem d_D_collect_248 : decode b_D_collect 248 = .ok (.invokevirtual 67, 3) := by decide +kernel
theorem d_D_collect_251 : decode b_D_collect 251 = .ok (.iadd, 1) := by decide +kernel
theorem d_D_collect_252 : decode b_D_collect 252 = .ok (.istore_n 2, 1) := by decide +kernel
theorem d_D_collect_253 : decode b_D_collect 253 = .ok (.goto (-126), 3) := by decide +kernel
theorem d_D_collect_256 : decode b_D_collect 256 = .ok (.iconst 0, 1) := by decide +kernel
theorem d_D_collect_257 : decode b_D_collect 257 = .ok (.istore_n 2, 1) := by decide +kernel
theorem d_D_collect_258 : decode b_D_collect 258 = .ok (.iload_n 2, 1) := by decide +kernel
theorem d_D_collect_259 : decode b_D_collect 259 = .ok (.aload_n 0, 1) := by decide +kernel
theorem d_D_collect_260 : decode b_D_collect 260 = .ok (.getfield 36, 3) := by decide +kernel
theorem d_D_collect_263 : decode b_D_collect 263 = .ok (.if_icmp .gt 33, 3) := by decide +kernel
theorem d_D_collect_266 : decode b_D_collect 266 = .ok (.aload_n 0, 1) := by decide +kernel
theorem d_D_collect_267 : decode b_D_collect 267 = .ok (.getfield 13, 3) := by decide +kernel
theorem d_D_collect_270 : decode b_D_collect 270 = .ok (.iload_n 2, 1) := by decide +kernel
theorem d_D_collect_271 : decode b_D_collect 271 = .ok (.aload_n 0, 1) := by decide +kernel
theorem d_D_collect_272 : decode b_D_collect 272 = .ok (.getfield 17, 3) := by decide +kernel
theorem d_D_collect_275 : decode b_D_collect 275 = .ok (.iload_n 2, 1) := by decide +kernel
theorem d_D_collect_276 : decode b_D_collect 276 = .ok (.iaload, 1) := by decide +kernel
theorem d_D_collect_277 : decode b_D_collect 277 = .ok (.iastore, 1) := by decide +kernel
theorem d_D_collect_278 : decode b_D_collect 278 = .ok (.aload_n 0, 1) := by decide +kernel
theorem d_D_collect_279 : decode b_D_collect 279 = .ok (.getfield 20, 3) := by decide +kernel
theorem d_D_collect_282 : decode b_D_collect 282 = .ok (.iload_n 2, 1) := by decide +kernel
theorem d_D_collect_283 : decode b_D_collect 283 = .ok (.aload_n 0, 1) := by decide +kernel
theorem d_D_collect_284 : decode b_D_collect 284 = .ok (.getfield 24, 3) := by decide +kernel
theorem d_D_collect_287 : decode b_D_collect 287 = .ok (.iload_n 2, 1) := by decide +kernel
theorem d_D_collect_288 : decode b_D_collect 288 = .ok (.baload, 1) := by decide +kernel
theorem d_D_collect_289 : decode b_D_collect 289 = .ok (.bastore, 1) := by decide +kernel
theorem d_D_collect_290 : decode b_D_collect 290 = .ok (.iinc 2 1, 3) := by decide +kernel
theorem d_D_collect_293 : decode b_D_collect 293 = .ok (.goto (-35), 3) := by decide +kernel
theorem d_D_collect_296 : decode b_D_collect 296 = .ok (.iconst 0, 1) := by decide +kernel
theorem d_D_collect_297 : decode b_D_collect 297 = .ok (.istore_n 2, 1) := by decide +kernel
theorem d_D_collect_298 : decode b_D_collect 298 = .ok (.iload_n 2, 1) := by decide +kernel
theorem d_D_collect_299 : decode b_D_collect 299 = .ok (.bipush 8, 2) := by decide +kernel
theorem d_D_collect_301 : decode b_D_collect 301 = .ok (.if_icmp .ge 26, 3) := by decide +kernel
theorem d_D_collect_304 : decode b_D_collect 304 = .ok (.aload_n 0, 1) := by decide +kernel
theorem d_D_collect_305 : decode b_D_collect 305 = .ok (.getfield 27, 3) := by decide +kernel
theorem d_D_collect_308 : decode b_D_collect 308 = .ok (.iload_n 2, 1) := by decide +kernel
theorem d_D_collect_309 : decode b_D_collect 309 = .ok (.aload_n 0, 1) := by decide +kernel
theorem d_D_collect_310 : decode b_D_collect 310 = .ok (.getfield 30, 3) := by decide +kernel
theorem d_D_collect_313 : decode b_D_collect 313 = .ok (.aload_n 0, 1) := by decide +kernel
theorem d_D_collect_314 : decode b_D_collect 314 = .ok (.getfield 27, 3) := by decide +kernel
theorem d_D_collect_317 : decode b_D_collect 317 = .ok (.iload_n 2, 1) := by decide +kernel
theorem d_D_collect_318 : decode b_D_collect 318 = .ok (.iaload, 1) := by decide +kernel
theorem d_D_collect_319 : decode b_D_collect 319 = .ok (.iaload, 1) := by decide +kernel
theorem d_D_collect_320 : decode b_D_collect 320 = .ok (.iastore, 1) := by decide +kernel
theorem d_D_collect_321 : decode b_D_collect 321 = .ok (.iinc 2 1, 3) := by decide +kernel
theorem d_D_collect_324 : decode b_D_collect 324 = .ok (.goto (-26), 3) := by decide +kernel
theorem d_D_collect_327 : decode b_D_collect 327 = .ok (.aload_n 0, 1) := by decide +kernel
theorem d_D_collect_328 : decode b_D_collect 328 = .ok (.iload_n 1, 1) := by decide +kernel
theorem d_D_collect_329 : decode b_D_collect 329 = .ok (.putfield 7, 3) := by decide +kernel
theorem d_D_collect_332 : decode b_D_collect 332 = .ok (.aload_n 0, 1) := by decide +kernel
theorem d_D_collect_333 : decode b_D_collect 333 = .ok (.iload_n 1, 1) := by decide +kernel
theorem d_D_collect_334 : decode b_D_collect 334 = .ok (.iconst 1, 1) := by decide +kernel
theorem d_D_collect_335 : decode b_D_collect 335 = .ok (.isub, 1) := by decide +kernel
theorem d_D_collect_336 : decode b_D_collect 336 = .ok (.putfield 73, 3) := by decide +kernel
theorem d_D_collect_339 : decode b_D_collect 339 = .ok (.aload_n 0, 1) := by decide +kernel
theorem d_D_collect_340 : decode b_D_collect 340 = .ok (.dup, 1) := by decide +kernel
theorem d_D_collect_341 : decode b_D_collect 341 = .ok (.getfield 76, 3) := by decide +kernel
theorem d_D_collect_344 : decode b_D_collect 344 = .ok (.iconst 1, 1) := by decide +kernel
theorem d_D_collect_345 : decode b_D_collect 345 = .ok (.iadd, 1) := by decide +kernel
theorem d_D_collect_346 : decode b_D_collect 346 = .ok (.putfield 76, 3) := by decide +kernel
theorem d_D_collect_349 : decode b_D_collect 349 = .ok (.aload_n 0, 1) := by decide +kernel
theorem d_D_collect_350 : decode b_D_collect 350 = .ok (.getfield 73, 3) := by decide +kernel
theorem d_D_collect_353 : decode b_D_collect 353 = .ok (.ireturn, 1) := by decide +kernel
theorem d_D_measure_0 : decode b_D_measure 0 = .ok (.iconst 0, 1) := by decide +kernel
theorem d_D_measure_1 : decode b_D_measure 1 = .ok (.istore_n 1, 1) := by decide +kernel
theorem d_D_measure_2 : decode b_D_measure 2 = .ok (.iload_n 1, 1) := by decide +kernel
theorem d_D_measure_3 : decode b_D_measure 3 = .ok (.aload_n 0, 1) := by decide +kernel
theorem d_D_measure_4 : decode b_D_measure 4 = .ok (.getfield 36, 3) := by decide +kernel
theorem d_D_measure_7 : decode b_D_measure 7 = .ok (.if_icmp .gt 17, 3) := by decide +kernel
theorem d_D_measure_10 : decode b_D_measure 10 = .ok (.aload_n 0, 1) := by decide +kernel
theorem d_D_measure_11 : decode b_D_measure 11 = .ok (.getfield 33, 3) := by decide +kernel
theorem d_D_measure_14 : decode b_D_measure 14 = .ok (.iload_n 1, 1) := by decide +kernel
theorem d_D_measure_15 : decode b_D_measure 15 = .ok (.ldc 66, 2) := by decide +kernel
theorem d_D_measure_17 : decode b_D_measure 17 = .ok (.iastore, 1) := by decide +kernel
theorem d_D_measure_18 : decode b_D_measure 18 = .ok (.iinc 1 1, 3) := by decide +kernel
theorem d_D_measure_21 : decode b_D_measure 21 = .ok (.goto (-19), 3) := by decide +kernel
theorem d_D_measure_24 : decode b_D_measure 24 = .ok (.iconst 0, 1) := by decide +kernel
theorem d_D_measure_25 : decode b_D_measure 25 = .ok (.istore_n 1, 1) := by decide +kernel
theorem d_D_measure_26 : decode b_D_measure 26 = .ok (.iload_n 1, 1) := by decide +kernel
theorem d_D_measure_27 : decode b_D_measure 27 = .ok (.bipush 8, 2) := by decide +kernel
theorem d_D_measure_29 : decode b_D_measure 29 = .ok (.if_icmp .ge 30, 3) := by decide +kernel
theorem d_D_measure_32 : decode b_D_measure 32 = .ok (.aload_n 0, 1) := by decide +kernel
theorem d_D_measure_33 : decode b_D_measure 33 = .ok (.getfield 27, 3) := by decide +kernel
theorem d_D_measure_36 : decode b_D_measure 36 = .ok (.iload_n 1, 1) := by decide +kernel
theorem d_D_measure_37 : decode b_D_measure 37 = .ok (.iaload, 1) := by decide +kernel
theorem d_D_measure_38 : decode b_D_measure 38 = .ok (.ifCond .le 15, 3) := by decide +kernel
theorem d_D_measure_41 : decode b_D_measure 41 = .ok (.aload_n 0, 1) := by decide +kernel
theorem d_D_measure_42 : decode b_D_measure 42 = .ok (.getfield 33, 3) := by decide +kernel
theorem d_D_measure_45 : decode b_D_measure 45 = .ok (.aload_n 0, 1) := by decide +kernel
theorem d_D_measure_46 : decode b_D_measure 46 = .ok (.getfield 27, 3) := by decide +kernel
theorem d_D_measure_49 : decode b_D_measure 49 = .ok (.iload_n 1, 1) := by decide +kernel
theorem d_D_measure_50 : decode b_D_measure 50 = .ok (.iaload, 1) := by decide +kernel
theorem d_D_measure_51 : decode b_D_measure 51 = .ok (.iconst 0, 1) := by decide +kernel
theorem d_D_measure_52 : decode b_D_measure 52 = .ok (.iastore, 1) := by decide +kernel
theorem d_D_measure_53 : decode b_D_measure 53 = .ok (.iinc 1 1, 3) := by decide +kernel
theorem d_D_measure_56 : decode b_D_measure 56 = .ok (.goto (-30), 3) := by decide +kernel
theorem d_D_measure_59 : decode b_D_measure 59 = .ok (.iconst 1, 1) := by decide +kernel
theorem d_D_measure_60 : decode b_D_measure 60 = .ok (.istore_n 1, 1) := by decide +kernel
theorem d_D_measure_61 : decode b_D_measure 61 = .ok (.iload_n 1, 1) := by decide +kernel
theorem d_D_measure_62 : decode b_D_measure 62 = .ok (.ifCond .eq 98, 3) := by decide +kernel
theorem d_D_measure_65 : decode b_D_measure 65 = .ok (.iconst 0, 1) := by decide +kernel
theorem d_D_measure_66 : decode b_D_measure 66 = .ok (.istore_n 1, 1) := by decide +kernel
theorem d_D_measure_67 : decode b_D_measure 67 = .ok (.iconst 1, 1) := by decide +kernel
theorem d_D_measure_68 : decode b_D_measure 68 = .ok (.istore_n 2, 1) := by decide +kernel
theorem d_D_measure_69 : decode b_D_measure 69 = .ok (.iload_n 2, 1) := by decide +kernel
theorem d_D_measure_70 : decode b_D_measure 70 = .ok (.aload_n 0, 1) := by decide +kernel
theorem d_D_measure_71 : decode b_D_measure 71 = .ok (.getfield 7, 3) := by decide +kernel
theorem d_D_measure_74 : decode b_D_measure 74 = .ok (.if_icmp .ge 83, 3) := by decide +kernel
theorem d_D_measure_77 : decode b_D_measure 77 = .ok (.iconst 0, 1) := by decide +kernel
theorem d_D_measure_78 : decode b_D_measure 78 = .ok (.istore_n 3, 1) := by decide +kernel
theorem d_D_measure_79 : decode b_D_measure 79 = .ok (.iload_n 3, 1) := by decide +kernel
theorem d_D_measure_80 : decode b_D_measure 80 = .ok (.aload_n 0, 1) := by decide +kernel
theorem d_D_measure_81 : decode b_D_measure 81 = .ok (.iload_n 2, 1) := by decide +kernel
theorem d_D_measure_82 : decode b_D_measure 82 = .ok (.invokevirtual 45, 3) := by decide +kernel
theorem d_D_measure_85 : decode b_D_measure 85 = .ok (.if_icmp .ge 61, 3) := by decide +kernel
theorem d_D_measure_88 : decode b_D_measure 88 = .ok (.aload_n 0, 1) := by decide +kernel
theorem d_D_measure_89 : decode b_D_measure 89 = .ok (.getfield 13, 3) := by decide +kernel
theorem d_D_measure_92 : decode b_D_measure 92 = .ok (.iload_n 2, 1) := by decide +kernel
theorem d_D_measure_93 : decode b_D_measure 93 = .ok (.iconst 1, 1) := by decide +kernel
theorem d_D_measure_94 : decode b_D_measure 94 = .ok (.iadd, 1) := by decide +kernel
theorem d_D_measure_95 : decode b_D_measure 95 = .ok (.iload_n 3, 1) := by decide +kernel
theorem d_D_measure_96 : decode b_D_measure 96 = .ok (.iadd, 1) := by decide +kernel
theorem d_D_measure_97 : decode b_D_measure 97 = .ok (.iaload, 1) := by decide +kernel
theorem d_D_measure_98 : decode b_D_measure 98 = .ok (.istore 4, 2) := by decide +kernel
theorem d_D_measure_100 : decode b_D_measure 100 = .ok (.iload 4, 2) := by decide +kernel
theorem d_D_measure_102 : decode b_D_measure 102 = .ok (.ifCond .le 38, 3) := by decide +kernel
theorem d_D_measure_105 : decode b_D_measure 105 = .ok (.aload_n 0, 1) := by decide +kernel
theorem d_D_measure_106 : decode b_D_measure 106 = .ok (.getfield 33, 3) := by decide +kernel
theorem d_D_measure_109 : decode b_D_measure 109 = .ok (.iload_n 2, 1) := by decide +kernel
theorem d_D_measure_110 : decode b_D_measure 110 = .ok (.iaload, 1) := by decide +kernel
theorem d_D_measure_111 : decode b_D_measure 111 = .ok (.iconst 1, 1) := by decide +kernel
theorem d_D_measure_112 : decode b_D_measure 112 = .ok (.iadd, 1) := by decide +kernel
theorem d_D_measure_113 : decode b_D_measure 113 = .ok (.aload_n 0, 1) := by decide +kernel
theorem d_D_measure_114 : decode b_D_measure 114 = .ok (.getfield 33, 3) := by decide +kernel
theorem d_D_measure_117 : decode b_D_measure 117 = .ok (.iload 4, 2) := by decide +kernel
theorem d_D_measure_119 : decode b_D_measure 119 = .ok (.iaload, 1) := by decide +kernel
theorem d_D_measure_120 : decode b_D_measure 120 = .ok (.if_icmp .ge 20, 3) := by decide +kernel
theorem d_D_measure_123 : decode b_D_measure 123 = .ok (.aload_n 0, 1) := by decide +kernel
theorem d_D_measure_124 : decode b_D_measure 124 = .ok (.getfield 33, 3) := by decide +kernel
theorem d_D_measure_127 : decode b_D_measure 127 = .ok (.iload 4, 2) := by decide +kernel
theorem d_D_measure_129 : decode b_D_measure 129 = .ok (.aload_n 0, 1) := by decide +kernel
theorem d_D_measure_130 : decode b_D_measure 130 = .ok (.getfield 33, 3) := by decide +kernel
theorem d_D_measure_133 : decode b_D_measure 133 = .ok (.iload_n 2, 1) := by decide +kernel
theorem d_D_measure_134 : decode b_D_measure 134 = .ok (.iaload, 1) := by decide +kernel
theorem d_D_measure_135 : decode b_D_measure 135 = .ok (.iconst 1, 1) := by decide +kernel
theorem d_D_measure_136 : decode b_D_measure 136 = .ok (.iadd, 1) := by decide +kernel
theorem d_D_measure_137 : decode b_D_measure 137 = .ok (.iastore, 1) := by decide +kernel
theorem d_D_measure_138 : decode b_D_measure 138 = .ok (.iconst 1, 1) := by decide +kernel
theorem d_D_measure_139 : decode b_D_measure 139 = .ok (.istore_n 1, 1) := by decide +kernel
theorem d_D_measure_140 : decode b_D_measure 140 = .ok (.iinc 3 1, 3) := by decide +kernel
theorem d_D_measure_143 : decode b_D_measure 143 = .ok (.goto (-64), 3) := by decide +kernel
theorem d_D_measure_146 : decode b_D_measure 146 = .ok (.iload_n 2, 1) := by decide +kernel
theorem d_D_measure_147 : decode b_D_measure 147 = .ok (.aload_n 0, 1) := by decide +kernel
theorem d_D_measure_148 : decode b_D_measure 148 = .ok (.iload_n 2, 1) := by decide +kernel
theorem d_D_measure_149 : decode b_D_measure 149 = .ok (.invokevirtual 67, 3) := by decide +kernel
theorem d_D_measure_152 : decode b_D_measure 152 = .ok (.iadd, 1) := by decide +kernel
theorem d_D_measure_153 : decode b_D_measure 153 = .ok (.istore_n 2, 1) := by decide +kernel
theorem d_D_measure_154 : decode b_D_measure 154 = .ok (.goto (-85), 3) := by decide +kernel
theorem d_D_measure_157 : decode b_D_measure 157 = .ok (.goto (-96), 3) := by decide +kernel
theorem d_D_measure_160 : decode b_D_measure 160 = .ok (.return_, 1) := by decide +kernel
theorem d_D_length_0 : decode b_D_length 0 = .ok (.iconst 1, 1) := by decide +kernel
theorem d_D_length_1 : decode b_D_length 1 = .ok (.aload_n 0, 1) := by decide +kernel
theorem d_D_length_2 : decode b_D_length 2 = .ok (.iload_n 1, 1) := by decide +kernel
theorem d_D_length_3 : decode b_D_length 3 = .ok (.invokevirtual 45, 3) := by decide +kernel
theorem d_D_length_6 : decode b_D_length 6 = .ok (.iadd, 1) := by decide +kernel
theorem d_D_length_7 : decode b_D_length 7 = .ok (.aload_n 0, 1) := by decide +kernel
theorem d_D_length_8 : decode b_D_length 8 = .ok (.iload_n 1, 1) := by decide +kernel
theorem d_D_length_9 : decode b_D_length 9 = .ok (.invokevirtual 49, 3) := by decide +kernel
theorem d_D_length_12 : decode b_D_length 12 = .ok (.iadd, 1) := by decide +kernel
theorem d_D_length_13 : decode b_D_length 13 = .ok (.ireturn, 1) := by decide +kernel
theorem d_D_word_0 : decode b_D_word 0 = .ok (.aload_n 0, 1) := by decide +kernel
theorem d_D_word_1 : decode b_D_word 1 = .ok (.iload_n 1, 1) := by decide +kernel
theorem d_D_word_2 : decode b_D_word 2 = .ok (.invokevirtual 79, 3) := by decide +kernel
theorem d_D_word_5 : decode b_D_word 5 = .ok (.ifCond .eq 12, 3) := by decide +kernel
theorem d_D_word_8 : decode b_D_word 8 = .ok (.aload_n 0, 1) := by decide +kernel
theorem d_D_word_9 : decode b_D_word 9 = .ok (.getfield 13, 3) := by decide +kernel
theorem d_D_word_12 : decode b_D_word 12 = .ok (.iload_n 1, 1) := by decide +kernel
theorem d_D_word_13 : decode b_D_word 13 = .ok (.iaload, 1) := by decide +kernel
theorem d_D_word_14 : decode b_D_word 14 = .ok (.goto 4, 3) := by decide +kernel
theorem d_D_word_17 : decode b_D_word 17 = .ok (.iconst (-1), 1) := by decide +kernel
theorem d_D_word_18 : decode b_D_word 18 = .ok (.ireturn, 1) := by decide +kernel
theorem d_D_isWord_0 : decode b_D_isWord 0 = .ok (.iload_n 1, 1) := by decide +kernel
theorem d_D_isWord_1 : decode b_D_isWord 1 = .ok (.iconst 0, 1) := by decide +kernel
theorem d_D_isWord_2 : decode b_D_isWord 2 = .ok (.aload_n 0, 1) := by decide +kernel
theorem d_D_isWord_3 : decode b_D_isWord 3 = .ok (.getfield 36, 3) := by decide +kernel
theorem d_D_isWord_6 : decode b_D_isWord 6 = .ok (.invokestatic 52, 3) := by decide +kernel
theorem d_D_isWord_9 : decode b_D_isWord 9 = .ok (.ireturn, 1) := by decide +kernel
theorem d_D_rootOf_0 : decode b_D_rootOf 0 = .ok (.iload_n 1, 1) := by decide +kernel
theorem d_D_rootOf_1 : decode b_D_rootOf 1 = .ok (.iconst 0, 1) := by decide +kernel
theorem d_D_rootOf_2 : decode b_D_rootOf 2 = .ok (.bipush 7, 2) := by decide +kernel
theorem d_D_rootOf_4 : decode b_D_rootOf 4 = .ok (.invokestatic 52, 3) := by decide +kernel
theorem d_D_rootOf_7 : decode b_D_rootOf 7 = .ok (.ifCond .eq 12, 3) := by decide +kernel
theorem d_D_rootOf_10 : decode b_D_rootOf 10 = .ok (.aload_n 0, 1) := by decide +kernel
theorem d_D_rootOf_11 : decode b_D_rootOf 11 = .ok (.getfield 27, 3) := by decide +kernel
theorem d_D_rootOf_14 : decode b_D_rootOf 14 = .ok (.iload_n 1, 1) := by decide +kernel
theorem d_D_rootOf_15 : decode b_D_rootOf 15 = .ok (.iaload, 1) := by decide +kernel
theorem d_D_rootOf_16 : decode b_D_rootOf 16 = .ok (.goto 4, 3) := by decide +kernel
theorem d_D_rootOf_19 : decode b_D_rootOf 19 = .ok (.iconst (-1), 1) := by decide +kernel
theorem d_D_rootOf_20 : decode b_D_rootOf 20 = .ok (.ireturn, 1) := by decide +kernel
theorem d_D_bit_0 : decode b_D_bit 0 = .ok (.aload_n 0, 1) := by decide +kernel
theorem d_D_bit_1 : decode b_D_bit 1 = .ok (.iload_n 1, 1) := by decide +kernel
theorem d_D_bit_2 : decode b_D_bit 2 = .ok (.invokevirtual 79, 3) := by decide +kernel
theorem d_D_bit_5 : decode b_D_bit 5 = .ok (.ifCond .ne 7, 3) := by decide +kernel
theorem d_D_bit_8 : decode b_D_bit 8 = .ok (.iconst (-1), 1) := by decide +kernel
theorem d_D_bit_9 : decode b_D_bit 9 = .ok (.goto 17, 3) := by decide +kernel
theorem d_D_bit_12 : decode b_D_bit 12 = .ok (.aload_n 0, 1) := by decide +kernel
theorem d_D_bit_13 : decode b_D_bit 13 = .ok (.getfield 30, 3) := by decide +kernel
theorem d_D_bit_16 : decode b_D_bit 16 = .ok (.iload_n 1, 1) := by decide +kernel
theorem d_D_bit_17 : decode b_D_bit 17 = .ok (.iaload, 1) := by decide +kernel
theorem d_D_bit_18 : decode b_D_bit 18 = .ok (.ifCond .le 7, 3) := by decide +kernel
theorem d_D_bit_21 : decode b_D_bit 21 = .ok (.iconst 1, 1) := by decide +kernel
theorem d_D_bit_22 : decode b_D_bit 22 = .ok (.goto 4, 3) := by decide +kernel
theorem d_D_bit_25 : decode b_D_bit 25 = .ok (.iconst 0, 1) := by decide +kernel
theorem d_D_bit_26 : decode b_D_bit 26 = .ok (.ireturn, 1) := by decide +kernel
theorem d_D_offset_0 : decode b_D_offset 0 = .ok (.iload_n 1, 1) := by decide +kernel
theorem d_D_offset_1 : decode b_D_offset 1 = .ok (.iconst 0, 1) := by decide +kernel
theorem d_D_offset_2 : decode b_D_offset 2 = .ok (.aload_n 0, 1) := by decide +kernel
theorem d_D_offset_3 : decode b_D_offset 3 = .ok (.invokevirtual 82, 3) := by decide +kernel
theorem d_D_offset_6 : decode b_D_offset 6 = .ok (.iconst 1, 1) := by decide +kernel
theorem d_D_offset_7 : decode b_D_offset 7 = .ok (.isub, 1) := by decide +kernel
theorem d_D_offset_8 : decode b_D_offset 8 = .ok (.invokestatic 52, 3) := by decide +kernel
theorem d_D_offset_11 : decode b_D_offset 11 = .ok (.ifCond .ne 5, 3) := by decide +kernel
theorem d_D_offset_14 : decode b_D_offset 14 = .ok (.iconst (-1), 1) := by decide +kernel
theorem d_D_offset_15 : decode b_D_offset 15 = .ok (.ireturn, 1) := by decide +kernel
theorem d_D_offset_16 : decode b_D_offset 16 = .ok (.iconst 0, 1) := by decide +kernel
theorem d_D_offset_17 : decode b_D_offset 17 = .ok (.istore_n 2, 1) := by decide +kernel
theorem d_D_offset_18 : decode b_D_offset 18 = .ok (.iconst 0, 1) := by decide +kernel
theorem d_D_offset_19 : decode b_D_offset 19 = .ok (.istore_n 3, 1) := by decide +kernel
theorem d_D_offset_20 : decode b_D_offset 20 = .ok (.iload_n 3, 1) := by decide +kernel
theorem d_D_offset_21 : decode b_D_offset 21 = .ok (.iload_n 1, 1) := by decide +kernel
theorem d_D_offset_22 : decode b_D_offset 22 = .ok (.aload_n 0, 1) := by decide +kernel
theorem d_D_offset_23 : decode b_D_offset 23 = .ok (.getfield 39, 3) := by decide +kernel
theorem d_D_offset_26 : decode b_D_offset 26 = .ok (.imul, 1) := by decide +kernel
theorem d_D_offset_27 : decode b_D_offset 27 = .ok (.if_icmp .ge 26, 3) := by decide +kernel
theorem d_D_offset_30 : decode b_D_offset 30 = .ok (.aload_n 0, 1) := by decide +kernel
theorem d_D_offset_31 : decode b_D_offset 31 = .ok (.getfield 30, 3) := by decide +kernel
theorem d_D_offset_34 : decode b_D_offset 34 = .ok (.iload_n 3, 1) := by decide +kernel
theorem d_D_offset_35 : decode b_D_offset 35 = .ok (.iaload, 1) := by decide +kernel
theorem d_D_offset_36 : decode b_D_offset 36 = .ok (.ifCond .le 9, 3) := by decide +kernel
theorem d_D_offset_39 : decode b_D_offset 39 = .ok (.iload_n 2, 1) := by decide +kernel
theorem d_D_offset_40 : decode b_D_offset 40 = .ok (.iconst 1, 1) := by decide +kernel
theorem d_D_offset_41 : decode b_D_offset 41 = .ok (.iadd, 1) := by decide +kernel
theorem d_D_offset_42 : decode b_D_offset 42 = .ok (.goto 4, 3) := by decide +kernel
theorem d_D_offset_45 : decode b_D_offset 45 = .ok (.iload_n 2, 1) := by decide +kernel
theorem d_D_offset_46 : decode b_D_offset 46 = .ok (.istore_n 2, 1) := by decide +kernel
theorem d_D_offset_47 : decode b_D_offset 47 = .ok (.iinc 3 1, 3) := by decide +kernel
theorem d_D_offset_50 : decode b_D_offset 50 = .ok (.goto (-30), 3) := by decide +kernel
theorem d_D_offset_53 : decode b_D_offset 53 = .ok (.iload_n 2, 1) := by decide +kernel
theorem d_D_offset_54 : decode b_D_offset 54 = .ok (.ireturn, 1) := by decide +kernel
theorem d_D_blocks_0 : decode b_D_blocks 0 = .ok (.aload_n 0, 1) := by decide +kernel
theorem d_D_blocks_1 : decode b_D_blocks 1 = .ok (.getfield 36, 3) := by decide +kernel
theorem d_D_blocks_4 : decode b_D_blocks 4 = .ok (.aload_n 0, 1) := by decide +kernel
theorem d_D_blocks_5 : decode b_D_blocks 5 = .ok (.getfield 39, 3) := by decide +kernel
theorem d_D_blocks_8 : decode b_D_blocks 8 = .ok (.idiv, 1) := by decide +kernel
theorem d_D_blocks_9 : decode b_D_blocks 9 = .ok (.iconst 1, 1) := by decide +kernel
theorem d_D_blocks_10 : decode b_D_blocks 10 = .ok (.iadd, 1) := by decide +kernel
theorem d_D_blocks_11 : decode b_D_blocks 11 = .ok (.ireturn, 1) := by decide +kernel
theorem d_D_moved_0 : decode b_D_moved 0 = .ok (.aload_n 0, 1) := by decide +kernel
theorem d_D_moved_1 : decode b_D_moved 1 = .ok (.iload_n 1, 1) := by decide +kernel
theorem d_D_moved_2 : decode b_D_moved 2 = .ok (.invokevirtual 79, 3) := by decide +kernel
theorem d_D_moved_5 : decode b_D_moved 5 = .ok (.ifCond .eq 12, 3) := by decide +kernel
theorem d_D_moved_8 : decode b_D_moved 8 = .ok (.aload_n 0, 1) := by decide +kernel
theorem d_D_moved_9 : decode b_D_moved 9 = .ok (.getfield 30, 3) := by decide +kernel
theorem d_D_moved_12 : decode b_D_moved 12 = .ok (.iload_n 1, 1) := by decide +kernel
theorem d_D_moved_13 : decode b_D_moved 13 = .ok (.iaload, 1) := by decide +kernel
theorem d_D_moved_14 : decode b_D_moved 14 = .ok (.goto 4, 3) := by decide +kernel
theorem d_D_moved_17 : decode b_D_moved 17 = .ok (.iconst (-1), 1) := by decide +kernel
theorem d_D_moved_18 : decode b_D_moved 18 = .ok (.ireturn, 1) := by decide +kernel
theorem d_D_reads_0 : decode b_D_reads 0 = .ok (.aload_n 0, 1) := by decide +kernel
theorem d_D_reads_1 : decode b_D_reads 1 = .ok (.getfield 73, 3) := by decide +kernel
theorem d_D_reads_4 : decode b_D_reads 4 = .ok (.ireturn, 1) := by decide +kernel
theorem d_D_near_0 : decode b_D_near 0 = .ok (.iload_n 1, 1) := by decide +kernel
theorem d_D_near_1 : decode b_D_near 1 = .ok (.iconst 0, 1) := by decide +kernel
theorem d_D_near_2 : decode b_D_near 2 = .ok (.bipush 100, 2) := by decide +kernel
theorem d_D_near_4 : decode b_D_near 4 = .ok (.invokestatic 52, 3) := by decide +kernel
theorem d_D_near_7 : decode b_D_near 7 = .ok (.ifCond .ne 5, 3) := by decide +kernel
theorem d_D_near_10 : decode b_D_near 10 = .ok (.iconst (-1), 1) := by decide +kernel
theorem d_D_near_11 : decode b_D_near 11 = .ok (.ireturn, 1) := by decide +kernel
theorem d_D_near_12 : decode b_D_near 12 = .ok (.aload_n 0, 1) := by decide +kernel
theorem d_D_near_13 : decode b_D_near 13 = .ok (.invokevirtual 70, 3) := by decide +kernel
theorem d_D_near_16 : decode b_D_near 16 = .ok (.iconst 0, 1) := by decide +kernel
theorem d_D_near_17 : decode b_D_near 17 = .ok (.istore_n 2, 1) := by decide +kernel
theorem d_D_near_18 : decode b_D_near 18 = .ok (.iconst 1, 1) := by decide +kernel
theorem d_D_near_19 : decode b_D_near 19 = .ok (.istore_n 3, 1) := by decide +kernel
theorem d_D_near_20 : decode b_D_near 20 = .ok (.iload_n 3, 1) := by decide +kernel
theorem d_D_near_21 : decode b_D_near 21 = .ok (.aload_n 0, 1) := by decide +kernel
theorem d_D_near_22 : decode b_D_near 22 = .ok (.getfield 7, 3) := by decide +kernel
theorem d_D_near_25 : decode b_D_near 25 = .ok (.if_icmp .ge 32, 3) := by decide +kernel
theorem d_D_near_28 : decode b_D_near 28 = .ok (.aload_n 0, 1) := by decide +kernel
theorem d_D_near_29 : decode b_D_near 29 = .ok (.getfield 33, 3) := by decide +kernel
theorem d_D_near_32 : decode b_D_near 32 = .ok (.iload_n 3, 1) := by decide +kernel
theorem d_D_near_33 : decode b_D_near 33 = .ok (.iaload, 1) := by decide +kernel
theorem d_D_near_34 : decode b_D_near 34 = .ok (.iload_n 1, 1) := by decide +kernel
theorem d_D_near_35 : decode b_D_near 35 = .ok (.if_icmp .gt 9, 3) := by decide +kernel
theorem d_D_near_38 : decode b_D_near 38 = .ok (.iload_n 2, 1) := by decide +kernel
theorem d_D_near_39 : decode b_D_near 39 = .ok (.iconst 1, 1) := by decide +kernel
theorem d_D_near_40 : decode b_D_near 40 = .ok (.iadd, 1) := by decide +kernel
theorem d_D_near_41 : decode b_D_near 41 = .ok (.goto 4, 3) := by decide +kernel
theorem d_D_near_44 : decode b_D_near 44 = .ok (.iload_n 2, 1) := by decide +kernel
theorem d_D_near_45 : decode b_D_near 45 = .ok (.istore_n 2, 1) := by decide +kernel
theorem d_D_near_46 : decode b_D_near 46 = .ok (.iload_n 3, 1) := by decide +kernel
theorem d_D_near_47 : decode b_D_near 47 = .ok (.aload_n 0, 1) := by decide +kernel
theorem d_D_near_48 : decode b_D_near 48 = .ok (.iload_n 3, 1) := by decide +kernel
theorem d_D_near_49 : decode b_D_near 49 = .ok (.invokevirtual 67, 3) := by decide +kernel
theorem d_D_near_52 : decode b_D_near 52 = .ok (.iadd, 1) := by decide +kernel
theorem d_D_near_53 : decode b_D_near 53 = .ok (.istore_n 3, 1) := by decide +kernel
theorem d_D_near_54 : decode b_D_near 54 = .ok (.goto (-34), 3) := by decide +kernel
theorem d_D_near_57 : decode b_D_near 57 = .ok (.iload_n 2, 1) := by decide +kernel
theorem d_D_near_58 : decode b_D_near 58 = .ok (.ireturn, 1) := by decide +kernel
theorem d_D_sound_0 : decode b_D_sound 0 = .ok (.iconst 1, 1) := by decide +kernel
theorem d_D_sound_1 : decode b_D_sound 1 = .ok (.istore_n 1, 1) := by decide +kernel
theorem d_D_sound_2 : decode b_D_sound 2 = .ok (.iconst 0, 1) := by decide +kernel
theorem d_D_sound_3 : decode b_D_sound 3 = .ok (.istore_n 2, 1) := by decide +kernel
theorem d_D_sound_4 : decode b_D_sound 4 = .ok (.iconst 1, 1) := by decide +kernel
theorem d_D_sound_5 : decode b_D_sound 5 = .ok (.istore_n 3, 1) := by decide +kernel
theorem d_D_sound_6 : decode b_D_sound 6 = .ok (.iload_n 3, 1) := by decide +kernel
theorem d_D_sound_7 : decode b_D_sound 7 = .ok (.aload_n 0, 1) := by decide +kernel
theorem d_D_sound_8 : decode b_D_sound 8 = .ok (.getfield 7, 3) := by decide +kernel
theorem d_D_sound_11 : decode b_D_sound 11 = .ok (.if_icmp .ge 83, 3) := by decide +kernel
theorem d_D_sound_14 : decode b_D_sound 14 = .ok (.iload_n 1, 1) := by decide +kernel
theorem d_D_sound_15 : decode b_D_sound 15 = .ok (.ifCond .eq 16, 3) := by decide +kernel
theorem d_D_sound_18 : decode b_D_sound 18 = .ok (.aload_n 0, 1) := by decide +kernel
theorem d_D_sound_19 : decode b_D_sound 19 = .ok (.getfield 20, 3) := by decide +kernel
theorem d_D_sound_22 : decode b_D_sound 22 = .ok (.iload_n 3, 1) := by decide +kernel
theorem d_D_sound_23 : decode b_D_sound 23 = .ok (.baload, 1) := by decide +kernel
theorem d_D_sound_24 : decode b_D_sound 24 = .ok (.ifCond .eq 7, 3) := by decide +kernel
theorem d_D_sound_27 : decode b_D_sound 27 = .ok (.iconst 1, 1) := by decide +kernel
theorem d_D_sound_28 : decode b_D_sound 28 = .ok (.goto 4, 3) := by decide +kernel
theorem d_D_sound_31 : decode b_D_sound 31 = .ok (.iconst 0, 1) := by decide +kernel
theorem d_D_sound_32 : decode b_D_sound 32 = .ok (.istore_n 1, 1) := by decide +kernel
theorem d_D_sound_33 : decode b_D_sound 33 = .ok (.iinc 2 1, 3) := by decide +kernel
theorem d_D_sound_36 : decode b_D_sound 36 = .ok (.iconst 0, 1) := by decide +kernel
theorem d_D_sound_37 : decode b_D_sound 37 = .ok (.istore 4, 2) := by decide +kernel
theorem d_D_sound_39 : decode b_D_sound 39 = .ok (.iload 4, 2) := by decide +kernel
theorem d_D_sound_41 : decode b_D_sound 41 = .ok (.aload_n 0, 1) := by decide +kernel
theorem d_D_sound_42 : decode b_D_sound 42 = .ok (.iload_n 3, 1) := by decide +kernel
theorem d_D_sound_43 : decode b_D_sound 43 = .ok (.invokevirtual 45, 3) := by decide +kernel
theorem d_D_sound_46 : decode b_D_sound 46 = .ok (.if_icmp .ge 37, 3) := by decide +kernel
theorem d_D_sound_49 : decode b_D_sound 49 = .ok (.iload_n 1, 1) := by decide +kernel
theorem d_D_sound_50 : decode b_D_sound 50 = .ok (.ifCond .eq 25, 3) := by decide +kernel
theorem d_D_sound_53 : decode b_D_sound 53 = .ok (.aload_n 0, 1) := by decide +kernel
theorem d_D_sound_54 : decode b_D_sound 54 = .ok (.aload_n 0, 1) := by decide +kernel
theorem d_D_sound_55 : decode b_D_sound 55 = .ok (.getfield 13, 3) := by decide +kernel
theorem d_D_sound_58 : decode b_D_sound 58 = .ok (.iload_n 3, 1) := by decide +kernel
theorem d_D_sound_59 : decode b_D_sound 59 = .ok (.iconst 1, 1) := by decide +kernel
theorem d_D_sound_60 : decode b_D_sound 60 = .ok (.iadd, 1) := by decide +kernel
theorem d_D_sound_61 : decode b_D_sound 61 = .ok (.iload 4, 2) := by decide +kernel
theorem d_D_sound_63 : decode b_D_sound 63 = .ok (.iadd, 1) := by decide +kernel
theorem d_D_sound_64 : decode b_D_sound 64 = .ok (.iaload, 1) := by decide +kernel
theorem d_D_sound_65 : decode b_D_sound 65 = .ok (.invokevirtual 63, 3) := by decide +kernel
theorem d_D_sound_68 : decode b_D_sound 68 = .ok (.ifCond .eq 7, 3) := by decide +kernel
theorem d_D_sound_71 : decode b_D_sound 71 = .ok (.iconst 1, 1) := by decide +kernel
theorem d_D_sound_72 : decode b_D_sound 72 = .ok (.goto 4, 3) := by decide +kernel
theorem d_D_sound_75 : decode b_D_sound 75 = .ok (.iconst 0, 1) := by decide +kernel
theorem d_D_sound_76 : decode b_D_sound 76 = .ok (.istore_n 1, 1) := by decide +kernel
theorem d_D_sound_77 : decode b_D_sound 77 = .ok (.iinc 4 1, 3) := by decide +kernel
theorem d_D_sound_80 : decode b_D_sound 80 = .ok (.goto (-41), 3) := by decide +kernel
theorem d_D_sound_83 : decode b_D_sound 83 = .ok (.iload_n 3, 1) := by decide +kernel
theorem d_D_sound_84 : decode b_D_sound 84 = .ok (.aload_n 0, 1) := by decide +kernel
theorem d_D_sound_85 : decode b_D_sound 85 = .ok (.iload_n 3, 1) := by decide +kernel
theorem d_D_sound_86 : decode b_D_sound 86 = .ok (.invokevirtual 67, 3) := by decide +kernel
theorem d_D_sound_89 : decode b_D_sound 89 = .ok (.iadd, 1) := by decide +kernel
theorem d_D_sound_90 : decode b_D_sound 90 = .ok (.istore_n 3, 1) := by decide +kernel
end
section
theorem d_D_sound_91 : decode b_D_sound 91 = .ok (.goto (-85), 3) := by decide +kernel
theorem d_D_sound_94 : decode b_D_sound 94 = .ok (.iconst 0, 1) := by decide +kernel
theorem d_D_sound_95 : decode b_D_sound 95 = .ok (.istore_n 3, 1) := by decide +kernel
theorem d_D_sound_96 : decode b_D_sound 96 = .ok (.iload_n 3, 1) := by decide +kernel
theorem d_D_sound_97 : decode b_D_sound 97 = .ok (.bipush 8, 2) := by decide +kernel
theorem d_D_sound_99 : decode b_D_sound 99 = .ok (.if_icmp .ge 32, 3) := by decide +kernel
theorem d_D_sound_102 : decode b_D_sound 102 = .ok (.iload_n 1, 1) := by decide +kernel
theorem d_D_sound_103 : decode b_D_sound 103 = .ok (.ifCond .eq 20, 3) := by decide +kernel
theorem d_D_sound_106 : decode b_D_sound 106 = .ok (.aload_n 0, 1) := by decide +kernel
theorem d_D_sound_107 : decode b_D_sound 107 = .ok (.aload_n 0, 1) := by decide +kernel
theorem d_D_sound_108 : decode b_D_sound 108 = .ok (.getfield 27, 3) := by decide +kernel
theorem d_D_sound_111 : decode b_D_sound 111 = .ok (.iload_n 3, 1) := by decide +kernel
theorem d_D_sound_112 : decode b_D_sound 112 = .ok (.iaload, 1) := by decide +kernel
theorem d_D_sound_113 : decode b_D_sound 113 = .ok (.invokevirtual 63, 3) := by decide +kernel
theorem d_D_sound_116 : decode b_D_sound 116 = .ok (.ifCond .eq 7, 3) := by decide +kernel
theorem d_D_sound_119 : decode b_D_sound 119 = .ok (.iconst 1, 1) := by decide +kernel
theorem d_D_sound_120 : decode b_D_sound 120 = .ok (.goto 4, 3) := by decide +kernel
theorem d_D_sound_123 : decode b_D_sound 123 = .ok (.iconst 0, 1) := by decide +kernel
theorem d_D_sound_124 : decode b_D_sound 124 = .ok (.istore_n 1, 1) := by decide +kernel
theorem d_D_sound_125 : decode b_D_sound 125 = .ok (.iinc 3 1, 3) := by decide +kernel
theorem d_D_sound_128 : decode b_D_sound 128 = .ok (.goto (-32), 3) := by decide +kernel
theorem d_D_sound_131 : decode b_D_sound 131 = .ok (.iload_n 1, 1) := by decide +kernel
theorem d_D_sound_132 : decode b_D_sound 132 = .ok (.ifCond .eq 15, 3) := by decide +kernel
theorem d_D_sound_135 : decode b_D_sound 135 = .ok (.iload_n 2, 1) := by decide +kernel
theorem d_D_sound_136 : decode b_D_sound 136 = .ok (.aload_n 0, 1) := by decide +kernel
theorem d_D_sound_137 : decode b_D_sound 137 = .ok (.getfield 56, 3) := by decide +kernel
theorem d_D_sound_140 : decode b_D_sound 140 = .ok (.if_icmp .ne 7, 3) := by decide +kernel
theorem d_D_sound_143 : decode b_D_sound 143 = .ok (.iconst 1, 1) := by decide +kernel
theorem d_D_sound_144 : decode b_D_sound 144 = .ok (.goto 4, 3) := by decide +kernel
theorem d_D_sound_147 : decode b_D_sound 147 = .ok (.iconst 0, 1) := by decide +kernel
theorem d_D_sound_148 : decode b_D_sound 148 = .ok (.ireturn, 1) := by decide +kernel
theorem d_D_count_0 : decode b_D_count 0 = .ok (.iload_n 1, 1) := by decide +kernel
theorem d_D_count_1 : decode b_D_count 1 = .ok (.tableswitch 60 0 4 #[35, 40, 45, 50, 55], 35) := by decide +kernel
theorem d_D_count_36 : decode b_D_count 36 = .ok (.aload_n 0, 1) := by decide +kernel
theorem d_D_count_37 : decode b_D_count 37 = .ok (.getfield 7, 3) := by decide +kernel
theorem d_D_count_40 : decode b_D_count 40 = .ok (.ireturn, 1) := by decide +kernel
theorem d_D_count_41 : decode b_D_count 41 = .ok (.aload_n 0, 1) := by decide +kernel
theorem d_D_count_42 : decode b_D_count 42 = .ok (.getfield 56, 3) := by decide +kernel
theorem d_D_count_45 : decode b_D_count 45 = .ok (.ireturn, 1) := by decide +kernel
theorem d_D_count_46 : decode b_D_count 46 = .ok (.aload_n 0, 1) := by decide +kernel
theorem d_D_count_47 : decode b_D_count 47 = .ok (.getfield 76, 3) := by decide +kernel
theorem d_D_count_50 : decode b_D_count 50 = .ok (.ireturn, 1) := by decide +kernel
theorem d_D_count_51 : decode b_D_count 51 = .ok (.aload_n 0, 1) := by decide +kernel
theorem d_D_count_52 : decode b_D_count 52 = .ok (.getfield 36, 3) := by decide +kernel
theorem d_D_count_55 : decode b_D_count 55 = .ok (.ireturn, 1) := by decide +kernel
theorem d_D_count_56 : decode b_D_count 56 = .ok (.aload_n 0, 1) := by decide +kernel
theorem d_D_count_57 : decode b_D_count 57 = .ok (.invokevirtual 82, 3) := by decide +kernel
theorem d_D_count_60 : decode b_D_count 60 = .ok (.ireturn, 1) := by decide +kernel
theorem d_D_count_61 : decode b_D_count 61 = .ok (.iconst (-1), 1) := by decide +kernel
theorem d_D_count_62 : decode b_D_count 62 = .ok (.ireturn, 1) := by decide +kernel
theorem d_L_law_0 : decode b_L_law 0 = .ok (.new 7, 3) := by decide +kernel
theorem d_L_law_3 : decode b_L_law 3 = .ok (.dup, 1) := by decide +kernel
theorem d_L_law_4 : decode b_L_law 4 = .ok (.aload_n 0, 1) := by decide +kernel
theorem d_L_law_5 : decode b_L_law 5 = .ok (.iconst 0, 1) := by decide +kernel
theorem d_L_law_6 : decode b_L_law 6 = .ok (.invokestatic 9, 3) := by decide +kernel
theorem d_L_law_9 : decode b_L_law 9 = .ok (.aload_n 0, 1) := by decide +kernel
theorem d_L_law_10 : decode b_L_law 10 = .ok (.iconst 1, 1) := by decide +kernel
theorem d_L_law_11 : decode b_L_law 11 = .ok (.invokestatic 9, 3) := by decide +kernel
theorem d_L_law_14 : decode b_L_law 14 = .ok (.invokespecial 15, 3) := by decide +kernel
theorem d_L_law_17 : decode b_L_law 17 = .ok (.astore_n 1, 1) := by decide +kernel
theorem d_L_law_18 : decode b_L_law 18 = .ok (.new 18, 3) := by decide +kernel
theorem d_L_law_21 : decode b_L_law 21 = .ok (.dup, 1) := by decide +kernel
theorem d_L_law_22 : decode b_L_law 22 = .ok (.aload_n 0, 1) := by decide +kernel
theorem d_L_law_23 : decode b_L_law 23 = .ok (.iconst 0, 1) := by decide +kernel
theorem d_L_law_24 : decode b_L_law 24 = .ok (.invokestatic 9, 3) := by decide +kernel
theorem d_L_law_27 : decode b_L_law 27 = .ok (.aload_n 0, 1) := by decide +kernel
theorem d_L_law_28 : decode b_L_law 28 = .ok (.iconst 1, 1) := by decide +kernel
theorem d_L_law_29 : decode b_L_law 29 = .ok (.invokestatic 9, 3) := by decide +kernel
theorem d_L_law_32 : decode b_L_law 32 = .ok (.invokespecial 20, 3) := by decide +kernel
theorem d_L_law_35 : decode b_L_law 35 = .ok (.astore_n 2, 1) := by decide +kernel
theorem d_L_law_36 : decode b_L_law 36 = .ok (.iconst 2, 1) := by decide +kernel
theorem d_L_law_37 : decode b_L_law 37 = .ok (.istore_n 3, 1) := by decide +kernel
theorem d_L_law_38 : decode b_L_law 38 = .ok (.iload_n 3, 1) := by decide +kernel
theorem d_L_law_39 : decode b_L_law 39 = .ok (.aload_n 0, 1) := by decide +kernel
theorem d_L_law_40 : decode b_L_law 40 = .ok (.arraylength, 1) := by decide +kernel
theorem d_L_law_41 : decode b_L_law 41 = .ok (.iconst 4, 1) := by decide +kernel
theorem d_L_law_42 : decode b_L_law 42 = .ok (.isub, 1) := by decide +kernel
theorem d_L_law_43 : decode b_L_law 43 = .ok (.if_icmp .gt 466, 3) := by decide +kernel
theorem d_L_law_46 : decode b_L_law 46 = .ok (.aload_n 0, 1) := by decide +kernel
theorem d_L_law_47 : decode b_L_law 47 = .ok (.iload_n 3, 1) := by decide +kernel
theorem d_L_law_48 : decode b_L_law 48 = .ok (.iaload, 1) := by decide +kernel
theorem d_L_law_49 : decode b_L_law 49 = .ok (.bipush 15, 2) := by decide +kernel
theorem d_L_law_51 : decode b_L_law 51 = .ok (.iand, 1) := by decide +kernel
theorem d_L_law_52 : decode b_L_law 52 = .ok (.tableswitch 451 0 14 #[76, 109, 152, 195, 228, 241, 264, 287, 310, 333, 356, 379, 392, 415, 428], 76) := by decide +kernel
theorem d_L_law_128 : decode b_L_law 128 = .ok (.aload_n 1, 1) := by decide +kernel
theorem d_L_law_129 : decode b_L_law 129 = .ok (.aload_n 0, 1) := by decide +kernel
theorem d_L_law_130 : decode b_L_law 130 = .ok (.iload_n 3, 1) := by decide +kernel
theorem d_L_law_131 : decode b_L_law 131 = .ok (.iconst 1, 1) := by decide +kernel
theorem d_L_law_132 : decode b_L_law 132 = .ok (.iadd, 1) := by decide +kernel
theorem d_L_law_133 : decode b_L_law 133 = .ok (.iaload, 1) := by decide +kernel
theorem d_L_law_134 : decode b_L_law 134 = .ok (.aload_n 0, 1) := by decide +kernel
theorem d_L_law_135 : decode b_L_law 135 = .ok (.iload_n 3, 1) := by decide +kernel
theorem d_L_law_136 : decode b_L_law 136 = .ok (.iconst 2, 1) := by decide +kernel
theorem d_L_law_137 : decode b_L_law 137 = .ok (.iadd, 1) := by decide +kernel
theorem d_L_law_138 : decode b_L_law 138 = .ok (.iaload, 1) := by decide +kernel
theorem d_L_law_139 : decode b_L_law 139 = .ok (.invokevirtual 21, 3) := by decide +kernel
theorem d_L_law_142 : decode b_L_law 142 = .ok (.aload_n 2, 1) := by decide +kernel
theorem d_L_law_143 : decode b_L_law 143 = .ok (.aload_n 0, 1) := by decide +kernel
theorem d_L_law_144 : decode b_L_law 144 = .ok (.iload_n 3, 1) := by decide +kernel
theorem d_L_law_145 : decode b_L_law 145 = .ok (.iconst 1, 1) := by decide +kernel
theorem d_L_law_146 : decode b_L_law 146 = .ok (.iadd, 1) := by decide +kernel
theorem d_L_law_147 : decode b_L_law 147 = .ok (.iaload, 1) := by decide +kernel
theorem d_L_law_148 : decode b_L_law 148 = .ok (.aload_n 0, 1) := by decide +kernel
theorem d_L_law_149 : decode b_L_law 149 = .ok (.iload_n 3, 1) := by decide +kernel
theorem d_L_law_150 : decode b_L_law 150 = .ok (.iconst 2, 1) := by decide +kernel
theorem d_L_law_151 : decode b_L_law 151 = .ok (.iadd, 1) := by decide +kernel
theorem d_L_law_152 : decode b_L_law 152 = .ok (.iaload, 1) := by decide +kernel
theorem d_L_law_153 : decode b_L_law 153 = .ok (.invokevirtual 25, 3) := by decide +kernel
theorem d_L_law_156 : decode b_L_law 156 = .ok (.if_icmp .eq 347, 3) := by decide +kernel
theorem d_L_law_159 : decode b_L_law 159 = .ok (.iconst 0, 1) := by decide +kernel
theorem d_L_law_160 : decode b_L_law 160 = .ok (.ireturn, 1) := by decide +kernel
theorem d_L_law_161 : decode b_L_law 161 = .ok (.aload_n 1, 1) := by decide +kernel
theorem d_L_law_162 : decode b_L_law 162 = .ok (.aload_n 0, 1) := by decide +kernel
theorem d_L_law_163 : decode b_L_law 163 = .ok (.iload_n 3, 1) := by decide +kernel
theorem d_L_law_164 : decode b_L_law 164 = .ok (.iconst 1, 1) := by decide +kernel
theorem d_L_law_165 : decode b_L_law 165 = .ok (.iadd, 1) := by decide +kernel
theorem d_L_law_166 : decode b_L_law 166 = .ok (.iaload, 1) := by decide +kernel
theorem d_L_law_167 : decode b_L_law 167 = .ok (.aload_n 0, 1) := by decide +kernel
theorem d_L_law_168 : decode b_L_law 168 = .ok (.iload_n 3, 1) := by decide +kernel
theorem d_L_law_169 : decode b_L_law 169 = .ok (.iconst 2, 1) := by decide +kernel
theorem d_L_law_170 : decode b_L_law 170 = .ok (.iadd, 1) := by decide +kernel
theorem d_L_law_171 : decode b_L_law 171 = .ok (.iaload, 1) := by decide +kernel
theorem d_L_law_172 : decode b_L_law 172 = .ok (.aload_n 0, 1) := by decide +kernel
theorem d_L_law_173 : decode b_L_law 173 = .ok (.iload_n 3, 1) := by decide +kernel
theorem d_L_law_174 : decode b_L_law 174 = .ok (.iconst 3, 1) := by decide +kernel
theorem d_L_law_175 : decode b_L_law 175 = .ok (.iadd, 1) := by decide +kernel
theorem d_L_law_176 : decode b_L_law 176 = .ok (.iaload, 1) := by decide +kernel
theorem d_L_law_177 : decode b_L_law 177 = .ok (.invokevirtual 26, 3) := by decide +kernel
theorem d_L_law_180 : decode b_L_law 180 = .ok (.aload_n 2, 1) := by decide +kernel
theorem d_L_law_181 : decode b_L_law 181 = .ok (.aload_n 0, 1) := by decide +kernel
theorem d_L_law_182 : decode b_L_law 182 = .ok (.iload_n 3, 1) := by decide +kernel
theorem d_L_law_183 : decode b_L_law 183 = .ok (.iconst 1, 1) := by decide +kernel
theorem d_L_law_184 : decode b_L_law 184 = .ok (.iadd, 1) := by decide +kernel
theorem d_L_law_185 : decode b_L_law 185 = .ok (.iaload, 1) := by decide +kernel
theorem d_L_law_186 : decode b_L_law 186 = .ok (.aload_n 0, 1) := by decide +kernel
theorem d_L_law_187 : decode b_L_law 187 = .ok (.iload_n 3, 1) := by decide +kernel
theorem d_L_law_188 : decode b_L_law 188 = .ok (.iconst 2, 1) := by decide +kernel
theorem d_L_law_189 : decode b_L_law 189 = .ok (.iadd, 1) := by decide +kernel
theorem d_L_law_190 : decode b_L_law 190 = .ok (.iaload, 1) := by decide +kernel
theorem d_L_law_191 : decode b_L_law 191 = .ok (.aload_n 0, 1) := by decide +kernel
theorem d_L_law_192 : decode b_L_law 192 = .ok (.iload_n 3, 1) := by decide +kernel
theorem d_L_law_193 : decode b_L_law 193 = .ok (.iconst 3, 1) := by decide +kernel
theorem d_L_law_194 : decode b_L_law 194 = .ok (.iadd, 1) := by decide +kernel
theorem d_L_law_195 : decode b_L_law 195 = .ok (.iaload, 1) := by decide +kernel
theorem d_L_law_196 : decode b_L_law 196 = .ok (.invokevirtual 30, 3) := by decide +kernel
theorem d_L_law_199 : decode b_L_law 199 = .ok (.if_icmp .eq 304, 3) := by decide +kernel
theorem d_L_law_202 : decode b_L_law 202 = .ok (.iconst 0, 1) := by decide +kernel
theorem d_L_law_203 : decode b_L_law 203 = .ok (.ireturn, 1) := by decide +kernel
theorem d_L_law_204 : decode b_L_law 204 = .ok (.aload_n 1, 1) := by decide +kernel
theorem d_L_law_205 : decode b_L_law 205 = .ok (.aload_n 0, 1) := by decide +kernel
theorem d_L_law_206 : decode b_L_law 206 = .ok (.iload_n 3, 1) := by decide +kernel
theorem d_L_law_207 : decode b_L_law 207 = .ok (.iconst 1, 1) := by decide +kernel
theorem d_L_law_208 : decode b_L_law 208 = .ok (.iadd, 1) := by decide +kernel
theorem d_L_law_209 : decode b_L_law 209 = .ok (.iaload, 1) := by decide +kernel
theorem d_L_law_210 : decode b_L_law 210 = .ok (.aload_n 0, 1) := by decide +kernel
theorem d_L_law_211 : decode b_L_law 211 = .ok (.iload_n 3, 1) := by decide +kernel
theorem d_L_law_212 : decode b_L_law 212 = .ok (.iconst 2, 1) := by decide +kernel
theorem d_L_law_213 : decode b_L_law 213 = .ok (.iadd, 1) := by decide +kernel
theorem d_L_law_214 : decode b_L_law 214 = .ok (.iaload, 1) := by decide +kernel
theorem d_L_law_215 : decode b_L_law 215 = .ok (.aload_n 0, 1) := by decide +kernel
theorem d_L_law_216 : decode b_L_law 216 = .ok (.iload_n 3, 1) := by decide +kernel
theorem d_L_law_217 : decode b_L_law 217 = .ok (.iconst 3, 1) := by decide +kernel
theorem d_L_law_218 : decode b_L_law 218 = .ok (.iadd, 1) := by decide +kernel
theorem d_L_law_219 : decode b_L_law 219 = .ok (.iaload, 1) := by decide +kernel
theorem d_L_law_220 : decode b_L_law 220 = .ok (.invokevirtual 31, 3) := by decide +kernel
theorem d_L_law_223 : decode b_L_law 223 = .ok (.aload_n 2, 1) := by decide +kernel
theorem d_L_law_224 : decode b_L_law 224 = .ok (.aload_n 0, 1) := by decide +kernel
theorem d_L_law_225 : decode b_L_law 225 = .ok (.iload_n 3, 1) := by decide +kernel
theorem d_L_law_226 : decode b_L_law 226 = .ok (.iconst 1, 1) := by decide +kernel
theorem d_L_law_227 : decode b_L_law 227 = .ok (.iadd, 1) := by decide +kernel
theorem d_L_law_228 : decode b_L_law 228 = .ok (.iaload, 1) := by decide +kernel
theorem d_L_law_229 : decode b_L_law 229 = .ok (.aload_n 0, 1) := by decide +kernel
theorem d_L_law_230 : decode b_L_law 230 = .ok (.iload_n 3, 1) := by decide +kernel
theorem d_L_law_231 : decode b_L_law 231 = .ok (.iconst 2, 1) := by decide +kernel
theorem d_L_law_232 : decode b_L_law 232 = .ok (.iadd, 1) := by decide +kernel
theorem d_L_law_233 : decode b_L_law 233 = .ok (.iaload, 1) := by decide +kernel
theorem d_L_law_234 : decode b_L_law 234 = .ok (.aload_n 0, 1) := by decide +kernel
theorem d_L_law_235 : decode b_L_law 235 = .ok (.iload_n 3, 1) := by decide +kernel
theorem d_L_law_236 : decode b_L_law 236 = .ok (.iconst 3, 1) := by decide +kernel
theorem d_L_law_237 : decode b_L_law 237 = .ok (.iadd, 1) := by decide +kernel
theorem d_L_law_238 : decode b_L_law 238 = .ok (.iaload, 1) := by decide +kernel
theorem d_L_law_239 : decode b_L_law 239 = .ok (.invokevirtual 34, 3) := by decide +kernel
theorem d_L_law_242 : decode b_L_law 242 = .ok (.if_icmp .eq 261, 3) := by decide +kernel
theorem d_L_law_245 : decode b_L_law 245 = .ok (.iconst 0, 1) := by decide +kernel
theorem d_L_law_246 : decode b_L_law 246 = .ok (.ireturn, 1) := by decide +kernel
theorem d_L_law_247 : decode b_L_law 247 = .ok (.aload_n 1, 1) := by decide +kernel
theorem d_L_law_248 : decode b_L_law 248 = .ok (.aload_n 0, 1) := by decide +kernel
theorem d_L_law_249 : decode b_L_law 249 = .ok (.iload_n 3, 1) := by decide +kernel
theorem d_L_law_250 : decode b_L_law 250 = .ok (.iconst 1, 1) := by decide +kernel
theorem d_L_law_251 : decode b_L_law 251 = .ok (.iadd, 1) := by decide +kernel
theorem d_L_law_252 : decode b_L_law 252 = .ok (.iaload, 1) := by decide +kernel
theorem d_L_law_253 : decode b_L_law 253 = .ok (.aload_n 0, 1) := by decide +kernel
theorem d_L_law_254 : decode b_L_law 254 = .ok (.iload_n 3, 1) := by decide +kernel
theorem d_L_law_255 : decode b_L_law 255 = .ok (.iconst 2, 1) := by decide +kernel
theorem d_L_law_256 : decode b_L_law 256 = .ok (.iadd, 1) := by decide +kernel
theorem d_L_law_257 : decode b_L_law 257 = .ok (.iaload, 1) := by decide +kernel
theorem d_L_law_258 : decode b_L_law 258 = .ok (.invokevirtual 35, 3) := by decide +kernel
theorem d_L_law_261 : decode b_L_law 261 = .ok (.aload_n 2, 1) := by decide +kernel
theorem d_L_law_262 : decode b_L_law 262 = .ok (.aload_n 0, 1) := by decide +kernel
theorem d_L_law_263 : decode b_L_law 263 = .ok (.iload_n 3, 1) := by decide +kernel
theorem d_L_law_264 : decode b_L_law 264 = .ok (.iconst 1, 1) := by decide +kernel
theorem d_L_law_265 : decode b_L_law 265 = .ok (.iadd, 1) := by decide +kernel
theorem d_L_law_266 : decode b_L_law 266 = .ok (.iaload, 1) := by decide +kernel
theorem d_L_law_267 : decode b_L_law 267 = .ok (.aload_n 0, 1) := by decide +kernel
theorem d_L_law_268 : decode b_L_law 268 = .ok (.iload_n 3, 1) := by decide +kernel
theorem d_L_law_269 : decode b_L_law 269 = .ok (.iconst 2, 1) := by decide +kernel
theorem d_L_law_270 : decode b_L_law 270 = .ok (.iadd, 1) := by decide +kernel
theorem d_L_law_271 : decode b_L_law 271 = .ok (.iaload, 1) := by decide +kernel
theorem d_L_law_272 : decode b_L_law 272 = .ok (.invokevirtual 39, 3) := by decide +kernel
theorem d_L_law_275 : decode b_L_law 275 = .ok (.if_icmp .eq 228, 3) := by decide +kernel
theorem d_L_law_278 : decode b_L_law 278 = .ok (.iconst 0, 1) := by decide +kernel
theorem d_L_law_279 : decode b_L_law 279 = .ok (.ireturn, 1) := by decide +kernel
theorem d_L_law_280 : decode b_L_law 280 = .ok (.aload_n 1, 1) := by decide +kernel
theorem d_L_law_281 : decode b_L_law 281 = .ok (.invokevirtual 40, 3) := by decide +kernel
theorem d_L_law_284 : decode b_L_law 284 = .ok (.aload_n 2, 1) := by decide +kernel
theorem d_L_law_285 : decode b_L_law 285 = .ok (.invokevirtual 44, 3) := by decide +kernel
theorem d_L_law_288 : decode b_L_law 288 = .ok (.if_icmp .eq 215, 3) := by decide +kernel
theorem d_L_law_291 : decode b_L_law 291 = .ok (.iconst 0, 1) := by decide +kernel
theorem d_L_law_292 : decode b_L_law 292 = .ok (.ireturn, 1) := by decide +kernel
theorem d_L_law_293 : decode b_L_law 293 = .ok (.aload_n 1, 1) := by decide +kernel
theorem d_L_law_294 : decode b_L_law 294 = .ok (.aload_n 0, 1) := by decide +kernel
theorem d_L_law_295 : decode b_L_law 295 = .ok (.iload_n 3, 1) := by decide +kernel
theorem d_L_law_296 : decode b_L_law 296 = .ok (.iconst 1, 1) := by decide +kernel
theorem d_L_law_297 : decode b_L_law 297 = .ok (.iadd, 1) := by decide +kernel
theorem d_L_law_298 : decode b_L_law 298 = .ok (.iaload, 1) := by decide +kernel
theorem d_L_law_299 : decode b_L_law 299 = .ok (.invokevirtual 45, 3) := by decide +kernel
theorem d_L_law_302 : decode b_L_law 302 = .ok (.aload_n 2, 1) := by decide +kernel
theorem d_L_law_303 : decode b_L_law 303 = .ok (.aload_n 0, 1) := by decide +kernel
theorem d_L_law_304 : decode b_L_law 304 = .ok (.iload_n 3, 1) := by decide +kernel
theorem d_L_law_305 : decode b_L_law 305 = .ok (.iconst 1, 1) := by decide +kernel
theorem d_L_law_306 : decode b_L_law 306 = .ok (.iadd, 1) := by decide +kernel
theorem d_L_law_307 : decode b_L_law 307 = .ok (.iaload, 1) := by decide +kernel
theorem d_L_law_308 : decode b_L_law 308 = .ok (.invokevirtual 49, 3) := by decide +kernel
theorem d_L_law_311 : decode b_L_law 311 = .ok (.if_icmp .eq 192, 3) := by decide +kernel
theorem d_L_law_314 : decode b_L_law 314 = .ok (.iconst 0, 1) := by decide +kernel
theorem d_L_law_315 : decode b_L_law 315 = .ok (.ireturn, 1) := by decide +kernel
theorem d_L_law_316 : decode b_L_law 316 = .ok (.aload_n 1, 1) := by decide +kernel
theorem d_L_law_317 : decode b_L_law 317 = .ok (.aload_n 0, 1) := by decide +kernel
theorem d_L_law_318 : decode b_L_law 318 = .ok (.iload_n 3, 1) := by decide +kernel
theorem d_L_law_319 : decode b_L_law 319 = .ok (.iconst 1, 1) := by decide +kernel
theorem d_L_law_320 : decode b_L_law 320 = .ok (.iadd, 1) := by decide +kernel
theorem d_L_law_321 : decode b_L_law 321 = .ok (.iaload, 1) := by decide +kernel
theorem d_L_law_322 : decode b_L_law 322 = .ok (.invokevirtual 50, 3) := by decide +kernel
theorem d_L_law_325 : decode b_L_law 325 = .ok (.aload_n 2, 1) := by decide +kernel
theorem d_L_law_326 : decode b_L_law 326 = .ok (.aload_n 0, 1) := by decide +kernel
theorem d_L_law_327 : decode b_L_law 327 = .ok (.iload_n 3, 1) := by decide +kernel
theorem d_L_law_328 : decode b_L_law 328 = .ok (.iconst 1, 1) := by decide +kernel
theorem d_L_law_329 : decode b_L_law 329 = .ok (.iadd, 1) := by decide +kernel
theorem d_L_law_330 : decode b_L_law 330 = .ok (.iaload, 1) := by decide +kernel
theorem d_L_law_331 : decode b_L_law 331 = .ok (.invokevirtual 54, 3) := by decide +kernel
theorem d_L_law_334 : decode b_L_law 334 = .ok (.if_icmp .eq 169, 3) := by decide +kernel
theorem d_L_law_337 : decode b_L_law 337 = .ok (.iconst 0, 1) := by decide +kernel
theorem d_L_law_338 : decode b_L_law 338 = .ok (.ireturn, 1) := by decide +kernel
theorem d_L_law_339 : decode b_L_law 339 = .ok (.aload_n 1, 1) := by decide +kernel
theorem d_L_law_340 : decode b_L_law 340 = .ok (.aload_n 0, 1) := by decide +kernel
theorem d_L_law_341 : decode b_L_law 341 = .ok (.iload_n 3, 1) := by decide +kernel
theorem d_L_law_342 : decode b_L_law 342 = .ok (.iconst 1, 1) := by decide +kernel
theorem d_L_law_343 : decode b_L_law 343 = .ok (.iadd, 1) := by decide +kernel
theorem d_L_law_344 : decode b_L_law 344 = .ok (.iaload, 1) := by decide +kernel
theorem d_L_law_345 : decode b_L_law 345 = .ok (.invokevirtual 55, 3) := by decide +kernel
theorem d_L_law_348 : decode b_L_law 348 = .ok (.aload_n 2, 1) := by decide +kernel
theorem d_L_law_349 : decode b_L_law 349 = .ok (.aload_n 0, 1) := by decide +kernel
theorem d_L_law_350 : decode b_L_law 350 = .ok (.iload_n 3, 1) := by decide +kernel
theorem d_L_law_351 : decode b_L_law 351 = .ok (.iconst 1, 1) := by decide +kernel
theorem d_L_law_352 : decode b_L_law 352 = .ok (.iadd, 1) := by decide +kernel
theorem d_L_law_353 : decode b_L_law 353 = .ok (.iaload, 1) := by decide +kernel
theorem d_L_law_354 : decode b_L_law 354 = .ok (.invokevirtual 58, 3) := by decide +kernel
theorem d_L_law_357 : decode b_L_law 357 = .ok (.if_icmp .eq 146, 3) := by decide +kernel
theorem d_L_law_360 : decode b_L_law 360 = .ok (.iconst 0, 1) := by decide +kernel
theorem d_L_law_361 : decode b_L_law 361 = .ok (.ireturn, 1) := by decide +kernel
theorem d_L_law_362 : decode b_L_law 362 = .ok (.aload_n 1, 1) := by decide +kernel
theorem d_L_law_363 : decode b_L_law 363 = .ok (.aload_n 0, 1) := by decide +kernel
theorem d_L_law_364 : decode b_L_law 364 = .ok (.iload_n 3, 1) := by decide +kernel
theorem d_L_law_365 : decode b_L_law 365 = .ok (.iconst 1, 1) := by decide +kernel
theorem d_L_law_366 : decode b_L_law 366 = .ok (.iadd, 1) := by decide +kernel
theorem d_L_law_367 : decode b_L_law 367 = .ok (.iaload, 1) := by decide +kernel
theorem d_L_law_368 : decode b_L_law 368 = .ok (.invokevirtual 59, 3) := by decide +kernel
theorem d_L_law_371 : decode b_L_law 371 = .ok (.aload_n 2, 1) := by decide +kernel
theorem d_L_law_372 : decode b_L_law 372 = .ok (.aload_n 0, 1) := by decide +kernel
theorem d_L_law_373 : decode b_L_law 373 = .ok (.iload_n 3, 1) := by decide +kernel
theorem d_L_law_374 : decode b_L_law 374 = .ok (.iconst 1, 1) := by decide +kernel
theorem d_L_law_375 : decode b_L_law 375 = .ok (.iadd, 1) := by decide +kernel
theorem d_L_law_376 : decode b_L_law 376 = .ok (.iaload, 1) := by decide +kernel
theorem d_L_law_377 : decode b_L_law 377 = .ok (.invokevirtual 62, 3) := by decide +kernel
theorem d_L_law_380 : decode b_L_law 380 = .ok (.if_icmp .eq 123, 3) := by decide +kernel
theorem d_L_law_383 : decode b_L_law 383 = .ok (.iconst 0, 1) := by decide +kernel
theorem d_L_law_384 : decode b_L_law 384 = .ok (.ireturn, 1) := by decide +kernel
theorem d_L_law_385 : decode b_L_law 385 = .ok (.aload_n 1, 1) := by decide +kernel
theorem d_L_law_386 : decode b_L_law 386 = .ok (.aload_n 0, 1) := by decide +kernel
theorem d_L_law_387 : decode b_L_law 387 = .ok (.iload_n 3, 1) := by decide +kernel
theorem d_L_law_388 : decode b_L_law 388 = .ok (.iconst 1, 1) := by decide +kernel
theorem d_L_law_389 : decode b_L_law 389 = .ok (.iadd, 1) := by decide +kernel
theorem d_L_law_390 : decode b_L_law 390 = .ok (.iaload, 1) := by decide +kernel
theorem d_L_law_391 : decode b_L_law 391 = .ok (.invokevirtual 63, 3) := by decide +kernel
theorem d_L_law_394 : decode b_L_law 394 = .ok (.aload_n 2, 1) := by decide +kernel
theorem d_L_law_395 : decode b_L_law 395 = .ok (.aload_n 0, 1) := by decide +kernel
theorem d_L_law_396 : decode b_L_law 396 = .ok (.iload_n 3, 1) := by decide +kernel
theorem d_L_law_397 : decode b_L_law 397 = .ok (.iconst 1, 1) := by decide +kernel
theorem d_L_law_398 : decode b_L_law 398 = .ok (.iadd, 1) := by decide +kernel
theorem d_L_law_399 : decode b_L_law 399 = .ok (.iaload, 1) := by decide +kernel
theorem d_L_law_400 : decode b_L_law 400 = .ok (.invokevirtual 66, 3) := by decide +kernel
theorem d_L_law_403 : decode b_L_law 403 = .ok (.if_icmp .eq 100, 3) := by decide +kernel
theorem d_L_law_406 : decode b_L_law 406 = .ok (.iconst 0, 1) := by decide +kernel
theorem d_L_law_407 : decode b_L_law 407 = .ok (.ireturn, 1) := by decide +kernel
theorem d_L_law_408 : decode b_L_law 408 = .ok (.aload_n 1, 1) := by decide +kernel
theorem d_L_law_409 : decode b_L_law 409 = .ok (.aload_n 0, 1) := by decide +kernel
theorem d_L_law_410 : decode b_L_law 410 = .ok (.iload_n 3, 1) := by decide +kernel
theorem d_L_law_411 : decode b_L_law 411 = .ok (.iconst 1, 1) := by decide +kernel
theorem d_L_law_412 : decode b_L_law 412 = .ok (.iadd, 1) := by decide +kernel
theorem d_L_law_413 : decode b_L_law 413 = .ok (.iaload, 1) := by decide +kernel
theorem d_L_law_414 : decode b_L_law 414 = .ok (.invokevirtual 67, 3) := by decide +kernel
theorem d_L_law_417 : decode b_L_law 417 = .ok (.aload_n 2, 1) := by decide +kernel
theorem d_L_law_418 : decode b_L_law 418 = .ok (.aload_n 0, 1) := by decide +kernel
theorem d_L_law_419 : decode b_L_law 419 = .ok (.iload_n 3, 1) := by decide +kernel
theorem d_L_law_420 : decode b_L_law 420 = .ok (.iconst 1, 1) := by decide +kernel
theorem d_L_law_421 : decode b_L_law 421 = .ok (.iadd, 1) := by decide +kernel
theorem d_L_law_422 : decode b_L_law 422 = .ok (.iaload, 1) := by decide +kernel
theorem d_L_law_423 : decode b_L_law 423 = .ok (.invokevirtual 70, 3) := by decide +kernel
theorem d_L_law_426 : decode b_L_law 426 = .ok (.if_icmp .eq 77, 3) := by decide +kernel
theorem d_L_law_429 : decode b_L_law 429 = .ok (.iconst 0, 1) := by decide +kernel
theorem d_L_law_430 : decode b_L_law 430 = .ok (.ireturn, 1) := by decide +kernel
theorem d_L_law_431 : decode b_L_law 431 = .ok (.aload_n 1, 1) := by decide +kernel
theorem d_L_law_432 : decode b_L_law 432 = .ok (.invokevirtual 71, 3) := by decide +kernel
theorem d_L_law_435 : decode b_L_law 435 = .ok (.aload_n 2, 1) := by decide +kernel
theorem d_L_law_436 : decode b_L_law 436 = .ok (.invokevirtual 74, 3) := by decide +kernel
theorem d_L_law_439 : decode b_L_law 439 = .ok (.if_icmp .eq 64, 3) := by decide +kernel
theorem d_L_law_442 : decode b_L_law 442 = .ok (.iconst 0, 1) := by decide +kernel
theorem d_L_law_443 : decode b_L_law 443 = .ok (.ireturn, 1) := by decide +kernel
theorem d_L_law_444 : decode b_L_law 444 = .ok (.aload_n 1, 1) := by decide +kernel
theorem d_L_law_445 : decode b_L_law 445 = .ok (.aload_n 0, 1) := by decide +kernel
theorem d_L_law_446 : decode b_L_law 446 = .ok (.iload_n 3, 1) := by decide +kernel
theorem d_L_law_447 : decode b_L_law 447 = .ok (.iconst 1, 1) := by decide +kernel
theorem d_L_law_448 : decode b_L_law 448 = .ok (.iadd, 1) := by decide +kernel
theorem d_L_law_449 : decode b_L_law 449 = .ok (.iaload, 1) := by decide +kernel
theorem d_L_law_450 : decode b_L_law 450 = .ok (.invokevirtual 75, 3) := by decide +kernel
theorem d_L_law_453 : decode b_L_law 453 = .ok (.aload_n 2, 1) := by decide +kernel
theorem d_L_law_454 : decode b_L_law 454 = .ok (.aload_n 0, 1) := by decide +kernel
theorem d_L_law_455 : decode b_L_law 455 = .ok (.iload_n 3, 1) := by decide +kernel
theorem d_L_law_456 : decode b_L_law 456 = .ok (.iconst 1, 1) := by decide +kernel
theorem d_L_law_457 : decode b_L_law 457 = .ok (.iadd, 1) := by decide +kernel
theorem d_L_law_458 : decode b_L_law 458 = .ok (.iaload, 1) := by decide +kernel
theorem d_L_law_459 : decode b_L_law 459 = .ok (.invokevirtual 78, 3) := by decide +kernel
theorem d_L_law_462 : decode b_L_law 462 = .ok (.if_icmp .eq 41, 3) := by decide +kernel
theorem d_L_law_465 : decode b_L_law 465 = .ok (.iconst 0, 1) := by decide +kernel
theorem d_L_law_466 : decode b_L_law 466 = .ok (.ireturn, 1) := by decide +kernel
theorem d_L_law_467 : decode b_L_law 467 = .ok (.aload_n 1, 1) := by decide +kernel
theorem d_L_law_468 : decode b_L_law 468 = .ok (.invokevirtual 79, 3) := by decide +kernel
theorem d_L_law_471 : decode b_L_law 471 = .ok (.aload_n 2, 1) := by decide +kernel
theorem d_L_law_472 : decode b_L_law 472 = .ok (.invokevirtual 83, 3) := by decide +kernel
theorem d_L_law_475 : decode b_L_law 475 = .ok (.if_icmp .eq 28, 3) := by decide +kernel
theorem d_L_law_478 : decode b_L_law 478 = .ok (.iconst 0, 1) := by decide +kernel
theorem d_L_law_479 : decode b_L_law 479 = .ok (.ireturn, 1) := by decide +kernel
theorem d_L_law_480 : decode b_L_law 480 = .ok (.aload_n 1, 1) := by decide +kernel
theorem d_L_law_481 : decode b_L_law 481 = .ok (.aload_n 0, 1) := by decide +kernel
theorem d_L_law_482 : decode b_L_law 482 = .ok (.iload_n 3, 1) := by decide +kernel
theorem d_L_law_483 : decode b_L_law 483 = .ok (.iconst 1, 1) := by decide +kernel
theorem d_L_law_484 : decode b_L_law 484 = .ok (.iadd, 1) := by decide +kernel
theorem d_L_law_485 : decode b_L_law 485 = .ok (.iaload, 1) := by decide +kernel
theorem d_L_law_486 : decode b_L_law 486 = .ok (.invokevirtual 84, 3) := by decide +kernel
theorem d_L_law_489 : decode b_L_law 489 = .ok (.aload_n 2, 1) := by decide +kernel
theorem d_L_law_490 : decode b_L_law 490 = .ok (.aload_n 0, 1) := by decide +kernel
theorem d_L_law_491 : decode b_L_law 491 = .ok (.iload_n 3, 1) := by decide +kernel
theorem d_L_law_492 : decode b_L_law 492 = .ok (.iconst 1, 1) := by decide +kernel
theorem d_L_law_493 : decode b_L_law 493 = .ok (.iadd, 1) := by decide +kernel
theorem d_L_law_494 : decode b_L_law 494 = .ok (.iaload, 1) := by decide +kernel
theorem d_L_law_495 : decode b_L_law 495 = .ok (.invokevirtual 87, 3) := by decide +kernel
theorem d_L_law_498 : decode b_L_law 498 = .ok (.if_icmp .eq 5, 3) := by decide +kernel
theorem d_L_law_501 : decode b_L_law 501 = .ok (.iconst 0, 1) := by decide +kernel
theorem d_L_law_502 : decode b_L_law 502 = .ok (.ireturn, 1) := by decide +kernel
theorem d_L_law_503 : decode b_L_law 503 = .ok (.iinc 3 4, 3) := by decide +kernel
theorem d_L_law_506 : decode b_L_law 506 = .ok (.goto (-468), 3) := by decide +kernel
theorem d_L_law_509 : decode b_L_law 509 = .ok (.iconst 1, 1) := by decide +kernel
theorem d_L_law_510 : decode b_L_law 510 = .ok (.ireturn, 1) := by decide +kernel
end
section
/-! MY ROWS: the kit's rows with naturals for ints (nI), and with the tables' words in one list (GT) -/
/-- what every contract asks of the tables beside its words: the classes, the array classes, the nest mate's field -/
def kK (D : va_G) (tys : List (ClassId × FieldType)) (U : State) : Prop := va_K D classes tys U ∧ va_Nw nW U
theorem kK.warm {D : va_G} {tys : List (ClassId × FieldType)} {s U : State} (h : kK D tys s) (hW : s.WarmedH U.vm) : kK D tys U := ⟨va_K.moved hW.alike h.1, va_Nw.warmF hW h.2⟩
theorem kK.call {D : va_G} {tys : List (ClassId × FieldType)} {U : State} (h : kK D tys U) (g : JFrame) (mk : MethodId) (a : Array Value) : kK D tys (U.calling g mk a) := ⟨va_K.moved (u := U) (U := U.calling g mk a) (Vm.Alike.refl U.vm) h.1, va_Nw.same rfl (u := U) (U := U.calling g mk a) rfl h.2⟩
theorem gd_w {c0 w : Cond} (h : w ∈ GT) : w ∈ c0 :: GT ∧ ((w.onTables && w.keeps) = true ∨ ∃ ty, w = .arrayClass ty) := ⟨List.mem_cons_of_mem _ h, good_of_word (List.mem_filter.mp h).2⟩
theorem gd_V {c0 : Cond} {own C : String} {idx n : Nat} {y : MethodName} {b : ByteArray} {r : Option FieldType} (h1 : Cond.methodLink own idx y ∈ GT) (h2 : Cond.instanceMethod y ∈ GT) (h3 : Cond.selects C y y ∈ GT) (h4 : Cond.initialized C ∈ GT) (h5 : Cond.code y b n r ∈ GT) : GoodIn (c0 :: GT) (wsV own idx C y (.code y b n r :: GT)) := by
  intro w hw
  unfold wsV at hw
  simp only [List.cons_append, List.nil_append, List.mem_cons] at hw
  rcases hw with rfl | rfl | rfl | rfl | rfl | hw
  · exact gd_w h1
  · exact gd_w h2
  · exact gd_w h3
  · exact gd_w h4
  · exact gd_w h5
  · exact gd_w hw
theorem gd_S {c0 : Cond} {own : String} {idx n : Nat} {y : MethodName} {b : ByteArray} {r : Option FieldType} (h1 : Cond.methodLink own idx y ∈ GT) (h2 : Cond.static y ∈ GT) (h4 : Cond.initialized y.cls ∈ GT) (h5 : Cond.code y b n r ∈ GT) : GoodIn (c0 :: GT) (va_wsS own idx y (.code y b n r :: GT)) := by
  intro w hw
  unfold va_wsS at hw
  simp only [List.cons_append, List.nil_append, List.mem_cons] at hw
  rcases hw with rfl | rfl | rfl | rfl | hw
  · exact gd_w h1
  · exact gd_w h2
  · exact gd_w h4
  · exact gd_w h5
  · exact gd_w hw
theorem gd_I {c0 : Cond} {n : Nat} {y : MethodName} {b : ByteArray} {r : Option FieldType} (h5 : Cond.code y b n r ∈ GT) : GoodIn (c0 :: GT) (.code y b n r :: GT) := by
  intro w hw
  rcases List.mem_cons.mp hw with rfl | hw
  · exact gd_w h5
  · exact gd_w hw
def b2i (b : Bool) : Int32 := if b then 1 else 0
theorem b2i_t : b2i true = 1 := rfl
theorem b2i_f : b2i false = 0 := rfl
theorem b2i_nar (b : Bool) : narrow .boolean (.int (b2i b)) = .int (b2i b) := by cases b <;> rfl
theorem b2i_vnar (b : Bool) : vp_nar .boolean (b2i b) = b2i b := by cases b <;> rfl
theorem b2i_0 {b : Bool} : b2i b = 0 ↔ b = false := by cases b <;> decide
theorem b2i_n0 {b : Bool} : ¬ b2i b = 0 ↔ b = true := by cases b <;> decide
section KR
variable {p : Program} {l : Launch} {e : Env} {R : Room} {s : State} {m : MethodId} {args : Array Value} {below : List Frame} {meth : Method} {c : Code} {H : Heap} {locs : List Loc} {cells slots : Nat} {Q : State → Prop} {cc : ByteArray} {pc : Nat} {ls : Array Slot} {rest : List Value}
theorem k_top {x y : Int32} (h : x = y) (k : W p l e R s m args below meth c H locs cells slots Q (F0 m pc ls (.int y :: rest))) : W p l e R s m args below meth c H locs cells slots Q (F0 m pc ls (.int x :: rest)) := by rw [h]; exact k
theorem k_topl {x y : Int64} (h : x = y) (k : W p l e R s m args below meth c H locs cells slots Q (F0 m pc ls (.long y :: rest))) : W p l e R s m args below meth c H locs cells slots Q (F0 m pc ls (.long x :: rest)) := by rw [h]; exact k
theorem k_add (hx : p.tables.exec = Jvm.exec) (hb : c.code = cc) {a b : Nat} (hd : decode cc pc = .ok (.iadd, 1)) (k : W p l e R s m args below meth c H locs cells slots Q (F0 m (pc + 1) ls (.int (nI (a + b)) :: rest))) : W p l e R s m args below meth c H locs cells slots Q (F0 m pc ls (.int (nI b) :: .int (nI a) :: rest)) := lv_iadd hx hb hd (k_top (nI_add a b) k)
theorem k_sub (hx : p.tables.exec = Jvm.exec) (hb : c.code = cc) {a b : Nat} (hd : decode cc pc = .ok (.isub, 1)) (h : b ≤ a) (k : W p l e R s m args below meth c H locs cells slots Q (F0 m (pc + 1) ls (.int (nI (a - b)) :: rest))) : W p l e R s m args below meth c H locs cells slots Q (F0 m pc ls (.int (nI b) :: .int (nI a) :: rest)) := lv_isub hx hb hd (k_top (pk_sub h) k)
theorem k_mul (hx : p.tables.exec = Jvm.exec) (hb : c.code = cc) {a b : Nat} (hd : decode cc pc = .ok (.imul, 1)) (k : W p l e R s m args below meth c H locs cells slots Q (F0 m (pc + 1) ls (.int (nI (a * b)) :: rest))) : W p l e R s m args below meth c H locs cells slots Q (F0 m pc ls (.int (nI b) :: .int (nI a) :: rest)) := lv_imul hx hb hd (k_top (pk_mul a b) k)
theorem k_div (hx : p.tables.exec = Jvm.exec) (hb : c.code = cc) {a b : Nat} (hd : decode cc pc = .ok (.idiv, 1)) (ha : a < 2 ^ 31) (h0 : 0 < b) (hb2 : b < 2 ^ 31) (k : W p l e R s m args below meth c H locs cells slots Q (F0 m (pc + 1) ls (.int (nI (a / b)) :: rest))) : W p l e R s m args below meth c H locs cells slots Q (F0 m pc ls (.int (nI b) :: .int (nI a) :: rest)) := lv_idiv hx hb hd (nI_ne0 h0 hb2) (k_top (pk_div ha h0 hb2) k)
theorem k_rem (hx : p.tables.exec = Jvm.exec) (hb : c.code = cc) {a b : Nat} (hd : decode cc pc = .ok (.irem, 1)) (ha : a < 2 ^ 31) (h0 : 0 < b) (hb2 : b < 2 ^ 31) (k : W p l e R s m args below meth c H locs cells slots Q (F0 m (pc + 1) ls (.int (nI (a % b)) :: rest))) : W p l e R s m args below meth c H locs cells slots Q (F0 m pc ls (.int (nI b) :: .int (nI a) :: rest)) := lv_irem hx hb hd (nI_ne0 h0 hb2) (k_top (pk_rem ha h0 hb2) k)
theorem k_ige (hx : p.tables.exec = Jvm.exec) (hb : c.code = cc) {a b : Nat} {off : Int} {tgt : Nat} (hd : decode cc pc = .ok (.if_icmp .ge off, 3)) (ht : (pc : Int) + off = (tgt : Int)) (ha : a < 2 ^ 31) (hb2 : b < 2 ^ 31)
    (kt : b ≤ a → W p l e R s m args below meth c H locs cells slots Q (F0 m tgt ls rest)) (kf : a < b → W p l e R s m args below meth c H locs cells slots Q (F0 m (pc + 3) ls rest)) : W p l e R s m args below meth c H locs cells slots Q (F0 m pc ls (.int (nI b) :: .int (nI a) :: rest)) :=
  lv_icmp_ge hx hb hd ht (fun h => kt ((nI_leI hb2 ha).mp h)) (fun h => kf (Nat.lt_of_not_le (fun q => h ((nI_leI hb2 ha).mpr q))))
theorem k_igt (hx : p.tables.exec = Jvm.exec) (hb : c.code = cc) {a b : Nat} {off : Int} {tgt : Nat} (hd : decode cc pc = .ok (.if_icmp .gt off, 3)) (ht : (pc : Int) + off = (tgt : Int)) (ha : a < 2 ^ 31) (hb2 : b < 2 ^ 31)
    (kt : b < a → W p l e R s m args below meth c H locs cells slots Q (F0 m tgt ls rest)) (kf : a ≤ b → W p l e R s m args below meth c H locs cells slots Q (F0 m (pc + 3) ls rest)) : W p l e R s m args below meth c H locs cells slots Q (F0 m pc ls (.int (nI b) :: .int (nI a) :: rest)) :=
  lv_icmp_gt hx hb hd ht (fun h => kt ((nI_ltI hb2 ha).mp h)) (fun h => kf (Nat.le_of_not_lt (fun q => h ((nI_ltI hb2 ha).mpr q))))
theorem k_ile (hx : p.tables.exec = Jvm.exec) (hb : c.code = cc) {a b : Nat} {off : Int} {tgt : Nat} (hd : decode cc pc = .ok (.if_icmp .le off, 3)) (ht : (pc : Int) + off = (tgt : Int)) (ha : a < 2 ^ 31) (hb2 : b < 2 ^ 31)
    (kt : a ≤ b → W p l e R s m args below meth c H locs cells slots Q (F0 m tgt ls rest)) (kf : b < a → W p l e R s m args below meth c H locs cells slots Q (F0 m (pc + 3) ls rest)) : W p l e R s m args below meth c H locs cells slots Q (F0 m pc ls (.int (nI b) :: .int (nI a) :: rest)) :=
  lv_icmp_le hx hb hd ht (fun h => kt ((nI_leI ha hb2).mp h)) (fun h => kf (Nat.lt_of_not_le (fun q => h ((nI_leI ha hb2).mpr q))))
theorem k_ilt (hx : p.tables.exec = Jvm.exec) (hb : c.code = cc) {a b : Nat} {off : Int} {tgt : Nat} (hd : decode cc pc = .ok (.if_icmp .lt off, 3)) (ht : (pc : Int) + off = (tgt : Int)) (ha : a < 2 ^ 31) (hb2 : b < 2 ^ 31)
    (kt : a < b → W p l e R s m args below meth c H locs cells slots Q (F0 m tgt ls rest)) (kf : b ≤ a → W p l e R s m args below meth c H locs cells slots Q (F0 m (pc + 3) ls rest)) : W p l e R s m args below meth c H locs cells slots Q (F0 m pc ls (.int (nI b) :: .int (nI a) :: rest)) :=
  lv_icmp_lt hx hb hd ht (fun h => kt ((nI_ltI ha hb2).mp h)) (fun h => kf (Nat.le_of_not_lt (fun q => h ((nI_ltI ha hb2).mpr q))))
theorem k_ieq (hx : p.tables.exec = Jvm.exec) (hb : c.code = cc) {a b : Nat} {off : Int} {tgt : Nat} (hd : decode cc pc = .ok (.if_icmp .eq off, 3)) (ht : (pc : Int) + off = (tgt : Int)) (ha : a < 2 ^ 31) (hb2 : b < 2 ^ 31)
    (kt : a = b → W p l e R s m args below meth c H locs cells slots Q (F0 m tgt ls rest)) (kf : a ≠ b → W p l e R s m args below meth c H locs cells slots Q (F0 m (pc + 3) ls rest)) : W p l e R s m args below meth c H locs cells slots Q (F0 m pc ls (.int (nI b) :: .int (nI a) :: rest)) :=
  lv_icmp_eq hx hb hd ht (fun h => kt ((nI_eq ha hb2).mp h)) (fun h => kf (fun q => h ((nI_eq ha hb2).mpr q)))
theorem k_ine (hx : p.tables.exec = Jvm.exec) (hb : c.code = cc) {a b : Nat} {off : Int} {tgt : Nat} (hd : decode cc pc = .ok (.if_icmp .ne off, 3)) (ht : (pc : Int) + off = (tgt : Int)) (ha : a < 2 ^ 31) (hb2 : b < 2 ^ 31)
    (kt : a ≠ b → W p l e R s m args below meth c H locs cells slots Q (F0 m tgt ls rest)) (kf : a = b → W p l e R s m args below meth c H locs cells slots Q (F0 m (pc + 3) ls rest)) : W p l e R s m args below meth c H locs cells slots Q (F0 m pc ls (.int (nI b) :: .int (nI a) :: rest)) :=
  lv_icmp_ne hx hb hd ht (fun h => kt (fun q => h ((nI_eq ha hb2).mpr q))) (fun h => kf ((nI_eq ha hb2).mp h))
theorem k_zeq (hx : p.tables.exec = Jvm.exec) (hb : c.code = cc) {a : Nat} {off : Int} {tgt : Nat} (hd : decode cc pc = .ok (.ifCond .eq off, 3)) (ht : (pc : Int) + off = (tgt : Int)) (ha : a < 2 ^ 31)
    (kt : a = 0 → W p l e R s m args below meth c H locs cells slots Q (F0 m tgt ls rest)) (kf : 0 < a → W p l e R s m args below meth c H locs cells slots Q (F0 m (pc + 3) ls rest)) : W p l e R s m args below meth c H locs cells slots Q (F0 m pc ls (.int (nI a) :: rest)) :=
  lv_if_eq hx hb hd ht (fun h => kt ((nI_eq ha (by decide)).mp (h.trans nI_0.symm))) (fun h => kf (Nat.pos_of_ne_zero (fun q => h (by rw [q]; exact nI_0))))
theorem k_zne (hx : p.tables.exec = Jvm.exec) (hb : c.code = cc) {a : Nat} {off : Int} {tgt : Nat} (hd : decode cc pc = .ok (.ifCond .ne off, 3)) (ht : (pc : Int) + off = (tgt : Int)) (ha : a < 2 ^ 31)
    (kt : 0 < a → W p l e R s m args below meth c H locs cells slots Q (F0 m tgt ls rest)) (kf : a = 0 → W p l e R s m args below meth c H locs cells slots Q (F0 m (pc + 3) ls rest)) : W p l e R s m args below meth c H locs cells slots Q (F0 m pc ls (.int (nI a) :: rest)) :=
  lv_if_ne hx hb hd ht (fun h => kt (Nat.pos_of_ne_zero (fun q => h (by rw [q]; exact nI_0)))) (fun h => kf ((nI_eq ha (by decide)).mp (h.trans nI_0.symm)))
theorem k_zle (hx : p.tables.exec = Jvm.exec) (hb : c.code = cc) {a : Nat} {off : Int} {tgt : Nat} (hd : decode cc pc = .ok (.ifCond .le off, 3)) (ht : (pc : Int) + off = (tgt : Int)) (ha : a < 2 ^ 31)
    (kt : a = 0 → W p l e R s m args below meth c H locs cells slots Q (F0 m tgt ls rest)) (kf : 0 < a → W p l e R s m args below meth c H locs cells slots Q (F0 m (pc + 3) ls rest)) : W p l e R s m args below meth c H locs cells slots Q (F0 m pc ls (.int (nI a) :: rest)) :=
  lv_if_le hx hb hd ht (fun h => kt (Nat.le_zero.mp ((nI_leI ha (by decide)).mp (by rw [nI_0]; exact h)))) (fun h => kf (Nat.pos_of_ne_zero (fun q => h (by rw [q, nI_0]; decide))))
theorem k_beq (hx : p.tables.exec = Jvm.exec) (hb : c.code = cc) {a : Bool} {off : Int} {tgt : Nat} (hd : decode cc pc = .ok (.ifCond .eq off, 3)) (ht : (pc : Int) + off = (tgt : Int))
    (kt : a = false → W p l e R s m args below meth c H locs cells slots Q (F0 m tgt ls rest)) (kf : a = true → W p l e R s m args below meth c H locs cells slots Q (F0 m (pc + 3) ls rest)) : W p l e R s m args below meth c H locs cells slots Q (F0 m pc ls (.int (b2i a) :: rest)) :=
  lv_if_eq hx hb hd ht (fun h => kt (b2i_0.mp h)) (fun h => kf (b2i_n0.mp h))
theorem k_bne (hx : p.tables.exec = Jvm.exec) (hb : c.code = cc) {a : Bool} {off : Int} {tgt : Nat} (hd : decode cc pc = .ok (.ifCond .ne off, 3)) (ht : (pc : Int) + off = (tgt : Int))
    (kt : a = true → W p l e R s m args below meth c H locs cells slots Q (F0 m tgt ls rest)) (kf : a = false → W p l e R s m args below meth c H locs cells slots Q (F0 m (pc + 3) ls rest)) : W p l e R s m args below meth c H locs cells slots Q (F0 m pc ls (.int (b2i a) :: rest)) :=
  lv_if_ne hx hb hd ht (fun h => kt (b2i_n0.mp h)) (fun h => kf (b2i_0.mp h))
theorem k_iinc (hx : p.tables.exec = Jvm.exec) (hb : c.code = cc) {i nL k a : Nat} {lv lv' : List (Nat × Value)} (hdg : decode cc pc = .ok (.iinc i 1, 3)) (h : lv_has ls nL lv) (hk : lv[k]? = some (i, .int (nI a))) (hn : i < nL) (hl : (i, Value.int (nI (a + 1))) :: lv.filter (fun q => !(q.1 == i) && !(q.1 + 1 == i && q.2.category == 2)) = lv')
    (kk : ∀ ls' : Array Slot, lv_has ls' nL lv' → W p l e R s m args below meth c H locs cells slots Q (F0 m (pc + 3) ls' rest)) : W p l e R s m args below meth c H locs cells slots Q (F0 m pc ls rest) :=
  lv_iinc (v := nI (a + 1)) hx hb hdg h hk (nI_1 a) hn hl kk
variable {nL : Nat} {c0 : Cond} {own : String} {D : va_G} {tys : List (ClassId × FieldType)} {ws : va_W} {A : Nat → Prop} {H0 : Heap} {a : Nat}
/-- getfield -/
theorem k_get (S : CallFix p m c cc nL s args (c0 :: GT) own) {C : String} {T : u_T} {N ci index : Nat} (hw : ∀ w ∈ u_ws C T N, w ∈ GT) (hK : kK D tys s) (hP : va_P D classes ws H) (q0 : Nat) {fs : List Value} (he : ws[q0]? = some (a, .inr (ci, fs))) (hc : classes[ci]? = some (C, T, N)) (k : Nat) (hk : k < N) (hl : Cond.fieldLink own index C (T k).2.1 (T k).2.2.1 ∈ GT) (hT : (T k).1 = C) {v : Value} (hv : fs[k]? = some v) (hdg : decode cc pc = .ok (.getfield index, 3))
    (kk : W p l e R s m args below meth c H locs cells slots Q (F0 m (pc + 3) ls (v :: rest))) : W p l e R s m args below meth c H locs cells slots Q (F0 m pc ls (.ref a :: rest)) :=
  va_get (D := D) (cl := classes) S.1 S.2.1 S.2.2.2.2 (fun w h => List.mem_cons_of_mem _ (hw w h)) S.2.2.2.1 hK.1 hP q0 he hc k hk (S.2.2.2.2 _ (List.mem_cons_of_mem _ hl)) (fun x h => by rw [hT] at h; exact h) hv hdg kk
/-- getfield of the nest mate's offsets -/
theorem k_getN (S : CallFix p m c cc nL s args (c0 :: GT) R_H) (hK : kK D tys s) (hP : va_P D classes ws H) (q0 : Nat) {fs : List Value} (he : ws[q0]? = some (a, .inr (1, fs))) {v : Value} (hv : fs[1]? = some v) (hdg : decode cc pc = .ok (.getfield 112, 3))
    (kk : W p l e R s m args below meth c H locs cells slots Q (F0 m (pc + 3) ls (v :: rest))) : W p l e R s m args below meth c H locs cells slots Q (F0 m pc ls (.ref a :: rest)) :=
  va_getN (D := D) (cl := classes) (C := R_M) (T := F_M) (N := 3) (ref := "OffsetHeap$Map") (host := R_H) S.1 S.2.1 S.2.2.2.2 (fun w h => List.mem_cons_of_mem _ (i_M w h)) S.2.2.2.1 hK.1 hP q0 he rfl 1 (by decide) (va_Nw.use rfl hK.2) (fun _ h => h) hv hdg kk
/-- putfield -/
theorem k_put (S : CallFix p m c cc nL s args (c0 :: GT) own) {C : String} {T : u_T} {N ci index : Nat} (hw : ∀ w ∈ u_ws C T N, w ∈ GT) {ty0 : Nat → FieldType} (hty : ∀ k, k < N → parseFieldDescriptor (T k).2.2.1 = some (ty0 k)) (hnm : ∀ a, a < N → ∀ b, b < N → a ≠ b → (T a).2.1 ≠ (T b).2.1) (hK : kK D tys s) (hP : va_P D classes ws H) (hD : va_D A ws) (hS : va_S A H0 H locs) (q0 : Nat) {fs : List Value} (he : ws[q0]? = some (a, .inr (ci, fs))) (hc : classes[ci]? = some (C, T, N)) (k : Nat) (hk : k < N) (hl : Cond.fieldLink own index C (T k).2.1 (T k).2.2.1 ∈ GT) (hT : (T k).1 = C) (hfin : (T k).2.2.2 = false) {v : Value} (hn : narrow (ty0 k) v = v) (hfit : fits (ty0 k) v = true) (hlen : k < fs.length) {ws' : va_W} (hws : ws.set q0 (a, .inr (ci, fs.set k v)) = ws') (hdg : decode cc pc = .ok (.putfield index, 3))
    (kk : ∀ (H1 : Heap) (locs1 : List Loc), va_P D classes ws' H1 → va_D A ws' → va_S A H0 H1 locs1 → W p l e R s m args below meth c H1 locs1 cells slots Q (F0 m (pc + 3) ls rest)) : W p l e R s m args below meth c H locs cells slots Q (F0 m pc ls (v :: .ref a :: rest)) := by
  subst hws
  exact va_put (D := D) (cl := classes) S.1 S.2.1 S.2.2.2.2 (fun w h => List.mem_cons_of_mem _ (hw w h)) ty0 hty hnm S.2.2.2.1 hK.1 hP hD hS q0 he hc k hk (S.2.2.2.2 _ (List.mem_cons_of_mem _ hl)) (fun x h => by rw [hT] at h; exact h) hfin (hty k hk) hn hfit hlen hdg kk
/-- putfield of a final field, in the constructor -/
theorem k_putF (S : CallFix p m c cc nL s args (c0 :: GT) own) {C : String} {T : u_T} {N ci index : Nat} (hw : ∀ w ∈ u_ws C T N, w ∈ GT) {ty0 : Nat → FieldType} (hty : ∀ k, k < N → parseFieldDescriptor (T k).2.2.1 = some (ty0 k)) (hnm : ∀ a, a < N → ∀ b, b < N → a ≠ b → (T a).2.1 ≠ (T b).2.1) (hK : kK D tys s) (hP : va_P D classes ws H) (hD : va_D A ws) (hS : va_S A H0 H locs) (q0 : Nat) {fs : List Value} (he : ws[q0]? = some (a, .inr (ci, fs))) (hc : classes[ci]? = some (C, T, N)) (k : Nat) (hk : k < N) (hl : Cond.fieldLink own index C (T k).2.1 (T k).2.2.1 ∈ GT) (hT : (T k).1 = C) (hown : C = own) (hfin : (T k).2.2.2 = true) (hin2 : meth.name = "<init>") {v : Value} (hn : narrow (ty0 k) v = v) (hfit : fits (ty0 k) v = true) (hlen : k < fs.length) {ws' : va_W} (hws : ws.set q0 (a, .inr (ci, fs.set k v)) = ws') (hdg : decode cc pc = .ok (.putfield index, 3))
    (kk : ∀ (H1 : Heap) (locs1 : List Loc), va_P D classes ws' H1 → va_D A ws' → va_S A H0 H1 locs1 → W p l e R s m args below meth c H1 locs1 cells slots Q (F0 m (pc + 3) ls rest)) : W p l e R s m args below meth c H locs cells slots Q (F0 m pc ls (v :: .ref a :: rest)) := by
  subst hws
  exact va_putF (D := D) (cl := classes) S.1 S.2.1 S.2.2.2.2 (fun w h => List.mem_cons_of_mem _ (hw w h)) ty0 hty hnm S.2.2.2.1 hK.1 hP hD hS q0 he hc k hk (S.2.2.2.2 _ (List.mem_cons_of_mem _ hl)) (fun x h => by rw [hT] at h; exact h) hfin hin2 (hT.trans hown) (hty k hk) hn hfit hlen hdg kk
/-- arrays: an int's place is nI i -/
theorem k_ild (hx : p.tables.exec = Jvm.exec) (hb : c.code = cc) (hK : kK D tys s) (hP : va_P D classes ws H) (q0 t0 : Nat) {cA : ClassId} {n : Nat} {f : Nat → Int32} (ha : ws[q0]? = some (a, .inl (cA, n, .inl f))) (ht : tys[t0]? = some (cA, .int)) {i : Nat} (hi : i < n) (hn : n < 2 ^ 31) (hdg : decode cc pc = .ok (.iaload, 1))
    (kk : W p l e R s m args below meth c H locs cells slots Q (F0 m (pc + 1) ls (.int (f i) :: rest))) : W p l e R s m args below meth c H locs cells slots Q (F0 m pc ls (.int (nI i) :: .ref a :: rest)) :=
  va_iald hx hb hK.1 hP q0 t0 ha ht (vp_in_nI hi hn) hdg (k_top (by rw [nI_clamp (Nat.lt_trans hi hn)]) kk)
theorem k_zld (hx : p.tables.exec = Jvm.exec) (hb : c.code = cc) (hK : kK D tys s) (hP : va_P D classes ws H) (q0 t0 : Nat) {cA : ClassId} {n : Nat} {f : Nat → Int32} (ha : ws[q0]? = some (a, .inl (cA, n, .inl f))) (ht : tys[t0]? = some (cA, .boolean)) {i : Nat} (hi : i < n) (hn : n < 2 ^ 31) (hdg : decode cc pc = .ok (.baload, 1))
    (kk : W p l e R s m args below meth c H locs cells slots Q (F0 m (pc + 1) ls (.int (f i) :: rest))) : W p l e R s m args below meth c H locs cells slots Q (F0 m pc ls (.int (nI i) :: .ref a :: rest)) :=
  va_zald hx hb hK.1 hP q0 t0 ha ht (vp_in_nI hi hn) hdg (k_top (by rw [nI_clamp (Nat.lt_trans hi hn)]) kk)
theorem k_lld (hx : p.tables.exec = Jvm.exec) (hb : c.code = cc) (hK : kK D tys s) (hP : va_P D classes ws H) (q0 t0 : Nat) {cA : ClassId} {n : Nat} {f : Nat → Int64} (ha : ws[q0]? = some (a, .inl (cA, n, .inr (.inl f)))) (ht : tys[t0]? = some (cA, .long)) {i : Nat} (hi : i < n) (hn : n < 2 ^ 31) (hdg : decode cc pc = .ok (.laload, 1))
    (kk : W p l e R s m args below meth c H locs cells slots Q (F0 m (pc + 1) ls (.long (f i) :: rest))) : W p l e R s m args below meth c H locs cells slots Q (F0 m pc ls (.int (nI i) :: .ref a :: rest)) :=
  va_lald hx hb hK.1 hP q0 t0 ha ht (vp_in_nI hi hn) hdg (k_topl (by rw [nI_clamp (Nat.lt_trans hi hn)]) kk)
theorem k_ist (hx : p.tables.exec = Jvm.exec) (hb : c.code = cc) (hK : kK D tys s) (hP : va_P D classes ws H) (hD : va_D A ws) (hS : va_S A H0 H locs) (q0 t0 : Nat) {cA : ClassId} {n : Nat} {f : Nat → Int32} (ha : ws[q0]? = some (a, .inl (cA, n, .inl f))) (ht : tys[t0]? = some (cA, .int)) {i : Nat} {x : Int32} (hi : i < n) (hn : n < 2 ^ 31) {ws' : va_W} (hws : ws.set q0 (a, .inl (cA, n, .inl (upd f i x))) = ws') (hdg : decode cc pc = .ok (.iastore, 1))
    (kk : ∀ (H1 : Heap) (locs1 : List Loc), va_P D classes ws' H1 → va_D A ws' → va_S A H0 H1 locs1 → W p l e R s m args below meth c H1 locs1 cells slots Q (F0 m (pc + 1) ls rest)) : W p l e R s m args below meth c H locs cells slots Q (F0 m pc ls (.int x :: .int (nI i) :: .ref a :: rest)) := by
  subst hws
  refine va_iast hx hb hK.1 hP hD hS q0 t0 ha ht (vp_in_nI hi hn) hdg (fun H1 locs1 h1 h2 h3 => ?_)
  rw [nI_clamp (Nat.lt_trans hi hn)] at h1 h2
  exact kk H1 locs1 h1 h2 h3
theorem k_zst (hx : p.tables.exec = Jvm.exec) (hb : c.code = cc) (hK : kK D tys s) (hP : va_P D classes ws H) (hD : va_D A ws) (hS : va_S A H0 H locs) (q0 t0 : Nat) {cA : ClassId} {n : Nat} {f : Nat → Int32} (ha : ws[q0]? = some (a, .inl (cA, n, .inl f))) (ht : tys[t0]? = some (cA, .boolean)) {i : Nat} {x : Int32} (hi : i < n) (hn : n < 2 ^ 31) (hz : vp_nar .boolean x = x) {ws' : va_W} (hws : ws.set q0 (a, .inl (cA, n, .inl (upd f i x))) = ws') (hdg : decode cc pc = .ok (.bastore, 1))
    (kk : ∀ (H1 : Heap) (locs1 : List Loc), va_P D classes ws' H1 → va_D A ws' → va_S A H0 H1 locs1 → W p l e R s m args below meth c H1 locs1 cells slots Q (F0 m (pc + 1) ls rest)) : W p l e R s m args below meth c H locs cells slots Q (F0 m pc ls (.int x :: .int (nI i) :: .ref a :: rest)) := by
  subst hws
  refine va_zast hx hb hK.1 hP hD hS q0 t0 ha ht (vp_in_nI hi hn) hdg (fun H1 locs1 h1 h2 h3 => ?_)
  rw [nI_clamp (Nat.lt_trans hi hn), hz] at h1 h2
  exact kk H1 locs1 h1 h2 h3
theorem k_lst (hx : p.tables.exec = Jvm.exec) (hb : c.code = cc) (hK : kK D tys s) (hP : va_P D classes ws H) (hD : va_D A ws) (hS : va_S A H0 H locs) (q0 t0 : Nat) {cA : ClassId} {n : Nat} {f : Nat → Int64} (ha : ws[q0]? = some (a, .inl (cA, n, .inr (.inl f)))) (ht : tys[t0]? = some (cA, .long)) {i : Nat} {x : Int64} (hi : i < n) (hn : n < 2 ^ 31) {ws' : va_W} (hws : ws.set q0 (a, .inl (cA, n, .inr (.inl (vp_updL f i x)))) = ws') (hdg : decode cc pc = .ok (.lastore, 1))
    (kk : ∀ (H1 : Heap) (locs1 : List Loc), va_P D classes ws' H1 → va_D A ws' → va_S A H0 H1 locs1 → W p l e R s m args below meth c H1 locs1 cells slots Q (F0 m (pc + 1) ls rest)) : W p l e R s m args below meth c H locs cells slots Q (F0 m pc ls (.long x :: .int (nI i) :: .ref a :: rest)) := by
  subst hws
  refine va_last hx hb hK.1 hP hD hS q0 t0 ha ht (vp_in_nI hi hn) hdg (fun H1 locs1 h1 h2 h3 => ?_)
  rw [nI_clamp (Nat.lt_trans hi hn)] at h1 h2
  exact kk H1 locs1 h1 h2 h3
theorem k_len (hx : p.tables.exec = Jvm.exec) (hb : c.code = cc) (hK : kK D tys s) (hP : va_P D classes ws H) (q0 t0 : Nat) {cA : ClassId} {n : Nat} {x : (Nat → Int32) ⊕ (Nat → Int64) ⊕ (Nat → UInt32) ⊕ (Nat → UInt64) ⊕ (Nat → Option Nat)} (ha : ws[q0]? = some (a, .inl (cA, n, x))) {ty : FieldType} (ht : tys[t0]? = some (cA, ty)) (hdg : decode cc pc = .ok (.arraylength, 1))
    (kk : W p l e R s m args below meth c H locs cells slots Q (F0 m (pc + 1) ls (.int (nI n) :: rest))) : W p l e R s m args below meth c H locs cells slots Q (F0 m pc ls (.ref a :: rest)) :=
  va_alen hx hb hK.1 hP q0 t0 ha ht (v := nI n) rfl hdg kk
end KR
/-! THE TWO SHAPES OF A CONTRACT: a method that only reads (ro), a method that changes its cells (mu) -/
abbrev roC (l : Launch) (y : MethodName) (b : ByteArray) (n : Nat) (r : Option FieldType) (rm : Room) (D : va_G) (tys : List (ClassId × FieldType)) (av : List Value) (ws : va_W) (post : Int32 → Prop) : Prop :=
  Met l y (.code y b n r :: GT) rm (va_Pc av (fun U => va_P D classes ws U.heap ∧ kK D tys U)) (vp_Si post) 0 0 (fun _ => False)
abbrev muC {T : Type} (l : Launch) (y : MethodName) (b : ByteArray) (n : Nat) (r : Option FieldType) (rm : Room) (D : va_G) (tys : List (ClassId × FieldType)) (av : List Value) (sz : Nat) (ws : va_W) (w1 : T → va_W) (post : Int32 → T → Prop) : Prop :=
  Met l y (.code y b n r :: GT) rm (va_Pc av (fun U => U.heap.size = sz ∧ va_P D classes ws U.heap ∧ kK D tys U ∧ va_D (fun _ => True) ws)) (va_Qi post (fun u t => va_P D classes (w1 u) t.heap ∧ va_D (va_A ws sz) (w1 u)) (va_A ws sz)) 0 0 (va_A ws sz)
abbrev mvC {T : Type} (l : Launch) (y : MethodName) (b : ByteArray) (n : Nat) (rm : Room) (D : va_G) (tys : List (ClassId × FieldType)) (av : List Value) (sz : Nat) (ws : va_W) (w1 : T → va_W) (post : T → Prop) : Prop :=
  Met l y (.code y b n none :: GT) rm (va_Pc av (fun U => U.heap.size = sz ∧ va_P D classes ws U.heap ∧ kK D tys U ∧ va_D (fun _ => True) ws)) (va_Qv post (fun u t => va_P D classes (w1 u) t.heap ∧ va_D (va_A ws sz) (w1 u)) (va_A ws sz)) 0 0 (va_A ws sz)
theorem ro_of {l : Launch} {y : MethodName} {b : ByteArray} {n : Nat} {r : Option FieldType} {rm : Room} {D : va_G} {tys : List (ClassId × FieldType)} {av : List Value} {ws : va_W} {post : Int32 → Prop} (hy : plainName y.cls = true) (hav : (lg_sl av).length ≤ n)
    (body : ∀ (p : Program) (e : Env) (s : State) (m : MethodId) (args : Array Value) (below : List Frame) (meth : Method) (c : Code), CallFix p m c b n s args (.code y b n r :: GT) y.cls → meth.sig.returnType = r → meth.locks = false → kK D tys s → va_P D classes ws s.heap → ∀ ls : Array Slot, lv_has ls n (lv_args 0 av) → W p l e rm s m args below meth c s.heap [] 0 0 (MQ below (vp_Si post) args s 0 0 (fun _ => False)) (F0 m 0 ls [])) :
    roC l y b n r rm D tys av ws post := by
  refine Met.ofW (cc := b) (maxL := n) (ret := r) hy rfl ?_
  intro p e s m args below meth c s₁ B hml hv
  obtain ⟨rfl, hP, hK⟩ := hv
  have hl := lv_entry av (n := n) hav
  rw [lg_entry_eq]
  exact body p e s m _ below meth c ⟨B.exec, B.bytes, hml, findClass_of_methodNamed B.named, atoms_spec (ws := .code y b n r :: GT) B.pre⟩ B.returns B.notSynchronized hK hP _ hl
theorem mu_of {T : Type} {l : Launch} {y : MethodName} {b : ByteArray} {n : Nat} {r : Option FieldType} {rm : Room} {D : va_G} {tys : List (ClassId × FieldType)} {av : List Value} {sz : Nat} {ws : va_W} {w1 : T → va_W} {post : Int32 → T → Prop} (hy : plainName y.cls = true) (hav : (lg_sl av).length ≤ n)
    (body : ∀ (p : Program) (e : Env) (s : State) (m : MethodId) (args : Array Value) (below : List Frame) (meth : Method) (c : Code) (A : Nat → Prop), CallFix p m c b n s args (.code y b n r :: GT) y.cls → meth.sig.returnType = r → meth.locks = false → kK D tys s → va_P D classes ws s.heap → va_D A ws → (∀ q : Nat, s.heap.size ≤ q → A q) → va_S A s.heap s.heap [] → ∀ ls : Array Slot, lv_has ls n (lv_args 0 av) → W p l e rm s m args below meth c s.heap [] 0 0 (MQ below (va_Qi post (fun u t => va_P D classes (w1 u) t.heap ∧ va_D A (w1 u)) A) args s 0 0 A) (F0 m 0 ls [])) :
    muC l y b n r rm D tys av sz ws w1 post := by
  refine Met.ofW (cc := b) (maxL := n) (ret := r) hy rfl ?_
  intro p e s m args below meth c s₁ B hml hv
  obtain ⟨rfl, rfl, hP, hK, hD0⟩ := hv
  have hl := lv_entry av (n := n) hav
  rw [lg_entry_eq]
  exact body p e s m _ below meth c _ ⟨B.exec, B.bytes, hml, findClass_of_methodNamed B.named, atoms_spec (ws := .code y b n r :: GT) B.pre⟩ B.returns B.notSynchronized hK hP hD0.self (fun q h => Or.inr h) va_S.rf _ hl
theorem mv_of {T : Type} {l : Launch} {y : MethodName} {b : ByteArray} {n : Nat} {rm : Room} {D : va_G} {tys : List (ClassId × FieldType)} {av : List Value} {sz : Nat} {ws : va_W} {w1 : T → va_W} {post : T → Prop} (hy : plainName y.cls = true) (hav : (lg_sl av).length ≤ n)
    (body : ∀ (p : Program) (e : Env) (s : State) (m : MethodId) (args : Array Value) (below : List Frame) (meth : Method) (c : Code) (A : Nat → Prop), CallFix p m c b n s args (.code y b n none :: GT) y.cls → meth.sig.returnType = none → meth.locks = false → kK D tys s → va_P D classes ws s.heap → va_D A ws → (∀ q : Nat, s.heap.size ≤ q → A q) → va_S A s.heap s.heap [] → ∀ ls : Array Slot, lv_has ls n (lv_args 0 av) → W p l e rm s m args below meth c s.heap [] 0 0 (MQ below (va_Qv post (fun u t => va_P D classes (w1 u) t.heap ∧ va_D A (w1 u)) A) args s 0 0 A) (F0 m 0 ls [])) :
    mvC l y b n rm D tys av sz ws w1 post := by
  refine Met.ofW (cc := b) (maxL := n) (ret := none) hy rfl ?_
  intro p e s m args below meth c s₁ B hml hv
  obtain ⟨rfl, rfl, hP, hK, hD0⟩ := hv
  have hl := lv_entry av (n := n) hav
  rw [lg_entry_eq]
  exact body p e s m _ below meth c _ ⟨B.exec, B.bytes, hml, findClass_of_methodNamed B.named, atoms_spec (ws := .code y b n none :: GT) B.pre⟩ B.returns B.notSynchronized hK hP hD0.self (fun q h => Or.inr h) va_S.rf _ hl
section KC
variable {p : Program} {l : Launch} {e : Env} {R : Room} {s : State} {m : MethodId} {args : Array Value} {below : List Frame} {meth : Method} {c : Code} {H : Heap} {locs : List Loc} {cells slots : Nat} {Q : State → Prop} {cc : ByteArray} {pc : Nat} {ls : Array Slot} {rest st : List Value}
variable {nL : Nat} {c0 : Cond} {own : String} {D : va_G} {tys : List (ClassId × FieldType)} {ws wc wr : va_W} {A : Nat → Prop} {H0 : Heap} {a : Nat} {y : MethodName} {b : ByteArray} {n np idx : Nat} {r : Option FieldType} {rm : Room} {av As : List Value}
/-- returns of a method that only reads -/
theorem k_ret (S : CallFix p m c cc nL s args (c0 :: GT) own) (hr : meth.sig.returnType = some .int) (hlocks : meth.locks = false) {post : Int32 → Prop} {v : Int32} (h : post v) (hdg : decode cc pc = .ok (.ireturn, 1)) : W p l e R s m args below meth c s.heap [] 0 0 (MQ below (vp_Si post) args s 0 0 (fun _ => False)) (F0 m pc ls [.int v]) :=
  W.iret S.1 S.2.1 hr (fun t ht _ => ⟨v, rfl, h, ht⟩) (fun q hq => by cases hq) hdg
theorem k_retz (S : CallFix p m c cc nL s args (c0 :: GT) own) (hr : meth.sig.returnType = some .boolean) (hlocks : meth.locks = false) {post : Int32 → Prop} {v : Int32} (hn : narrow .boolean (.int v) = .int v) (h : post v) (hdg : decode cc pc = .ok (.ireturn, 1)) : W p l e R s m args below meth c s.heap [] 0 0 (MQ below (vp_Si post) args s 0 0 (fun _ => False)) (F0 m pc ls [.int v]) :=
  W.zret S.1 S.2.1 hr hn (fun t ht _ => ⟨v, rfl, h, ht⟩) (fun q hq => by cases hq) hdg
/-- returns of a method that changes cells -/
theorem k_mret {T : Type} {w1 : T → va_W} (S : CallFix p m c cc nL s args (c0 :: GT) own) (hr : meth.sig.returnType = some .int) (hlocks : meth.locks = false) {post : Int32 → T → Prop} {v : Int32} (u : T) (h : post v u) (hP : va_P D classes (w1 u) H) (hD : va_D A (w1 u)) (hS : va_S A s.heap H locs) (hdg : decode cc pc = .ok (.ireturn, 1)) : W p l e R s m args below meth c H locs 0 0 (MQ below (va_Qi post (fun u t => va_P D classes (w1 u) t.heap ∧ va_D A (w1 u)) A) args s 0 0 A) (F0 m pc ls [.int v]) :=
  W.iret S.1 S.2.1 hr (fun t ht _ => ⟨⟨v, u, rfl, h, by rw [ht]; exact hP, hD⟩, hS.F ht⟩) hS.2.2 hdg
theorem k_mretz {T : Type} {w1 : T → va_W} (S : CallFix p m c cc nL s args (c0 :: GT) own) (hr : meth.sig.returnType = some .boolean) (hlocks : meth.locks = false) {post : Int32 → T → Prop} {v : Int32} (hn : narrow .boolean (.int v) = .int v) (u : T) (h : post v u) (hP : va_P D classes (w1 u) H) (hD : va_D A (w1 u)) (hS : va_S A s.heap H locs) (hdg : decode cc pc = .ok (.ireturn, 1)) : W p l e R s m args below meth c H locs 0 0 (MQ below (va_Qi post (fun u t => va_P D classes (w1 u) t.heap ∧ va_D A (w1 u)) A) args s 0 0 A) (F0 m pc ls [.int v]) :=
  W.zret S.1 S.2.1 hr hn (fun t ht _ => ⟨⟨v, u, rfl, h, by rw [ht]; exact hP, hD⟩, hS.F ht⟩) hS.2.2 hdg
theorem k_mretv {T : Type} {w1 : T → va_W} (S : CallFix p m c cc nL s args (c0 :: GT) own) (hr : meth.sig.returnType = none) (hlocks : meth.locks = false) {post : T → Prop} (u : T) (h : post u) (hP : va_P D classes (w1 u) H) (hD : va_D A (w1 u)) (hS : va_S A s.heap H locs) (hdg : decode cc pc = .ok (.return_, 1)) : W p l e R s m args below meth c H locs 0 0 (MQ below (va_Qv post (fun u t => va_P D classes (w1 u) t.heap ∧ va_D A (w1 u)) A) args s 0 0 A) (F0 m pc ls []) :=
  W.vret S.1 S.2.1 hr (fun t ht _ => ⟨⟨u, rfl, h, by rw [ht]; exact hP, hD⟩, hS.F ht⟩) hS.2.2 hdg
/-- a call of a method that only reads: virtual -/
theorem k_roV (S : CallFix p m c cc nL s args (c0 :: GT) own) {post : Int32 → Prop} (hM : roC l y b n r rm D tys (.ref a :: As) wc post) {ci : Nat} {C : String} {T : u_T} {N : Nat} (hG : GoodIn (c0 :: GT) (wsV own idx C y (.code y b n r :: GT))) (hK : kK D tys s) (hP : va_P D classes wc H) {fs : List Value} (he : wc[0]? = some (a, .inr (ci, fs))) (hc : classes[ci]? = some (C, T, N))
    (hd : y.cls = C ∧ y.cls ≠ "java/lang/invoke/MethodHandle" ∧ y.cls ≠ "java/lang/invoke/VarHandle" ∧ (parseMethodDescriptor y.desc).map (fun d => d.parameters.length) = some np) (hnp : As.length = np) (hm : rm.cells = 0 ∧ rm.slots = 0) (hR : rm.frames + 1 ≤ R.frames ∧ 8 + (n + 11) + rm.locals ≤ R.locals) (hsize : ls.size = nL) (hst : st = As.reverse ++ .ref a :: rest) (hrest : (rest.map fun v => v.category).sum ≤ 8) (hdg : decode cc pc = .ok (.invokevirtual idx, 3)) (hcs : cells ≤ R.cells ∧ slots ≤ R.slots)
    (kk : ∀ v : Int32, post v → W p l e R s m args below meth c H locs cells slots Q (F0 m (pc + 3) ls (.int v :: rest))) : W p l e R s m args below meth c H locs cells slots Q (F0 m pc ls st) :=
  vp_callSi (W.runV (As := As) (rest := rest) S hM (cwV np S.2.2.2.2 hG rfl hm.1 hm.2 hd hR) ⟨fun x U g mk q => ⟨q.1, q.2.1, q.2.2.call g mk x⟩, va_recv hK.1 hP (q0 := 0) hc he, fun U hU hW => ⟨rfl, by rw [hU]; exact hP, hK.warm hW⟩⟩ rfl hnp hsize hst (lv_room hrest) hdg hcs) kk
theorem k_roS (S : CallFix p m c cc nL s args (c0 :: GT) own) {post : Int32 → Prop} (hM : roC l y b n r rm D tys As wc post) (hG : GoodIn (c0 :: GT) (va_wsS own idx y (.code y b n r :: GT))) (hK : kK D tys s) (hP : va_P D classes wc H)
    (hd : y.cls ≠ "java/lang/invoke/MethodHandle" ∧ y.cls ≠ "java/lang/invoke/VarHandle" ∧ (parseMethodDescriptor y.desc).map (fun d => d.parameters.length) = some np) (hnp : As.length = np) (hm : rm.cells = 0 ∧ rm.slots = 0) (hR : rm.frames + 1 ≤ R.frames ∧ 8 + (n + 11) + rm.locals ≤ R.locals) (hsize : ls.size = nL) (hst : st = As.reverse ++ rest) (hrest : (rest.map fun v => v.category).sum ≤ 8) (hdg : decode cc pc = .ok (.invokestatic idx, 3)) (hcs : cells ≤ R.cells ∧ slots ≤ R.slots)
    (kk : ∀ v : Int32, post v → W p l e R s m args below meth c H locs cells slots Q (F0 m (pc + 3) ls (.int v :: rest))) : W p l e R s m args below meth c H locs cells slots Q (F0 m pc ls st) :=
  vp_callSi (W.runS (As := As) (rest := rest) S hM (va_cwS np S.2.2.2.2 hG rfl hm.1 hm.2 hd hR) ⟨fun x U g mk q => ⟨q.1, q.2.1, q.2.2.call g mk x⟩, fun U hU hW => ⟨rfl, by rw [hU]; exact hP, hK.warm hW⟩⟩ rfl hnp hsize hst (lv_room hrest) hdg hcs) kk
/-- a call of a method that changes cells -/
theorem k_muV {T : Type} {w1 : T → va_W} (S : CallFix p m c cc nL s args (c0 :: GT) own) {post : Int32 → T → Prop} (hM : muC l y b n r rm D tys (.ref a :: As) H.size wc w1 post) {ci : Nat} {C : String} {Tt : u_T} {N : Nat} (hG : GoodIn (c0 :: GT) (wsV own idx C y (.code y b n r :: GT))) (hK : kK D tys s) (hP : va_P D classes ws H) (hD : va_D A ws) (hS : va_S A H0 H locs) (hA : ∀ q : Nat, H0.size ≤ q → A q) (isC isR : List Nat) (hwc : wc = isC.filterMap (fun i => ws[i]?)) (hC : isC.map (fun i => ws[i]?) = wc.map some) (hRr : isR.map (fun i => ws[i]?) = wr.map some) (hnC : va_nd isC = true) (hnR : va_nd isR = true) (hdis : ∀ i ∈ isR, i ∉ isC) {fs : List Value} (he : wc[0]? = some (a, .inr (ci, fs))) (hc : classes[ci]? = some (C, Tt, N))
    (hd : y.cls = C ∧ y.cls ≠ "java/lang/invoke/MethodHandle" ∧ y.cls ≠ "java/lang/invoke/VarHandle" ∧ (parseMethodDescriptor y.desc).map (fun d => d.parameters.length) = some np) (hnp : As.length = np) (hm : rm.cells = 0 ∧ rm.slots = 0) (hR : rm.frames + 1 ≤ R.frames ∧ 8 + (n + 11) + rm.locals ≤ R.locals) (hsize : ls.size = nL) (hst : st = As.reverse ++ .ref a :: rest) (hrest : (rest.map fun v => v.category).sum ≤ 8) (hdg : decode cc pc = .ok (.invokevirtual idx, 3)) (hcs : cells ≤ R.cells ∧ slots ≤ R.slots)
    (kk : ∀ (v : Int32) (u : T) (H1 : Heap) (locs1 : List Loc), post v u → va_P D classes (wr ++ w1 u) H1 → va_D A (wr ++ w1 u) → va_S A H0 H1 locs1 → W p l e R s m args below meth c H1 locs1 cells slots Q (F0 m (pc + 3) ls (.int v :: rest))) : W p l e R s m args below meth c H locs cells slots Q (F0 m pc ls st) := by
  have hPc : va_P D classes wc H := hP.sub isC hwc.symm
  have hDc := hD.sub isC hnC hC
  have hFc := va_free hD hS hA isC hC
  refine va_calli (va_runV (As := As) (rest := rest) S hM (cwV np S.2.2.2.2 hG rfl hm.1 hm.2 hd hR) ⟨fun x U g mk q => ⟨q.1, q.2.1, q.2.2.1, q.2.2.2.1.call g mk x, q.2.2.2.2⟩, va_recv hK.1 hPc (q0 := 0) hc he, fun U hU hW => ⟨rfl, by rw [hU], by rw [hU]; exact hPc, hK.warm hW, hDc.weaken (fun _ _ _ _ => trivial)⟩⟩ rfl hnp hsize hst (lv_room hrest) hdg hcs) hS (fun q _ h => hFc q h) hFc (fun v u t H1 locs1 ht hvm hw hB hz1 hk1 hS1 => ?_)
  obtain ⟨hP1, hD1⟩ := hB
  rw [ht] at hP1
  obtain ⟨hP2, hD2⟩ := va_join hP hD isC isR hC hRr hnR hdis hk1 hFc hP1 hD1
  exact kk v u H1 locs1 hw hP2 hD2 hS1
theorem k_mvV {T : Type} {w1 : T → va_W} (S : CallFix p m c cc nL s args (c0 :: GT) own) {post : T → Prop} (hM : mvC l y b n rm D tys (.ref a :: As) H.size wc w1 post) {ci : Nat} {C : String} {Tt : u_T} {N : Nat} (hG : GoodIn (c0 :: GT) (wsV own idx C y (.code y b n none :: GT))) (hK : kK D tys s) (hP : va_P D classes ws H) (hD : va_D A ws) (hS : va_S A H0 H locs) (hA : ∀ q : Nat, H0.size ≤ q → A q) (isC isR : List Nat) (hwc : wc = isC.filterMap (fun i => ws[i]?)) (hC : isC.map (fun i => ws[i]?) = wc.map some) (hRr : isR.map (fun i => ws[i]?) = wr.map some) (hnC : va_nd isC = true) (hnR : va_nd isR = true) (hdis : ∀ i ∈ isR, i ∉ isC) {fs : List Value} (he : wc[0]? = some (a, .inr (ci, fs))) (hc : classes[ci]? = some (C, Tt, N))
    (hd : y.cls = C ∧ y.cls ≠ "java/lang/invoke/MethodHandle" ∧ y.cls ≠ "java/lang/invoke/VarHandle" ∧ (parseMethodDescriptor y.desc).map (fun d => d.parameters.length) = some np) (hnp : As.length = np) (hm : rm.cells = 0 ∧ rm.slots = 0) (hR : rm.frames + 1 ≤ R.frames ∧ 8 + (n + 11) + rm.locals ≤ R.locals) (hsize : ls.size = nL) (hst : st = As.reverse ++ .ref a :: rest) (hrest : (rest.map fun v => v.category).sum ≤ 8) (hdg : decode cc pc = .ok (.invokevirtual idx, 3)) (hcs : cells ≤ R.cells ∧ slots ≤ R.slots)
    (kk : ∀ (u : T) (H1 : Heap) (locs1 : List Loc), post u → va_P D classes (wr ++ w1 u) H1 → va_D A (wr ++ w1 u) → va_S A H0 H1 locs1 → W p l e R s m args below meth c H1 locs1 cells slots Q (F0 m (pc + 3) ls rest)) : W p l e R s m args below meth c H locs cells slots Q (F0 m pc ls st) := by
  have hPc : va_P D classes wc H := hP.sub isC hwc.symm
  have hDc := hD.sub isC hnC hC
  have hFc := va_free hD hS hA isC hC
  refine va_callv (va_runV (As := As) (rest := rest) S hM (cwV np S.2.2.2.2 hG rfl hm.1 hm.2 hd hR) ⟨fun x U g mk q => ⟨q.1, q.2.1, q.2.2.1, q.2.2.2.1.call g mk x, q.2.2.2.2⟩, va_recv hK.1 hPc (q0 := 0) hc he, fun U hU hW => ⟨rfl, by rw [hU], by rw [hU]; exact hPc, hK.warm hW, hDc.weaken (fun _ _ _ _ => trivial)⟩⟩ rfl hnp hsize hst (lv_room hrest) hdg hcs) hS (fun q _ h => hFc q h) hFc (fun u t H1 locs1 ht hvm hw hB hz1 hk1 hS1 => ?_)
  obtain ⟨hP1, hD1⟩ := hB
  rw [ht] at hP1
  obtain ⟨hP2, hD2⟩ := va_join hP hD isC isR hC hRr hnR hdis hk1 hFc hP1 hD1
  exact kk u H1 locs1 hw hP2 hD2 hS1
end KC
end
section
/-! THE PLAIN LAW, first half: headers, the row of objects, leads, what is led to; no program in sight -/
def hdN (v : Int32) : Nat := v.toNatClampNeg
def rfN (v : Int32) : Nat := hdN v / 16 % 16
def plN (v : Int32) : Nat := hdN v / 256
def szN (v : Int32) : Nat := 1 + rfN v + plN v
theorem hdN_lt (v : Int32) : hdN v < 2 ^ 31 := by
  rcases Classical.em (v < 0) with h | h
  · have h1 : v.toInt < 0 := by simpa using Int32.lt_iff_toInt_lt.mp h
    have h2 : hdN v = v.toInt.toNat := rfl
    omega
  · obtain ⟨j, hj, rfl⟩ := nI_of h
    show (nI j).toNatClampNeg < _
    rw [nI_clamp hj]
    exact hj
theorem nI_hdN {v : Int32} (h : ¬ v < 0) : v = nI (hdN v) := by
  obtain ⟨j, hj, rfl⟩ := nI_of h
  show nI j = nI ((nI j).toNatClampNeg)
  rw [nI_clamp hj]
theorem hdN_nI {n : Nat} (h : n < 2 ^ 31) : hdN (nI n) = n := nI_clamp h
theorem rfN_lt (v : Int32) : rfN v < 16 := Nat.mod_lt _ (by decide)
theorem szN_pos (v : Int32) : 0 < szN v := by unfold szN; omega
/-- the objects from address a on, one behind the other, end at t -/
def Chn (w : Nat → Int32) : List Nat → Nat → Nat → Prop
  | [], a, t => a = t
  | b :: l, a, t => b = a ∧ ¬ w a < 0 ∧ Chn w l (a + szN (w a)) t
theorem Chn.len {w : Nat → Int32} : ∀ {l : List Nat} {a t : Nat}, Chn w l a t → a + l.length ≤ t
  | [], a, t, h => by have h : a = t := h; simp; omega
  | b :: l, a, t, h => by
    obtain ⟨rfl, _, h⟩ := h
    have h1 := Chn.len h
    have h2 := szN_pos (w b)
    simp only [List.length_cons]
    omega
theorem Chn.le {w : Nat → Int32} {l : List Nat} {a t : Nat} (h : Chn w l a t) : a ≤ t := by have := h.len; omega
theorem Chn.mem {w : Nat → Int32} : ∀ {l : List Nat} {a t b : Nat}, Chn w l a t → b ∈ l → a ≤ b ∧ b + szN (w b) ≤ t ∧ ¬ w b < 0
  | [], a, t, b, h, hb => by cases hb
  | x :: l, a, t, b, h, hb => by
    obtain ⟨rfl, h0, h⟩ := h
    rcases List.mem_cons.mp hb with rfl | hb
    · exact ⟨Nat.le_refl _, h.le, h0⟩
    · obtain ⟨h1, h2, h3⟩ := Chn.mem h hb
      exact ⟨by omega, h2, h3⟩
theorem Chn.nil {w : Nat → Int32} {l : List Nat} {t : Nat} (h : Chn w l t t) : l = [] := by
  have := h.len
  exact List.length_eq_zero_iff.mp (by omega)
theorem Chn.end {w : Nat → Int32} {l : List Nat} {a t : Nat} (h : Chn w l a t) (hl : t ≤ a) : l = [] ∧ a = t := by
  have h1 := h.le
  have h2 : a = t := by omega
  subst h2
  exact ⟨h.nil, rfl⟩
theorem Chn.step {w : Nat → Int32} : ∀ {l : List Nat} {a t : Nat}, Chn w l a t → a < t → ∃ l', l = a :: l' ∧ ¬ w a < 0 ∧ Chn w l' (a + szN (w a)) t
  | [], a, t, h, hl => by have h : a = t := h; omega
  | b :: l, a, t, h, hl => by
    obtain ⟨rfl, h0, h⟩ := h
    exact ⟨l, rfl, h0, h⟩
theorem Chn.app {w : Nat → Int32} : ∀ {l1 l2 : List Nat} {a t : Nat}, Chn w (l1 ++ l2) a t ↔ ∃ u, Chn w l1 a u ∧ Chn w l2 u t
  | [], l2, a, t => ⟨fun h => ⟨a, rfl, h⟩, fun ⟨u, h1, h2⟩ => by have h1 : a = u := h1; subst h1; exact h2⟩
  | b :: l1, l2, a, t => ⟨fun ⟨h1, h2, h3⟩ => by
      obtain ⟨u, h4, h5⟩ := Chn.app.mp h3
      exact ⟨u, ⟨h1, h2, h4⟩, h5⟩, fun ⟨u, ⟨h1, h2, h3⟩, h4⟩ => ⟨h1, h2, Chn.app.mpr ⟨u, h3, h4⟩⟩⟩
theorem Chn.congr {w w' : Nat → Int32} : ∀ {l : List Nat} {a t : Nat}, Chn w l a t → (∀ b ∈ l, w' b = w b) → Chn w' l a t
  | [], _, _, h, _ => h
  | b :: l, a, t, ⟨h1, h2, h3⟩, hw => by
    subst h1
    have e := hw b List.mem_cons_self
    exact ⟨rfl, by rw [e]; exact h2, by rw [e]; exact Chn.congr h3 (fun x hx => hw x (List.mem_cons_of_mem _ hx))⟩
theorem Chn.apart {w : Nat → Int32} : ∀ {l : List Nat} {a t b c : Nat}, Chn w l a t → b ∈ l → c ∈ l → b < c → b + szN (w b) ≤ c
  | [], _, _, _, _, _, hb, _, _ => by cases hb
  | x :: l, a, t, b, c, ⟨h1, h2, h3⟩, hb, hc, hl => by
    subst h1
    rcases List.mem_cons.mp hb with e1 | hb1
    · rcases List.mem_cons.mp hc with e2 | hc1
      · omega
      · rw [e1]; exact (h3.mem hc1).1
    · rcases List.mem_cons.mp hc with e2 | hc1
      · have := (h3.mem hb1).1
        have := szN_pos (w x)
        omega
      · exact Chn.apart h3 hb1 hc1 hl
theorem Chn.nodup {w : Nat → Int32} : ∀ {l : List Nat} {a t : Nat}, Chn w l a t → l.Nodup
  | [], _, _, _ => List.nodup_nil
  | x :: l, a, t, ⟨h1, h2, h3⟩ => by
    subst h1
    refine List.nodup_cons.mpr ⟨fun h => ?_, Chn.nodup h3⟩
    have := (h3.mem h).1
    have := szN_pos (w x)
    omega
/-- a word that leads nowhere, or to an object -/
def Ld (L : List Nat) (v : Int32) : Prop := ∃ t : Nat, v = nI t ∧ (t = 0 ∨ t ∈ L)
/-- the heap's shape: n words, the next free one T, the words w, the objects L, the roots rt -/
def Hp (N T : Nat) (w : Nat → Int32) (L : List Nat) (rt : Nat → Int32) : Prop :=
  (16 ≤ N ∧ N ≤ 4000) ∧ T ≤ N + 1 ∧ Chn w L 1 T ∧ (∀ j, T ≤ j → w j = 0) ∧ w 0 = 0 ∧ (∀ a ∈ L, ∀ k, k < rfN (w a) → Ld L (w (a + 1 + k))) ∧ (∀ k, k < 8 → Ld L (rt k))
theorem Hp.N {N T : Nat} {w : Nat → Int32} {L : List Nat} {rt : Nat → Int32} (h : Hp N T w L rt) : 16 ≤ N ∧ N ≤ 4000 := h.1
theorem Hp.T {N T : Nat} {w : Nat → Int32} {L : List Nat} {rt : Nat → Int32} (h : Hp N T w L rt) : 1 ≤ T ∧ T ≤ N + 1 := ⟨h.2.2.1.le, h.2.1⟩
theorem Hp.ch {N T : Nat} {w : Nat → Int32} {L : List Nat} {rt : Nat → Int32} (h : Hp N T w L rt) : Chn w L 1 T := h.2.2.1
theorem Hp.zero {N T : Nat} {w : Nat → Int32} {L : List Nat} {rt : Nat → Int32} (h : Hp N T w L rt) : ∀ j, T ≤ j → w j = 0 := h.2.2.2.1
theorem Hp.w0 {N T : Nat} {w : Nat → Int32} {L : List Nat} {rt : Nat → Int32} (h : Hp N T w L rt) : w 0 = 0 := h.2.2.2.2.1
theorem Hp.rf {N T : Nat} {w : Nat → Int32} {L : List Nat} {rt : Nat → Int32} (h : Hp N T w L rt) : ∀ a ∈ L, ∀ k, k < rfN (w a) → Ld L (w (a + 1 + k)) := h.2.2.2.2.2.1
theorem Hp.rt {N T : Nat} {w : Nat → Int32} {L : List Nat} {rt : Nat → Int32} (h : Hp N T w L rt) : ∀ k, k < 8 → Ld L (rt k) := h.2.2.2.2.2.2
theorem Hp.obj {N T : Nat} {w : Nat → Int32} {L : List Nat} {rt : Nat → Int32} (h : Hp N T w L rt) {a : Nat} (ha : a ∈ L) : 1 ≤ a ∧ a + szN (w a) ≤ T ∧ ¬ w a < 0 ∧ a ≤ N := by
  obtain ⟨h1, h2, h3⟩ := h.ch.mem ha
  have := h.T
  have := szN_pos (w a)
  exact ⟨h1, h2, h3, by omega⟩
theorem Hp.len {N T : Nat} {w : Nat → Int32} {L : List Nat} {rt : Nat → Int32} (h : Hp N T w L rt) : L.length ≤ N := by
  have := h.ch.len
  have := h.T
  omega
theorem Hp.ld {N T : Nat} {w : Nat → Int32} {L : List Nat} {rt : Nat → Int32} (h : Hp N T w L rt) {v : Int32} (hv : Ld L v) : ∃ t : Nat, v = nI t ∧ t ≤ N ∧ (t = 0 ∨ t ∈ L) := by
  obtain ⟨t, e, ht⟩ := hv
  refine ⟨t, e, ?_, ht⟩
  rcases ht with rfl | ht
  · omega
  · exact (h.obj ht).2.2.2
/-- is it an object's address -/
def isO (L : List Nat) (a : Int32) : Bool := L.any (fun t => decide (a = nI t))
theorem isO_iff {L : List Nat} {a : Int32} : isO L a = true ↔ ∃ t ∈ L, a = nI t := by
  simp [isO, List.any_eq_true]
theorem isO_nil (a : Int32) : isO [] a = false := rfl
theorem isO_cons {t : Nat} {l : List Nat} {a : Int32} : isO (t :: l) a = (decide (a = nI t) || isO l a) := by simp [isO]
def isLd (L : List Nat) (a : Int32) : Bool := decide (a = 0) || isO L a
theorem isLd_iff {L : List Nat} {a : Int32} : isLd L a = true ↔ Ld L a := by
  unfold isLd Ld
  rw [Bool.or_eq_true, decide_eq_true_eq, isO_iff]
  constructor
  · rintro (rfl | ⟨t, ht, rfl⟩)
    · exact ⟨0, nI_0.symm, Or.inl rfl⟩
    · exact ⟨t, rfl, Or.inr ht⟩
  · rintro ⟨t, rfl, rfl | ht⟩
    · exact Or.inl nI_0
    · exact Or.inr ⟨t, ht, rfl⟩
/-- led to by at most d references -/
def Rch (w rt : Nat → Int32) (L : List Nat) : Nat → Nat → Prop
  | 0, a => a ∈ L ∧ ∃ k, k < 8 ∧ rt k = nI a
  | d + 1, a => Rch w rt L d a ∨ (a ∈ L ∧ ∃ b k, Rch w rt L d b ∧ k < rfN (w b) ∧ w (b + 1 + k) = nI a)
theorem Rch.mem {w rt : Nat → Int32} {L : List Nat} : ∀ {d a : Nat}, Rch w rt L d a → a ∈ L
  | 0, _, h => h.1
  | d + 1, _, h => by
    rcases h with h | h
    · exact Rch.mem h
    · exact h.1
theorem Rch.mono {w rt : Nat → Int32} {L : List Nat} {d e a : Nat} (h : Rch w rt L d a) (hl : d ≤ e) : Rch w rt L e a := by
  induction e with
  | zero => rw [Nat.le_zero.mp hl] at h; exact h
  | succ e ih =>
    rcases Nat.lt_or_ge e d with q | q
    · rw [show e + 1 = d by omega]; exact h
    · exact Or.inl (ih q)
/-- nothing new at one step: nothing new at any -/
theorem Rch.stop {w rt : Nat → Int32} {L : List Nat} {d : Nat} (h : ∀ a, Rch w rt L (d + 1) a → Rch w rt L d a) : ∀ (e a : Nat), Rch w rt L e a → Rch w rt L d a
  | 0, a, ha => ha.mono (Nat.zero_le _)
  | e + 1, a, ha => by
    rcases ha with ha | ⟨h1, b, k, h2, h3, h4⟩
    · exact Rch.stop h e a ha
    · exact h a (Or.inr ⟨h1, b, k, Rch.stop h e b h2, h3, h4⟩)
noncomputable def rchB (w rt : Nat → Int32) (L : List Nat) (d a : Nat) : Bool := @decide (Rch w rt L d a) (Classical.propDecidable _)
theorem rchB_iff {w rt : Nat → Int32} {L : List Nat} {d a : Nat} : rchB w rt L d a = true ↔ Rch w rt L d a := by
  unfold rchB
  exact @decide_eq_true_iff _ (Classical.propDecidable _)
noncomputable def rchN (w rt : Nat → Int32) (L : List Nat) (d : Nat) : Nat := (L.filter (fun a => rchB w rt L d a)).length
theorem rch_grow {w rt : Nat → Int32} {L : List Nat} {d : Nat} (h : ¬ ∀ a, Rch w rt L (d + 1) a → Rch w rt L d a) (hn : L.Nodup) : rchN w rt L d < rchN w rt L (d + 1) := by
  have h1 : ∃ a, Rch w rt L (d + 1) a ∧ ¬ Rch w rt L d a := by
    refine Classical.byContradiction fun q => h fun a ha => Classical.byContradiction fun hb => q ⟨a, ha, hb⟩
  obtain ⟨a, ha, hb⟩ := h1
  have h2 : (a :: L.filter (fun a => rchB w rt L d a)).Nodup := List.nodup_cons.mpr ⟨fun q => hb (rchB_iff.mp (List.mem_filter.mp q).2), hn.sublist List.filter_sublist⟩
  have h3 := h2.length_le_of_subset (l₂ := L.filter (fun a => rchB w rt L (d + 1) a)) (fun x hx => by
    rcases List.mem_cons.mp hx with rfl | hx
    · exact List.mem_filter.mpr ⟨ha.mem, rchB_iff.mpr ha⟩
    · obtain ⟨q1, q2⟩ := List.mem_filter.mp hx
      exact List.mem_filter.mpr ⟨q1, rchB_iff.mpr (Or.inl (rchB_iff.mp q2))⟩)
  unfold rchN
  simp only [List.length_cons] at h3
  omega
theorem rch_or {w rt : Nat → Int32} {L : List Nat} (hn : L.Nodup) : ∀ n : Nat, (∃ d, d < n ∧ ∀ a, Rch w rt L (d + 1) a → Rch w rt L d a) ∨ n ≤ rchN w rt L n
  | 0 => Or.inr (Nat.zero_le _)
  | n + 1 => by
    rcases rch_or (w := w) (rt := rt) hn n with ⟨d, hd, h⟩ | h
    · exact Or.inl ⟨d, by omega, h⟩
    · rcases Classical.em (∀ a, Rch w rt L (n + 1) a → Rch w rt L n a) with q | q
      · exact Or.inl ⟨n, by omega, q⟩
      · have := rch_grow q hn
        exact Or.inr (by omega)
/-- so many steps as there are objects reach all that is reached -/
theorem Rch.stab {w rt : Nat → Int32} {L : List Nat} (hn : L.Nodup) {N : Nat} (hN : L.length ≤ N) {d a : Nat} (h : Rch w rt L d a) : Rch w rt L N a := by
  rcases rch_or (w := w) (rt := rt) hn (N + 1) with ⟨e, he, hs⟩ | q
  · exact (Rch.stop hs d a h).mono (by omega)
  · have h1 : rchN w rt L (N + 1) ≤ L.length := List.length_filter_le _ _
    omega
/-- a row of different objects that are just those reached: as many as the filter says -/
theorem rch_count {w rt : Nat → Int32} {L O : List Nat} (hn : L.Nodup) (hO : O.Nodup) {d : Nat} (h : ∀ a, a ∈ O ↔ Rch w rt L d a) : O.length = rchN w rt L d := by
  refine ((List.perm_ext_iff_of_nodup hO (hn.sublist List.filter_sublist)).mpr fun a => ?_).length_eq
  rw [List.mem_filter, rchB_iff, h a]
  exact ⟨fun q => ⟨q.mem, q⟩, fun q => q.2⟩
end
section
/-! THE WORLDS: the cells of an OffsetHeap (xW), of its Map alone (pW), of an OffsetHeapModel (dW) -/
abbrev tyS (cI cL cZ : ClassId) : List (ClassId × FieldType) := [(cI, .int), (cL, .long), (cZ, .boolean)]
abbrev xW (x aw af am ab ao ar ap az : Nat) (cI cL cZ : ClassId) (N B T O C R : Nat) (rf : Int32) (w f : Nat → Int32) (bs : Nat → Int64) (os rt op sn : Nat → Int32) : va_W :=
  [(x, .inr (0, [.int (nI N), .int (nI B), .ref aw, .ref af, .ref am, .ref ar, .ref ap, .ref az, .int (nI T), .int (nI O), .int (nI C), .int (nI R), .int rf])),
   (aw, .inl (cI, N + 1, .inl w)), (af, .inl (cI, N + 1, .inl f)), (am, .inr (1, [.ref ab, .ref ao, .int (nI B)])), (ab, .inl (cL, N / 64 + 1, .inr (.inl bs))), (ao, .inl (cI, N / B + 1, .inl os)),
   (ar, .inl (cI, 8, .inl rt)), (ap, .inl (cI, N + 1, .inl op)), (az, .inl (cZ, N + 1, .inl sn))]
abbrev pW (am ab ao : Nat) (cI cL : ClassId) (N B : Nat) (bs : Nat → Int64) (os : Nat → Int32) : va_W :=
  [(am, .inr (1, [.ref ab, .ref ao, .int (nI B)])), (ab, .inl (cL, N / 64 + 1, .inr (.inl bs))), (ao, .inl (cI, N / B + 1, .inl os))]
abbrev dW (m0 bw bf bb bg br bn ba : Nat) (cI cZ : ClassId) (N B T O C R : Nat) (th : Int32) (w f gn fg rt wn fr : Nat → Int32) : va_W :=
  [(m0, .inr (2, [.int th, .int (nI N), .int (nI B), .int (nI T), .int (nI O), .int (nI C), .int (nI R), .ref bw, .ref bf, .ref bb, .ref bg, .ref br, .ref bn, .ref ba])),
   (bw, .inl (cI, 4001, .inl w)), (bf, .inl (cI, 4001, .inl f)), (bb, .inl (cZ, 4002, .inl gn)), (bg, .inl (cZ, 4002, .inl fg)), (br, .inl (cI, 8, .inl rt)), (bn, .inl (cI, 4001, .inl wn)), (ba, .inl (cI, 4001, .inl fr))]
/-- small numbers: shifts and masks of a header -/
theorem sh_4 {n : Nat} (h : n < 2 ^ 31) : nI n >>> (nI 4 &&& 31) = nI (n / 16) := pk_shrN h (nI 4 &&& 31) 4 (by decide)
theorem sh_8 {n : Nat} (h : n < 2 ^ 31) : nI n >>> (nI 8 &&& 31) = nI (n / 256) := pk_shrN h (nI 8 &&& 31) 8 (by decide)
theorem an_15 {n : Nat} (h : n < 2 ^ 32) : nI n &&& nI 15 = nI (n % 16) := pk_andN h (m := nI 15) 4 (by decide)
theorem rf_sh {v : Int32} (h : ¬ v < 0) : (v >>> (nI 4 &&& 31)) &&& nI 15 = nI (rfN v) := by
  have e := nI_hdN h
  have hl := hdN_lt v
  rw [show v >>> (nI 4 &&& 31) = nI (hdN v) >>> (nI 4 &&& 31) by rw [← e], sh_4 hl, an_15 (by omega)]
  rfl
theorem pl_sh {v : Int32} (h : ¬ v < 0) : v >>> (nI 8 &&& 31) = nI (plN v) := by
  have e := nI_hdN h
  have hl := hdN_lt v
  rw [show v >>> (nI 8 &&& 31) = nI (hdN v) >>> (nI 8 &&& 31) by rw [← e], sh_8 hl]
  rfl
theorem nI_lt0 {n : Nat} (h : n < 2 ^ 31) : ¬ nI n < 0 := nI_pos h
theorem plN_lt (v : Int32) : plN v < 2 ^ 23 := by have := hdN_lt v; unfold plN; omega
def inR (x lo hi : Int32) : Bool := decide (lo ≤ x) && decide (x ≤ hi)
theorem inR_nat {x : Int32} {hi : Nat} (hh : hi < 2 ^ 31) (h : inR x (nI 0) (nI hi) = true) : ∃ k : Nat, k ≤ hi ∧ x = nI k := by
  simp only [inR, Bool.and_eq_true, decide_eq_true_eq] at h
  have h0 : ¬ x < 0 := fun q => by
    have := Int32.lt_of_lt_of_le q (by rw [nI_0] at h; exact h.1)
    exact absurd this (by simp)
  obtain ⟨j, hj, rfl⟩ := nI_of h0
  exact ⟨j, (nI_leI hj hh).mp h.2, rfl⟩
theorem inR_of {k hi : Nat} (hh : hi < 2 ^ 31) (h : k ≤ hi) : inR (nI k) (nI 0) (nI hi) = true := by
  simp only [inR, Bool.and_eq_true, decide_eq_true_eq]
  exact ⟨nI_le (Nat.zero_le _) (by omega), nI_le h hh⟩
end
section
/-! THE CLASS: its small readers -/
section H1
variable {l : Launch} {D : va_G} {x aw af am ab ao ar ap az : Nat} {cI cL cZ : ClassId} {N B T O C R : Nat} {rf : Int32} {w f : Nat → Int32} {bs : Nat → Int64} {os rt op sn : Nat → Int32}
set_option maxHeartbeats 4000000 in
set_option maxRecDepth 100000 in
/-- is v in lo .. hi -/
theorem c_H_within (v lo hi : Int32) : roC l y_H_within b_H_within 3 (some .boolean) { frames := 0, cells := 0, slots := 0, locals := 0 } D (tyS cI cL cZ) [.int v, .int lo, .int hi] [] (fun r => r = b2i (inR v lo hi)) := by
  refine ro_of (by decide) (Nat.le_of_ble_eq_true rfl) ?_
  intro p e s m args below meth c S hr hlocks hK hP ls hl
  have hx := S.1
  have hb := S.2.1
  have hl : lv_has ls 3 [(0, .int v), (1, .int lo), (2, .int hi)] := hl
  refine lv_iload_n hx hb d_H_within_0 rfl (lv_at hl 0 rfl) ?_
  refine lv_iload_n hx hb d_H_within_1 rfl (lv_at hl 1 rfl) ?_
  refine lv_icmp_lt (tgt := 14) hx hb d_H_within_2 (by decide) (fun c1 => ?_) (fun c1 => ?_)
  · refine lv_iconst (v := nI 0) hx hb d_H_within_14 (by decide) ?_
    refine k_top (y := 0) (rfl) ?_
    exact k_retz S hr hlocks (by decide) (by simp [b2i, inR, Int32.not_le.mpr c1]) d_H_within_15
  · refine lv_iload_n hx hb d_H_within_5 rfl (lv_at hl 0 rfl) ?_
    refine lv_iload_n hx hb d_H_within_6 rfl (lv_at hl 2 rfl) ?_
    refine lv_icmp_gt (tgt := 14) hx hb d_H_within_7 (by decide) (fun c2 => ?_) (fun c2 => ?_)
    · refine lv_iconst (v := nI 0) hx hb d_H_within_14 (by decide) ?_
      refine k_top (y := 0) (rfl) ?_
      exact k_retz S hr hlocks (by decide) (by simp [b2i, inR, Int32.not_le.mpr c2]) d_H_within_15
    · refine lv_iconst (v := nI 1) hx hb d_H_within_10 (by decide) ?_
      refine lv_goto (tgt := 15) hx hb d_H_within_11 (by decide) ?_
      refine k_top (y := 1) (rfl) ?_
      exact k_retz S hr hlocks (by decide) (by simp [b2i, inR]; exact ⟨Int32.not_lt.mp c1, Int32.not_lt.mp c2⟩) d_H_within_15
set_option maxHeartbeats 4000000 in
set_option maxRecDepth 100000 in
/-- is v in lo .. hi -/
theorem c_D_isIn (v lo hi : Int32) : roC l y_D_isIn b_D_isIn 3 (some .boolean) { frames := 0, cells := 0, slots := 0, locals := 0 } D (tyS cI cL cZ) [.int v, .int lo, .int hi] [] (fun r => r = b2i (inR v lo hi)) := by
  refine ro_of (by decide) (Nat.le_of_ble_eq_true rfl) ?_
  intro p e s m args below meth c S hr hlocks hK hP ls hl
  have hx := S.1
  have hb := S.2.1
  have hl : lv_has ls 3 [(0, .int v), (1, .int lo), (2, .int hi)] := hl
  refine lv_iload_n hx hb d_D_isIn_0 rfl (lv_at hl 0 rfl) ?_
  refine lv_iload_n hx hb d_D_isIn_1 rfl (lv_at hl 1 rfl) ?_
  refine lv_icmp_lt (tgt := 14) hx hb d_D_isIn_2 (by decide) (fun c1 => ?_) (fun c1 => ?_)
  · refine lv_iconst (v := nI 0) hx hb d_D_isIn_14 (by decide) ?_
    refine k_top (y := 0) (rfl) ?_
    exact k_retz S hr hlocks (by decide) (by simp [b2i, inR, Int32.not_le.mpr c1]) d_D_isIn_15
  · refine lv_iload_n hx hb d_D_isIn_5 rfl (lv_at hl 0 rfl) ?_
    refine lv_iload_n hx hb d_D_isIn_6 rfl (lv_at hl 2 rfl) ?_
    refine lv_icmp_gt (tgt := 14) hx hb d_D_isIn_7 (by decide) (fun c2 => ?_) (fun c2 => ?_)
    · refine lv_iconst (v := nI 0) hx hb d_D_isIn_14 (by decide) ?_
      refine k_top (y := 0) (rfl) ?_
      exact k_retz S hr hlocks (by decide) (by simp [b2i, inR, Int32.not_le.mpr c2]) d_D_isIn_15
    · refine lv_iconst (v := nI 1) hx hb d_D_isIn_10 (by decide) ?_
      refine lv_goto (tgt := 15) hx hb d_D_isIn_11 (by decide) ?_
      refine k_top (y := 1) (rfl) ?_
      exact k_retz S hr hlocks (by decide) (by simp [b2i, inR]; exact ⟨Int32.not_lt.mp c1, Int32.not_lt.mp c2⟩) d_D_isIn_15
set_option maxHeartbeats 4000000 in
set_option maxRecDepth 100000 in
/-- how many references -/
theorem c_H_references (i : Nat) (hN : N ≤ 4000) (hi : i ≤ N) (hw : ¬ w i < 0) : roC l y_H_references b_H_references 2 (some .int) { frames := 0, cells := 0, slots := 0, locals := 0 } D (tyS cI cL cZ) [.ref x, .int (nI i)] (xW x aw af am ab ao ar ap az cI cL cZ N B T O C R rf w f bs os rt op sn) (fun r => r = nI (rfN (w i))) := by
  refine ro_of (by decide) (Nat.le_of_ble_eq_true rfl) ?_
  intro p e s m args below meth c S hr hlocks hK hP ls hl
  have hx := S.1
  have hb := S.2.1
  have hl : lv_has ls 2 [(0, .ref x), (1, .int (nI i))] := hl
  refine lv_aload_n hx hb d_H_references_0 rfl (lv_at hl 0 rfl) ?_
  refine k_get S i_H hK hP 0 rfl rfl 2 (by decide) tb_42 rfl rfl d_H_references_1 ?_
  refine lv_iload_n hx hb d_H_references_4 rfl (lv_at hl 1 rfl) ?_
  refine k_ild hx hb hK hP 1 0 rfl rfl (by omega) (by omega) d_H_references_5 ?_
  refine lv_iconst (v := nI 4) hx hb d_H_references_6 (by decide) ?_
  refine lv_ishr hx hb d_H_references_7 ?_
  refine lv_bipush (v := nI 15) hx hb d_H_references_8 (by decide) ?_
  refine lv_iand hx hb d_H_references_10 ?_
  exact k_ret S hr hlocks (rf_sh hw) d_H_references_11
set_option maxHeartbeats 4000000 in
set_option maxRecDepth 100000 in
/-- how many plain words -/
theorem c_H_plain (i : Nat) (hN : N ≤ 4000) (hi : i ≤ N) (hw : ¬ w i < 0) : roC l y_H_plain b_H_plain 2 (some .int) { frames := 0, cells := 0, slots := 0, locals := 0 } D (tyS cI cL cZ) [.ref x, .int (nI i)] (xW x aw af am ab ao ar ap az cI cL cZ N B T O C R rf w f bs os rt op sn) (fun r => r = nI (plN (w i))) := by
  refine ro_of (by decide) (Nat.le_of_ble_eq_true rfl) ?_
  intro p e s m args below meth c S hr hlocks hK hP ls hl
  have hx := S.1
  have hb := S.2.1
  have hl : lv_has ls 2 [(0, .ref x), (1, .int (nI i))] := hl
  refine lv_aload_n hx hb d_H_plain_0 rfl (lv_at hl 0 rfl) ?_
  refine k_get S i_H hK hP 0 rfl rfl 2 (by decide) tb_42 rfl rfl d_H_plain_1 ?_
  refine lv_iload_n hx hb d_H_plain_4 rfl (lv_at hl 1 rfl) ?_
  refine k_ild hx hb hK hP 1 0 rfl rfl (by omega) (by omega) d_H_plain_5 ?_
  refine lv_bipush (v := nI 8) hx hb d_H_plain_6 (by decide) ?_
  refine lv_ishr hx hb d_H_plain_8 ?_
  exact k_ret S hr hlocks (pl_sh hw) d_H_plain_9
set_option maxHeartbeats 4000000 in
set_option maxRecDepth 100000 in
/-- how many words -/
theorem c_H_size (i : Nat) (hN : N ≤ 4000) (hi : i ≤ N) (hw : ¬ w i < 0) : roC l y_H_size b_H_size 2 (some .int) { frames := 1, cells := 0, slots := 0, locals := 21 } D (tyS cI cL cZ) [.ref x, .int (nI i)] (xW x aw af am ab ao ar ap az cI cL cZ N B T O C R rf w f bs os rt op sn) (fun r => r = nI (szN (w i))) := by
  refine ro_of (by decide) (Nat.le_of_ble_eq_true rfl) ?_
  intro p e s m args below meth c S hr hlocks hK hP ls hl
  have hx := S.1
  have hb := S.2.1
  have hl : lv_has ls 2 [(0, .ref x), (1, .int (nI i))] := hl
  refine lv_iconst (v := nI 1) hx hb d_H_size_0 (by decide) ?_
  refine lv_aload_n hx hb d_H_size_1 rfl (lv_at hl 0 rfl) ?_
  refine lv_iload_n hx hb d_H_size_2 rfl (lv_at hl 1 rfl) ?_
  refine k_roV (np := 1) (As := [.int (nI i)]) (rest := [.int (nI 1)]) S (c_H_references i hN hi hw) (gd_V tb_88 tb_90 tp_H_references tb_1 tb_91) hK hP rfl rfl (by decide +kernel) rfl ⟨rfl, rfl⟩ ⟨Nat.le_of_ble_eq_true rfl, Nat.le_of_ble_eq_true rfl⟩ hl.1 rfl (Nat.le_of_ble_eq_true rfl) d_H_size_3 ⟨Nat.zero_le _, Nat.zero_le _⟩ (fun v1 hv1 => ?_)
  subst hv1
  refine k_add hx hb d_H_size_6 ?_
  refine lv_aload_n hx hb d_H_size_7 rfl (lv_at hl 0 rfl) ?_
  refine lv_iload_n hx hb d_H_size_8 rfl (lv_at hl 1 rfl) ?_
  refine k_roV (np := 1) (As := [.int (nI i)]) (rest := [.int (nI (1 + (rfN (w i))))]) S (c_H_plain i hN hi hw) (gd_V tb_92 tb_94 tp_H_plain tb_1 tb_95) hK hP rfl rfl (by decide +kernel) rfl ⟨rfl, rfl⟩ ⟨Nat.le_of_ble_eq_true rfl, Nat.le_of_ble_eq_true rfl⟩ hl.1 rfl (Nat.le_of_ble_eq_true rfl) d_H_size_9 ⟨Nat.zero_le _, Nat.zero_le _⟩ (fun v2 hv2 => ?_)
  subst hv2
  refine k_add hx hb d_H_size_12 ?_
  exact k_ret S hr hlocks (rfl) d_H_size_13
end H1
end
section
/-! THE CLASS: isObject and other readers -/
/-- what 'count' tells -/
def cntOf (i : Int32) (T O C N k : Nat) : Int32 := if i = nI 0 then nI T else if i = nI 1 then nI O else if i = nI 2 then nI C else if i = nI 3 then nI N else if i = nI 4 then nI k else -1
theorem cnt_cases (i : Int32) : i = nI 0 ∨ i = nI 1 ∨ i = nI 2 ∨ i = nI 3 ∨ i = nI 4 ∨ ((i.toInt < 0 ∨ 4 < i.toInt) ∧ ∀ T O C N k : Nat, cntOf i T O C N k = -1) := by
  by_cases h0 : i = nI 0
  · exact Or.inl h0
  by_cases h1 : i = nI 1
  · exact Or.inr (Or.inl h1)
  by_cases h2 : i = nI 2
  · exact Or.inr (Or.inr (Or.inl h2))
  by_cases h3 : i = nI 3
  · exact Or.inr (Or.inr (Or.inr (Or.inl h3)))
  by_cases h4 : i = nI 4
  · exact Or.inr (Or.inr (Or.inr (Or.inr (Or.inl h4))))
  refine Or.inr (Or.inr (Or.inr (Or.inr (Or.inr ⟨?_, fun T O C N k => by simp [cntOf, h0, h1, h2, h3, h4]⟩))))
  have g : ∀ k : Nat, k < 5 → ¬ i = nI k → ¬ i.toInt = (k : Int) := fun k hk h q => h (Int32.toInt_inj.mp (by rw [q, nI_toInt (by omega)]))
  have g0 := g 0 (by omega) h0
  have g1 := g 1 (by omega) h1
  have g2 := g 2 (by omega) h2
  have g3 := g 3 (by omega) h3
  have g4 := g 4 (by omega) h4
  omega
section H2
variable {l : Launch} {D : va_G} {x aw af am ab ao ar ap az : Nat} {cI cL cZ : ClassId} {N B T O C R : Nat} {rf : Int32} {w f : Nat → Int32} {bs : Nat → Int64} {os rt op sn : Nat → Int32}
variable {L : List Nat}
set_option maxHeartbeats 4000000 in
set_option maxRecDepth 100000 in
/-- is it an object -/
theorem c_H_isObject (hH : Hp N T w L rt) (a : Int32) : roC l y_H_isObject b_H_isObject 3 (some .boolean) { frames := 2, cells := 0, slots := 0, locals := 42 } D (tyS cI cL cZ) [.ref x, .int a] (xW x aw af am ab ao ar ap az cI cL cZ N B T O C R rf w f bs os rt op sn) (fun r => r = b2i (isO L a)) := by
  refine ro_of (by decide) (Nat.le_of_ble_eq_true rfl) ?_
  intro p e s m args below meth c S hr hlocks hK hP ls hl
  have hx := S.1
  have hb := S.2.1
  have hl : lv_has ls 3 [(0, .ref x), (1, .int a)] := hl
  have hN := hH.N
  have hT := hH.T
  refine lv_iconst (v := nI 1) hx hb d_H_isObject_0 (by decide) ?_
  refine lv_istore_n (lv' := [(2, .int (nI 1)), (0, .ref x), (1, .int a)]) hx hb d_H_isObject_1 rfl hl (by decide) rfl (fun ls hl => ?_)
  have loop : ∀ (n : Nat) (ol : List Nat) (t : Nat), T < t + n → Chn w ol t T → 1 ≤ t → isO L a = isO ol a → ∀ ls : Array Slot, lv_has ls 3 [(2, .int (nI t)), (0, .ref x), (1, .int a)] → W p l e ({ frames := 2, cells := 0, slots := 0, locals := 42 } : Room) s m args below meth c s.heap [] 0 0 (MQ below (vp_Si (fun r => r = b2i (isO L a))) args s 0 0 (fun _ => False)) (F0 m 2 ls []) := by
    intro n
    induction n with
    | zero =>
      intro ol t h1 hC
      have := hC.le
      omega
    | succ n ih =>
      intro ol t hn hC ht hO ls hl
      have hle := hC.le
      refine lv_iload_n hx hb d_H_isObject_2 rfl (lv_at hl 0 rfl) ?_
      refine lv_aload_n hx hb d_H_isObject_3 rfl (lv_at hl 1 rfl) ?_
      refine k_get S i_H hK hP 0 rfl rfl 8 (by decide) tb_48 rfl rfl d_H_isObject_4 ?_
      refine k_ige (tgt := 26) hx hb d_H_isObject_7 (by decide) (by omega) (by omega) (fun c1 => ?_) (fun c1 => ?_)
      · obtain ⟨hnil, _⟩ := hC.end c1
        refine lv_iload_n hx hb d_H_isObject_26 rfl (lv_at hl 0 rfl) ?_
        refine lv_aload_n hx hb d_H_isObject_27 rfl (lv_at hl 1 rfl) ?_
        refine k_get S i_H hK hP 0 rfl rfl 8 (by decide) tb_48 rfl rfl d_H_isObject_28 ?_
        refine k_ige (tgt := 43) hx hb d_H_isObject_31 (by decide) (by omega) (by omega) (fun c2 => ?_) (fun c2 => ?_)
        · refine lv_iconst (v := nI 0) hx hb d_H_isObject_43 (by decide) ?_
          refine k_top (y := 0) (rfl) ?_
          exact k_retz S hr hlocks (by decide) (by rw [hO, hnil]; rfl) d_H_isObject_44
        · omega
      · refine lv_iload_n hx hb d_H_isObject_10 rfl (lv_at hl 0 rfl) ?_
        refine lv_iload_n hx hb d_H_isObject_11 rfl (lv_at hl 2 rfl) ?_
        refine lv_icmp_ge (tgt := 26) hx hb d_H_isObject_12 (by decide) (fun c2 => ?_) (fun c2 => ?_)
        · obtain ⟨ol2, rfl, h0, hC2⟩ := hC.step c1
          refine lv_iload_n hx hb d_H_isObject_26 rfl (lv_at hl 0 rfl) ?_
          refine lv_aload_n hx hb d_H_isObject_27 rfl (lv_at hl 1 rfl) ?_
          refine k_get S i_H hK hP 0 rfl rfl 8 (by decide) tb_48 rfl rfl d_H_isObject_28 ?_
          refine k_ige (tgt := 43) hx hb d_H_isObject_31 (by decide) (by omega) (by omega) (fun c3 => ?_) (fun c3 => ?_)
          · omega
          · refine lv_iload_n hx hb d_H_isObject_34 rfl (lv_at hl 0 rfl) ?_
            refine lv_iload_n hx hb d_H_isObject_35 rfl (lv_at hl 2 rfl) ?_
            refine lv_icmp_ne (tgt := 43) hx hb d_H_isObject_36 (by decide) (fun c4 => ?_) (fun c4 => ?_)
            · refine lv_iconst (v := nI 0) hx hb d_H_isObject_43 (by decide) ?_
              refine k_top (y := 0) (rfl) ?_
              exact k_retz S hr hlocks (by decide) (by
                have hf : isO (t :: ol2) a = false := by
                  refine Bool.eq_false_iff.mpr fun q => ?_
                  obtain ⟨b, hb, e⟩ := isO_iff.mp q
                  rcases List.mem_cons.mp hb with rfl | hb
                  · exact c4 e.symm
                  · have h1 := hC2.mem hb
                    have h2 := szN_pos (w t)
                    have h3 := szN_pos (w b)
                    rw [e] at c2
                    have h4 := (nI_leI (by omega) (by omega)).mp c2
                    omega
                rw [hO, hf]; rfl) d_H_isObject_44
            · refine lv_iconst (v := nI 1) hx hb d_H_isObject_39 (by decide) ?_
              refine lv_goto (tgt := 44) hx hb d_H_isObject_40 (by decide) ?_
              refine k_top (y := 1) (rfl) ?_
              exact k_retz S hr hlocks (by decide) (by rw [hO, isO_iff.mpr ⟨t, List.mem_cons_self, c4.symm⟩]; rfl) d_H_isObject_44
        · obtain ⟨ol2, rfl, h0, hC2⟩ := hC.step c1
          have hs := hC2.le
          have hp := szN_pos (w t)
          refine lv_iload_n hx hb d_H_isObject_15 rfl (lv_at hl 0 rfl) ?_
          refine lv_aload_n hx hb d_H_isObject_16 rfl (lv_at hl 1 rfl) ?_
          refine lv_iload_n hx hb d_H_isObject_17 rfl (lv_at hl 0 rfl) ?_
          refine k_roV (np := 1) (As := [.int (nI t)]) (rest := [.int (nI t)]) S (c_H_size t hN.2 (by omega) h0) (gd_V tb_84 tb_86 tp_H_size tb_1 tb_87) hK hP rfl rfl (by decide +kernel) rfl ⟨rfl, rfl⟩ ⟨Nat.le_of_ble_eq_true rfl, Nat.le_of_ble_eq_true rfl⟩ hl.1 rfl (Nat.le_of_ble_eq_true rfl) d_H_isObject_18 ⟨Nat.zero_le _, Nat.zero_le _⟩ (fun v1 hv1 => ?_)
          subst hv1
          refine k_add hx hb d_H_isObject_21 ?_
          refine lv_istore_n (lv' := [(2, .int (nI (t + (szN (w t))))), (0, .ref x), (1, .int a)]) hx hb d_H_isObject_22 rfl hl (by decide) rfl (fun ls hl => ?_)
          refine lv_goto (tgt := 2) hx hb d_H_isObject_23 (by decide) ?_
          have hO2 : isO L a = isO ol2 a := by
            rw [hO, isO_cons]
            have : ¬ a = nI t := fun e => c2 (by rw [e]; exact Int32.le_refl _)
            simp [this]
          exact ih ol2 (t + szN (w t)) (by omega) hC2 (by omega) hO2 ls (lv_sub hl [0, 1, 2] rfl)
  exact loop (T + 1) L 1 (by omega) hH.ch (Nat.le_refl 1) rfl ls (lv_sub hl [0, 1, 2] rfl)
set_option maxHeartbeats 4000000 in
set_option maxRecDepth 100000 in
/-- is it an object or nothing -/
theorem c_H_leadsWell (hH : Hp N T w L rt) (a : Int32) : roC l y_H_leadsWell b_H_leadsWell 2 (some .boolean) { frames := 3, cells := 0, slots := 0, locals := 64 } D (tyS cI cL cZ) [.ref x, .int a] (xW x aw af am ab ao ar ap az cI cL cZ N B T O C R rf w f bs os rt op sn) (fun r => r = b2i (isLd L a)) := by
  refine ro_of (by decide) (Nat.le_of_ble_eq_true rfl) ?_
  intro p e s m args below meth c S hr hlocks hK hP ls hl
  have hx := S.1
  have hb := S.2.1
  have hl : lv_has ls 2 [(0, .ref x), (1, .int a)] := hl
  refine lv_iload_n hx hb d_H_leadsWell_0 rfl (lv_at hl 1 rfl) ?_
  refine lv_if_eq (tgt := 12) hx hb d_H_leadsWell_1 (by decide) (fun c1 => ?_) (fun c1 => ?_)
  · refine lv_iconst (v := nI 1) hx hb d_H_leadsWell_12 (by decide) ?_
    refine lv_goto (tgt := 17) hx hb d_H_leadsWell_13 (by decide) ?_
    refine k_top (y := 1) (rfl) ?_
    exact k_retz S hr hlocks (by decide) (by simp [isLd, c1, b2i]) d_H_leadsWell_17
  · refine lv_aload_n hx hb d_H_leadsWell_4 rfl (lv_at hl 0 rfl) ?_
    refine lv_iload_n hx hb d_H_leadsWell_5 rfl (lv_at hl 1 rfl) ?_
    refine k_roV (np := 1) (As := [.int a]) (rest := []) S (c_H_isObject hH a) (gd_V tb_107 tb_81 tb_82 tb_1 tb_83) hK hP rfl rfl (by decide +kernel) rfl ⟨rfl, rfl⟩ ⟨Nat.le_of_ble_eq_true rfl, Nat.le_of_ble_eq_true rfl⟩ hl.1 rfl (Nat.le_of_ble_eq_true rfl) d_H_leadsWell_6 ⟨Nat.zero_le _, Nat.zero_le _⟩ (fun v1 hv1 => ?_)
    subst hv1
    refine k_beq (tgt := 16) hx hb d_H_leadsWell_9 (by decide) (fun c2 => ?_) (fun c2 => ?_)
    · refine lv_iconst (v := nI 0) hx hb d_H_leadsWell_16 (by decide) ?_
      refine k_top (y := 0) (rfl) ?_
      exact k_retz S hr hlocks (by decide) (by simp [isLd, c1, c2, b2i]) d_H_leadsWell_17
    · refine lv_iconst (v := nI 1) hx hb d_H_leadsWell_12 (by decide) ?_
      refine lv_goto (tgt := 17) hx hb d_H_leadsWell_13 (by decide) ?_
      refine k_top (y := 1) (rfl) ?_
      exact k_retz S hr hlocks (by decide) (by simp [isLd, c1, c2, b2i]) d_H_leadsWell_17
set_option maxHeartbeats 4000000 in
set_option maxRecDepth 100000 in
/-- a word -/
theorem c_H_word (i : Int32) (hN : N ≤ 4000) : roC l y_H_word b_H_word 2 (some .int) { frames := 1, cells := 0, slots := 0, locals := 22 } D (tyS cI cL cZ) [.ref x, .int i] (xW x aw af am ab ao ar ap az cI cL cZ N B T O C R rf w f bs os rt op sn) (fun r => r = if inR i (nI 0) (nI N) then w i.toNatClampNeg else -1) := by
  refine ro_of (by decide) (Nat.le_of_ble_eq_true rfl) ?_
  intro p e s m args below meth c S hr hlocks hK hP ls hl
  have hx := S.1
  have hb := S.2.1
  have hl : lv_has ls 2 [(0, .ref x), (1, .int i)] := hl
  refine lv_iload_n hx hb d_H_word_0 rfl (lv_at hl 1 rfl) ?_
  refine lv_iconst (v := nI 0) hx hb d_H_word_1 (by decide) ?_
  refine lv_aload_n hx hb d_H_word_2 rfl (lv_at hl 0 rfl) ?_
  refine k_get S i_H hK hP 0 rfl rfl 0 (by decide) tb_40 rfl rfl d_H_word_3 ?_
  refine k_roS (np := 3) (As := [.int i, .int (nI 0), .int (nI N)]) (rest := []) S (c_H_within i (nI 0) (nI N)) (gd_S tb_100 tb_101 tb_1 tb_102) hK (hP.sub [] rfl) (by decide +kernel) rfl ⟨rfl, rfl⟩ ⟨Nat.le_of_ble_eq_true rfl, Nat.le_of_ble_eq_true rfl⟩ hl.1 rfl (Nat.le_of_ble_eq_true rfl) d_H_word_6 ⟨Nat.zero_le _, Nat.zero_le _⟩ (fun v1 hv1 => ?_)
  subst hv1
  refine k_beq (tgt := 21) hx hb d_H_word_9 (by decide) (fun c1 => ?_) (fun c1 => ?_)
  · refine lv_iconst (v := (-1)) hx hb d_H_word_21 (by decide) ?_
    exact k_ret S hr hlocks (by rw [c1]; rfl) d_H_word_22
  · obtain ⟨k, hk, rfl⟩ := inR_nat (by omega) c1
    refine lv_aload_n hx hb d_H_word_12 rfl (lv_at hl 0 rfl) ?_
    refine k_get S i_H hK hP 0 rfl rfl 2 (by decide) tb_42 rfl rfl d_H_word_13 ?_
    refine lv_iload_n hx hb d_H_word_16 rfl (lv_at hl 1 rfl) ?_
    refine k_ild hx hb hK hP 1 0 rfl rfl (by omega) (by omega) d_H_word_17 ?_
    refine lv_goto (tgt := 22) hx hb d_H_word_18 (by decide) ?_
    exact k_ret S hr hlocks (by rw [c1, nI_clamp (by omega)]; rfl) d_H_word_22
set_option maxHeartbeats 4000000 in
set_option maxRecDepth 100000 in
/-- a root -/
theorem c_H_rootOf (i : Int32) : roC l y_H_rootOf b_H_rootOf 2 (some .int) { frames := 1, cells := 0, slots := 0, locals := 22 } D (tyS cI cL cZ) [.ref x, .int i] (xW x aw af am ab ao ar ap az cI cL cZ N B T O C R rf w f bs os rt op sn) (fun r => r = if inR i (nI 0) (nI 7) then rt i.toNatClampNeg else -1) := by
  refine ro_of (by decide) (Nat.le_of_ble_eq_true rfl) ?_
  intro p e s m args below meth c S hr hlocks hK hP ls hl
  have hx := S.1
  have hb := S.2.1
  have hl : lv_has ls 2 [(0, .ref x), (1, .int i)] := hl
  refine lv_iload_n hx hb d_H_rootOf_0 rfl (lv_at hl 1 rfl) ?_
  refine lv_iconst (v := nI 0) hx hb d_H_rootOf_1 (by decide) ?_
  refine lv_bipush (v := nI 7) hx hb d_H_rootOf_2 (by decide) ?_
  refine k_roS (np := 3) (As := [.int i, .int (nI 0), .int (nI 7)]) (rest := []) S (c_H_within i (nI 0) (nI 7)) (gd_S tb_100 tb_101 tb_1 tb_102) hK (hP.sub [] rfl) (by decide +kernel) rfl ⟨rfl, rfl⟩ ⟨Nat.le_of_ble_eq_true rfl, Nat.le_of_ble_eq_true rfl⟩ hl.1 rfl (Nat.le_of_ble_eq_true rfl) d_H_rootOf_4 ⟨Nat.zero_le _, Nat.zero_le _⟩ (fun v1 hv1 => ?_)
  subst hv1
  refine k_beq (tgt := 19) hx hb d_H_rootOf_7 (by decide) (fun c1 => ?_) (fun c1 => ?_)
  · refine lv_iconst (v := (-1)) hx hb d_H_rootOf_19 (by decide) ?_
    exact k_ret S hr hlocks (by rw [c1]; rfl) d_H_rootOf_20
  · obtain ⟨k, hk, rfl⟩ := inR_nat (by omega) c1
    refine lv_aload_n hx hb d_H_rootOf_10 rfl (lv_at hl 0 rfl) ?_
    refine k_get S i_H hK hP 0 rfl rfl 5 (by decide) tb_45 rfl rfl d_H_rootOf_11 ?_
    refine lv_iload_n hx hb d_H_rootOf_14 rfl (lv_at hl 1 rfl) ?_
    refine k_ild hx hb hK hP 6 0 rfl rfl (by omega) (by omega) d_H_rootOf_15 ?_
    refine lv_goto (tgt := 20) hx hb d_H_rootOf_16 (by decide) ?_
    exact k_ret S hr hlocks (by rw [c1, nI_clamp (by omega)]; rfl) d_H_rootOf_20
set_option maxHeartbeats 4000000 in
set_option maxRecDepth 100000 in
/-- words read at the last collecting -/
theorem c_H_reads  : roC l y_H_reads b_H_reads 1 (some .int) { frames := 0, cells := 0, slots := 0, locals := 0 } D (tyS cI cL cZ) [.ref x] (xW x aw af am ab ao ar ap az cI cL cZ N B T O C R rf w f bs os rt op sn) (fun r => r = nI R) := by
  refine ro_of (by decide) (Nat.le_of_ble_eq_true rfl) ?_
  intro p e s m args below meth c S hr hlocks hK hP ls hl
  have hx := S.1
  have hb := S.2.1
  have hl : lv_has ls 1 [(0, .ref x)] := hl
  refine lv_aload_n hx hb d_H_reads_0 rfl (lv_at hl 0 rfl) ?_
  refine k_get S i_H hK hP 0 rfl rfl 11 (by decide) tb_51 rfl rfl d_H_reads_1 ?_
  exact k_ret S hr hlocks (rfl) d_H_reads_4
set_option maxHeartbeats 4000000 in
set_option maxRecDepth 100000 in
/-- an offset -/
theorem c_H_offset (i : Int32) (hN : N ≤ 4000) (hB : 0 < B) : roC l y_H_offset b_H_offset 2 (some .int) { frames := 1, cells := 0, slots := 0, locals := 22 } D (tyS cI cL cZ) [.ref x, .int i] (xW x aw af am ab ao ar ap az cI cL cZ N B T O C R rf w f bs os rt op sn) (fun r => r = if inR i (nI 0) (nI (N / B)) then os i.toNatClampNeg else -1) := by
  refine ro_of (by decide) (Nat.le_of_ble_eq_true rfl) ?_
  intro p e s m args below meth c S hr hlocks hK hP ls hl
  have hx := S.1
  have hb := S.2.1
  have hl : lv_has ls 2 [(0, .ref x), (1, .int i)] := hl
  have hq : N / B ≤ N := Nat.div_le_self N B
  refine lv_iload_n hx hb d_H_offset_0 rfl (lv_at hl 1 rfl) ?_
  refine lv_iconst (v := nI 0) hx hb d_H_offset_1 (by decide) ?_
  refine lv_aload_n hx hb d_H_offset_2 rfl (lv_at hl 0 rfl) ?_
  refine k_get S i_H hK hP 0 rfl rfl 4 (by decide) tb_44 rfl rfl d_H_offset_3 ?_
  refine k_getN S hK hP 3 rfl rfl d_H_offset_6 ?_
  refine k_len hx hb hK hP 5 0 rfl rfl d_H_offset_9 ?_
  refine lv_iconst (v := nI 1) hx hb d_H_offset_10 (by decide) ?_
  refine k_sub hx hb d_H_offset_11 (Nat.le_add_left 1 _) ?_
  refine k_top (y := nI (N / B)) (rfl) ?_
  refine k_roS (np := 3) (As := [.int i, .int (nI 0), .int (nI (N / B))]) (rest := []) S (c_H_within i (nI 0) (nI (N / B))) (gd_S tb_100 tb_101 tb_1 tb_102) hK (hP.sub [] rfl) (by decide +kernel) rfl ⟨rfl, rfl⟩ ⟨Nat.le_of_ble_eq_true rfl, Nat.le_of_ble_eq_true rfl⟩ hl.1 rfl (Nat.le_of_ble_eq_true rfl) d_H_offset_12 ⟨Nat.zero_le _, Nat.zero_le _⟩ (fun v1 hv1 => ?_)
  subst hv1
  refine k_beq (tgt := 30) hx hb d_H_offset_15 (by decide) (fun c1 => ?_) (fun c1 => ?_)
  · refine lv_iconst (v := (-1)) hx hb d_H_offset_30 (by decide) ?_
    exact k_ret S hr hlocks (by rw [c1]; rfl) d_H_offset_31
  · obtain ⟨k, hk, rfl⟩ := inR_nat (by omega) c1
    refine lv_aload_n hx hb d_H_offset_18 rfl (lv_at hl 0 rfl) ?_
    refine k_get S i_H hK hP 0 rfl rfl 4 (by decide) tb_44 rfl rfl d_H_offset_19 ?_
    refine k_getN S hK hP 3 rfl rfl d_H_offset_22 ?_
    refine lv_iload_n hx hb d_H_offset_25 rfl (lv_at hl 1 rfl) ?_
    refine k_ild hx hb hK hP 5 0 rfl rfl (by omega) (by omega) d_H_offset_26 ?_
    refine lv_goto (tgt := 31) hx hb d_H_offset_27 (by decide) ?_
    exact k_ret S hr hlocks (by rw [c1, nI_clamp (by omega)]; rfl) d_H_offset_31
set_option maxHeartbeats 4000000 in
set_option maxRecDepth 100000 in
/-- a count -/
theorem c_H_count (i : Int32) : roC l y_H_count b_H_count 2 (some .int) { frames := 0, cells := 0, slots := 0, locals := 0 } D (tyS cI cL cZ) [.ref x, .int i] (xW x aw af am ab ao ar ap az cI cL cZ N B T O C R rf w f bs os rt op sn) (fun r => r = cntOf i T O C N (N / B + 1)) := by
  refine ro_of (by decide) (Nat.le_of_ble_eq_true rfl) ?_
  intro p e s m args below meth c S hr hlocks hK hP ls hl
  have hx := S.1
  have hb := S.2.1
  have hl : lv_has ls 2 [(0, .ref x), (1, .int i)] := hl
  refine lv_iload_n hx hb d_H_count_0 rfl (lv_at hl 1 rfl) ?_
  rcases cnt_cases i with rfl | rfl | rfl | rfl | rfl | ⟨h1, h2⟩
  · refine lv_tableIn (off := 35) (tgt := 36) hx hb d_H_count_1 (by decide) (by decide) (by decide) (by decide) ?_
    refine lv_aload_n hx hb d_H_count_36 rfl (lv_at hl 0 rfl) ?_
    refine k_get S i_H hK hP 0 rfl rfl 8 (by decide) tb_48 rfl rfl d_H_count_37 ?_
    exact k_ret S hr hlocks (rfl) d_H_count_40
  · refine lv_tableIn (off := 40) (tgt := 41) hx hb d_H_count_1 (by decide) (by decide) (by decide) (by decide) ?_
    refine lv_aload_n hx hb d_H_count_41 rfl (lv_at hl 0 rfl) ?_
    refine k_get S i_H hK hP 0 rfl rfl 9 (by decide) tb_49 rfl rfl d_H_count_42 ?_
    exact k_ret S hr hlocks (rfl) d_H_count_45
  · refine lv_tableIn (off := 45) (tgt := 46) hx hb d_H_count_1 (by decide) (by decide) (by decide) (by decide) ?_
    refine lv_aload_n hx hb d_H_count_46 rfl (lv_at hl 0 rfl) ?_
    refine k_get S i_H hK hP 0 rfl rfl 10 (by decide) tb_50 rfl rfl d_H_count_47 ?_
    exact k_ret S hr hlocks (rfl) d_H_count_50
  · refine lv_tableIn (off := 50) (tgt := 51) hx hb d_H_count_1 (by decide) (by decide) (by decide) (by decide) ?_
    refine lv_aload_n hx hb d_H_count_51 rfl (lv_at hl 0 rfl) ?_
    refine k_get S i_H hK hP 0 rfl rfl 0 (by decide) tb_40 rfl rfl d_H_count_52 ?_
    exact k_ret S hr hlocks (rfl) d_H_count_55
  · refine lv_tableIn (off := 55) (tgt := 56) hx hb d_H_count_1 (by decide) (by decide) (by decide) (by decide) ?_
    refine lv_aload_n hx hb d_H_count_56 rfl (lv_at hl 0 rfl) ?_
    refine k_get S i_H hK hP 0 rfl rfl 4 (by decide) tb_44 rfl rfl d_H_count_57 ?_
    refine k_getN S hK hP 3 rfl rfl d_H_count_60 ?_
    refine k_len hx hb hK hP 5 0 rfl rfl d_H_count_63 ?_
    exact k_ret S hr hlocks (rfl) d_H_count_64
  · refine lv_tableOut (tgt := 65) hx hb d_H_count_1 h1 (by decide) ?_
    refine lv_iconst (v := (-1)) hx hb d_H_count_65 (by decide) ?_
    exact k_ret S hr hlocks ((h2 _ _ _ _ _).symm) d_H_count_66
end H2
end
section
/-! BITS: longs as numbers, counting bits, what Long.bitCount computes -/
def u64 (x : Int64) : Nat := x.toUInt64.toNat
theorem u64_lt (x : Int64) : u64 x < 2 ^ 64 := x.toUInt64.toNat_lt
theorem u64_inj {x y : Int64} (h : u64 x = u64 y) : x = y := congrArg UInt64.toInt64 (UInt64.toNat_inj.mp h)
theorem u64_and (x y : Int64) : u64 (x &&& y) = u64 x &&& u64 y := UInt64.toNat_and _ _
theorem u64_or (x y : Int64) : u64 (x ||| y) = u64 x ||| u64 y := UInt64.toNat_or _ _
theorem u64_add (x y : Int64) : u64 (x + y) = (u64 x + u64 y) % 2 ^ 64 := UInt64.toNat_add _ _
theorem u64_sub {x y : Int64} (h : u64 y ≤ u64 x) : u64 (x - y) = u64 x - u64 y := UInt64.toNat_sub_of_le x.toUInt64 y.toUInt64 (UInt64.le_iff_toNat_le.mpr h)
theorem u64_shr (x : Int64) {k : Nat} (hk : k < 64) : u64 (x.toUInt64 >>> ((nI k).toInt64.toUInt64 &&& Int64.toUInt64 63)).toInt64 = u64 x / 2 ^ k := by
  have h : ((nI k).toInt64.toUInt64 &&& Int64.toUInt64 63).toNat % 64 = k := by
    rw [nI_l (by omega), UInt64.toNat_and]
    have e : (lN k).toUInt64.toNat = k % 2 ^ 64 := rfl
    have e2 : (Int64.toUInt64 63).toNat = 2 ^ 6 - 1 := by decide
    rw [e, e2, Nat.and_two_pow_sub_one_eq_mod]
    omega
  show (x.toUInt64 >>> _).toNat = _
  rw [UInt64.toNat_shiftRight, Nat.shiftRight_eq_div_pow, h]
  rfl
theorem sm64 : ∀ k, k < 64 → (((nI k).toInt64 &&& 63).toBitVec.smod 64).toNat = k := by decide +kernel
theorem u64_shl (x : Int64) {k : Nat} (hk : k < 64) : u64 (x <<< ((nI k).toInt64 &&& 63)) = u64 x * 2 ^ k % 2 ^ 64 := by
  show (x.toBitVec <<< (((nI k).toInt64 &&& 63).toBitVec.smod 64).toNat).toNat = _
  rw [sm64 k hk, BitVec.toNat_shiftLeft, Nat.shiftLeft_eq]
  rfl
theorem u64_0 : u64 0 = 0 := by decide
theorem u64_1 : u64 1 = 1 := by decide
theorem u64_m1 : u64 (-1) = 2 ^ 64 - 1 := by decide
/-- ones in the lowest k places -/
theorem u64_ones {k : Nat} (hk : k < 64) : u64 ((1 <<< ((nI k).toInt64 &&& 63)) - 1) = 2 ^ k - 1 := by
  have h1 : u64 (1 <<< ((nI k).toInt64 &&& 63)) = 2 ^ k := by
    rw [u64_shl _ hk, u64_1, Nat.one_mul, Nat.mod_eq_of_lt (Nat.pow_lt_pow_right (by decide) hk)]
  have h2 : 0 < 2 ^ k := Nat.two_pow_pos k
  rw [u64_sub (by rw [h1, u64_1]; omega), h1, u64_1]
/-- bits as one row -/
def bitAt (bs : Nat → Int64) (i : Nat) : Bool := (u64 (bs (i / 64))).testBit (i % 64)
/-- how many of b are true, n places from f on -/
def cnt (b : Nat → Bool) (f : Nat) : Nat → Nat
  | 0 => 0
  | n + 1 => cnt b f n + (b (f + n)).toNat
theorem cnt_congr {b b' : Nat → Bool} {f f' : Nat} : ∀ {n : Nat}, (∀ j, j < n → b (f + j) = b' (f' + j)) → cnt b f n = cnt b' f' n
  | 0, _ => rfl
  | n + 1, h => by
    unfold cnt
    rw [cnt_congr (fun j hj => h j (by omega)), h n (by omega)]
theorem cnt_add (b : Nat → Bool) (f m : Nat) : ∀ n : Nat, cnt b f (m + n) = cnt b f m + cnt b (f + m) n
  | 0 => rfl
  | n + 1 => by
    show cnt b f (m + n) + (b (f + (m + n))).toNat = cnt b f m + (cnt b (f + m) n + (b (f + m + n)).toNat)
    rw [cnt_add b f m n, show f + (m + n) = f + m + n by omega]
    omega
theorem cnt_none {b : Nat → Bool} {f : Nat} : ∀ {n : Nat}, (∀ j, j < n → b (f + j) = false) → cnt b f n = 0
  | 0, _ => rfl
  | n + 1, h => by
    unfold cnt
    rw [cnt_none (fun j hj => h j (by omega)), h n (by omega)]
    rfl
theorem cnt_all {b : Nat → Bool} {f : Nat} : ∀ {n : Nat}, (∀ j, j < n → b (f + j) = true) → cnt b f n = n
  | 0, _ => rfl
  | n + 1, h => by
    unfold cnt
    rw [cnt_all (fun j hj => h j (by omega)), h n (by omega)]
    rfl
theorem cnt_cut {b : Nat → Bool} {f p n : Nat} (hp : p ≤ n) (h : ∀ j, p ≤ j → j < n → b (f + j) = false) : cnt b f n = cnt b f p := by
  obtain ⟨r, rfl⟩ : ∃ r, n = p + r := ⟨n - p, by omega⟩
  have h0 : cnt b (f + p) r = 0 := cnt_none (fun j hj => by rw [show f + p + j = f + (p + j) by omega]; exact h _ (by omega) (by omega))
  rw [cnt_add, h0]
  rfl
theorem cnt_le (b : Nat → Bool) (f : Nat) : ∀ n : Nat, cnt b f n ≤ n
  | 0 => Nat.le_refl _
  | n + 1 => by
    have := cnt_le b f n
    have h2 : (b (f + n)).toNat ≤ 1 := by cases b (f + n) <;> decide
    unfold cnt
    omega
theorem cnt_mono (b : Nat → Bool) (f : Nat) {m n : Nat} (h : m ≤ n) : cnt b f m ≤ cnt b f n := by
  obtain ⟨r, rfl⟩ : ∃ r, n = m + r := ⟨n - m, by omega⟩
  rw [cnt_add]
  omega
/-! the sum of a byte's bits, and the sum of the bytes' -/
def g8 (y : Nat) : Nat := y % 2 + y / 2 % 2 + y / 4 % 2 + y / 8 % 2 + y / 16 % 2 + y / 32 % 2 + y / 64 % 2 + y / 128 % 2
def tb1 (x : Nat) : Nat → Bool := fun j => x.testBit j
theorem tb_toNat (x j : Nat) : (x.testBit j).toNat = x / 2 ^ j % 2 := by
  rw [Nat.testBit_eq_decide_div_mod_eq]
  have : x / 2 ^ j % 2 < 2 := Nat.mod_lt _ (by decide)
  by_cases h : x / 2 ^ j % 2 = 1
  · simp [h]
  · have h0 : x / 2 ^ j % 2 = 0 := by omega
    simp [h0]
theorem cnt_8 (x : Nat) : cnt (tb1 x) 0 8 = g8 (x % 256) := by
  simp only [cnt, tb1, tb_toNat, g8]
  omega
theorem cnt_sh (x : Nat) : ∀ n : Nat, cnt (tb1 x) 0 (8 + n) = g8 (x % 256) + cnt (tb1 (x / 256)) 0 n := by
  intro n
  rw [cnt_add, cnt_8]
  congr 1
  refine cnt_congr fun j _ => ?_
  show x.testBit (0 + 8 + j) = (x / 256).testBit (0 + j)
  rw [show (256 : Nat) = 2 ^ 8 from rfl, Nat.testBit_div_two_pow]
  congr 1
  omega
theorem cnt_64 (x : Nat) : cnt (tb1 x) 0 64 = g8 (x % 256) + g8 (x / 256 % 256) + g8 (x / 65536 % 256) + g8 (x / 16777216 % 256) + g8 (x / 4294967296 % 256) + g8 (x / 1099511627776 % 256) + g8 (x / 281474976710656 % 256) + g8 (x / 72057594037927936 % 256) := by
  rw [show (64 : Nat) = 8 + (8 + (8 + (8 + (8 + (8 + (8 + (8 + 0))))))) from rfl, cnt_sh, cnt_sh, cnt_sh, cnt_sh, cnt_sh, cnt_sh, cnt_sh, cnt_sh]
  simp only [Nat.div_div_eq_div_mul, Nat.reduceMul, cnt]
  omega
/-! and of numbers byte by byte -/
theorem and_by {a b c d : Nat} (hb : b < 256) (hd : d < 256) : (256 * a + b) &&& (256 * c + d) = 256 * (a &&& c) + (b &&& d) := by
  have h1 : ((256 * a + b) &&& (256 * c + d)) / 2 ^ 8 = a &&& c := by
    rw [Nat.and_div_two_pow]
    congr 1 <;> omega
  have h2 : ((256 * a + b) &&& (256 * c + d)) % 2 ^ 8 = b &&& d := by
    rw [Nat.and_mod_two_pow]
    congr 1 <;> omega
  generalize (256 * a + b) &&& (256 * c + d) = t at h1 h2
  omega
theorem by_1 : ∀ y, y < 256 → (y / 2 + 128) &&& 85 = (y / 2) &&& 85 := by decide +kernel
theorem by_le : ∀ y, y < 256 → (y / 2) &&& 85 ≤ y := by decide +kernel
theorem by_2 : ∀ y, y < 256 → ∀ r, r < 4 → (y / 4 + 64 * r) &&& 51 = (y / 4) &&& 51 := by decide +kernel
def q1 (y : Nat) : Nat := y - ((y / 2) &&& 85)
def q2 (y : Nat) : Nat := (q1 y &&& 51) + ((q1 y / 4) &&& 51)
theorem by_q2 : ∀ y, y < 256 → q1 y < 256 ∧ (q1 y &&& 51) < 52 ∧ ((q1 y / 4) &&& 51) < 52 := by decide +kernel
theorem by_3 : ∀ y, y < 256 → ∀ r, r < 5 → (q2 y + (q2 y / 16 + 16 * r)) &&& 15 = g8 y := by decide +kernel
theorem by_4 : ∀ y, y < 256 → q2 y < 69 ∧ q2 y % 16 < 5 ∧ g8 y < 9 := by decide +kernel
def m5 : Nat → Nat | 0 => 0 | k + 1 => 256 * m5 k + 85
def m3 : Nat → Nat | 0 => 0 | k + 1 => 256 * m3 k + 51
def mf : Nat → Nat | 0 => 0 | k + 1 => 256 * mf k + 15
def p1 (k x : Nat) : Nat := x - ((x / 2) &&& m5 k)
def p2 (k x : Nat) : Nat := (p1 k x &&& m3 k) + ((p1 k x / 4) &&& m3 k)
def p3 (k x : Nat) : Nat := (p2 k x + p2 k x / 16) &&& mf k
theorem p1_s (k q y : Nat) (hy : y < 256) : p1 (k + 1) (256 * q + y) = 256 * p1 k q + q1 y ∧ (q / 2) &&& m5 k ≤ q := by
  have hle : (q / 2) &&& m5 k ≤ q := Nat.le_trans Nat.and_le_left (Nat.div_le_self _ _)
  have h1 : (256 * q + y) / 2 &&& m5 (k + 1) = 256 * ((q / 2) &&& m5 k) + ((y / 2) &&& 85) := by
    have e : (256 * q + y) / 2 = 256 * (q / 2) + (y / 2 + 128 * (q % 2)) := by omega
    rw [e]
    show _ &&& (256 * m5 k + 85) = _
    rw [and_by (by omega) (by omega)]
    congr 1
    rcases (show q % 2 = 0 ∨ q % 2 = 1 by omega) with h | h
    · rw [h]; rfl
    · rw [h]; exact by_1 y hy
  refine ⟨?_, hle⟩
  have h2 := by_le y hy
  unfold p1 q1
  rw [h1]
  omega
theorem p2_s (k q y : Nat) (hy : y < 256) : p2 (k + 1) (256 * q + y) = 256 * p2 k q + q2 y := by
  obtain ⟨h1, -⟩ := p1_s k q y hy
  obtain ⟨b1, b2, b3⟩ := by_q2 y hy
  unfold p2
  rw [h1]
  have e1 : 256 * p1 k q + q1 y &&& m3 (k + 1) = 256 * (p1 k q &&& m3 k) + (q1 y &&& 51) := and_by b1 (by omega)
  have e2 : (256 * p1 k q + q1 y) / 4 &&& m3 (k + 1) = 256 * (p1 k q / 4 &&& m3 k) + (q1 y / 4 &&& 51) := by
    have e : (256 * p1 k q + q1 y) / 4 = 256 * (p1 k q / 4) + (q1 y / 4 + 64 * (p1 k q % 4)) := by omega
    rw [e]
    show _ &&& (256 * m3 k + 51) = _
    rw [and_by (by omega) (by omega), by_2 (q1 y) b1 _ (by omega)]
  rw [e1, e2]
  unfold q2
  omega
theorem p2_16 (k x : Nat) : p2 k x % 16 < 5 := by
  cases k with
  | zero => simp [p2, m3]
  | succ k =>
    have h := p2_s k (x / 256) (x % 256) (by omega)
    rw [show 256 * (x / 256) + x % 256 = x by omega] at h
    rw [h]
    have := (by_4 (x % 256) (by omega)).2.1
    omega
theorem p3_s (k q y : Nat) (hy : y < 256) : p3 (k + 1) (256 * q + y) = 256 * p3 k q + g8 y := by
  have h2 := p2_s k q y hy
  obtain ⟨b4, -, -⟩ := by_4 y hy
  have b5 := p2_16 k q
  unfold p3
  rw [h2]
  have e : 256 * p2 k q + q2 y + (256 * p2 k q + q2 y) / 16 = 256 * (p2 k q + p2 k q / 16) + (q2 y + (q2 y / 16 + 16 * (p2 k q % 16))) := by omega
  rw [e]
  show _ &&& (256 * mf k + 15) = _
  rw [and_by (by omega) (by omega), by_3 y hy _ b5]
theorem p3_x (k x : Nat) : p3 (k + 1) x = 256 * p3 k (x / 256) + g8 (x % 256) := by
  have h := p3_s k (x / 256) (x % 256) (by omega)
  rw [show 256 * (x / 256) + x % 256 = x by omega] at h
  exact h
theorem p3_8 (x : Nat) : p3 8 x = g8 (x % 256) + 256 * (g8 (x / 256 % 256) + 256 * (g8 (x / 65536 % 256) + 256 * (g8 (x / 16777216 % 256) + 256 * (g8 (x / 4294967296 % 256) + 256 * (g8 (x / 1099511627776 % 256) + 256 * (g8 (x / 281474976710656 % 256) + 256 * g8 (x / 72057594037927936 % 256))))))) := by
  have h0 : ∀ z, p3 0 z = 0 := fun z => by simp [p3, mf]
  rw [p3_x 7, p3_x 6, p3_x 5, p3_x 4, p3_x 3, p3_x 2, p3_x 1, p3_x 0, h0]
  simp only [Nat.div_div_eq_div_mul, Nat.reduceMul]
  omega
theorem p1_le (k x : Nat) : p1 k x ≤ x := Nat.sub_le _ _
theorem p2_le : ∀ k x, 255 * p2 k x + 68 ≤ 68 * 256 ^ k
  | 0, x => by simp [p2, m3]
  | k + 1, x => by
    have h1 := p2_s k (x / 256) (x % 256) (by omega)
    rw [show 256 * (x / 256) + x % 256 = x by omega] at h1
    have h2 := p2_le k (x / 256)
    have h3 := (by_4 (x % 256) (by omega)).1
    rw [Nat.pow_succ]
    omega
end
section
theorem m_b {u : Nat} : u < 2 ^ 64 → ∀ j, 64 ≤ j → u.testBit j = false := fun h j hj => Nat.testBit_lt_two_pow (Nat.lt_of_lt_of_le h (Nat.pow_le_pow_right (by decide) hj))
/-- counting in a block that lies in one long -/
theorem cnt_blk {bs : Nat → Int64} {f k : Nat} (hk : f % 64 + k ≤ 64) {ones : Int64} (ho : u64 ones = 2 ^ k - 1) : cnt (tb1 (u64 ((bs (f / 64)).toUInt64 >>> ((nI (f % 64)).toInt64.toUInt64 &&& Int64.toUInt64 63)).toInt64 &&& u64 ones)) 0 64 = cnt (bitAt bs) f k := by
  rw [u64_shr _ (Nat.mod_lt _ (by decide)), ho]
  rw [cnt_cut (p := k) (by omega)]
  · refine cnt_congr fun j hj => ?_
    show ((u64 (bs (f / 64)) / 2 ^ (f % 64)) &&& (2 ^ k - 1)).testBit (0 + j) = bitAt bs (f + j)
    rw [Nat.testBit_and, Nat.testBit_two_pow_sub_one, Nat.testBit_div_two_pow]
    unfold bitAt
    rw [show (f + j) / 64 = f / 64 by omega, show (f + j) % 64 = f % 64 + j by omega]
    simp [hj, Nat.add_comm]
  · intro j h1 h2
    show ((u64 (bs (f / 64)) / 2 ^ (f % 64)) &&& (2 ^ k - 1)).testBit (0 + j) = false
    rw [Nat.testBit_and, Nat.testBit_two_pow_sub_one]
    simp
    intro
    omega
/-- setting a run of bits that lies in one long -/
theorem bit_run {bs : Nat → Int64} {i k : Nat} (hk : i % 64 + k ≤ 64) {ones : Int64} (ho : u64 ones = 2 ^ k - 1) (j : Nat) : bitAt (vp_updL bs (i / 64) (bs (i / 64) ||| ones <<< ((nI (i % 64)).toInt64 &&& 63))) j = (bitAt bs j || (decide (i ≤ j) && decide (j < i + k))) := by
  unfold bitAt vp_updL
  by_cases h : j / 64 = i / 64
  · rw [if_pos h, h, u64_or, u64_shl _ (Nat.mod_lt _ (by decide)), ho, Nat.testBit_or]
    congr 1
    have hj : j % 64 < 64 := Nat.mod_lt _ (by decide)
    rw [Nat.testBit_mod_two_pow, Nat.mul_comm, Nat.testBit_two_pow_mul, Nat.testBit_two_pow_sub_one]
    rw [show decide (j % 64 < 64) = true by simp [hj], Bool.true_and]
    by_cases h1 : i ≤ j
    · by_cases h2 : j < i + k
      · simp [h1, h2]; omega
      · simp [h1, h2]; omega
    · simp [h1]; omega
  · rw [if_neg h]
    have : (decide (i ≤ j) && decide (j < i + k)) = false := by
      rw [Bool.and_eq_false_iff, decide_eq_false_iff_not, decide_eq_false_iff_not]
      omega
    rw [this, Bool.or_false]
/-- has: one bit -/
theorem bit_has (bs : Nat → Int64) (i : Nat) : lg_cmp (((bs (i / 64)).toUInt64 >>> ((nI (i % 64)).toInt64.toUInt64 &&& Int64.toUInt64 63)).toInt64 &&& 1) 0 = 0 ↔ bitAt bs i = false := by
  have h : ∀ z : Int64, lg_cmp z 0 = 0 ↔ z = 0 := fun z => by
    unfold lg_cmp
    by_cases h0 : z = 0
    · simp [h0]
    · rw [if_neg h0]
      by_cases h1 : z > 0
      · simp [h0, h1]
      · simp [h0, h1]
  rw [h]
  have e : u64 (((bs (i / 64)).toUInt64 >>> ((nI (i % 64)).toInt64.toUInt64 &&& Int64.toUInt64 63)).toInt64 &&& 1) = (bitAt bs i).toNat := by
    rw [u64_and, u64_shr _ (Nat.mod_lt _ (by decide)), u64_1]
    unfold bitAt
    rw [tb_toNat]
    exact Nat.and_two_pow_sub_one_eq_mod _ 1
  constructor
  · intro q
    rw [q, u64_0] at e
    cases hb : bitAt bs i
    · rfl
    · rw [hb] at e; cases e
  · intro q
    rw [q] at e
    exact u64_inj e
end
section
/-- what Long.bitCount's body makes of a number -/
def swar (x : Int64) : Int32 :=
  let a1 := x - ((x.toUInt64 >>> ((nI 1).toInt64.toUInt64 &&& Int64.toUInt64 63)).toInt64 &&& 6148914691236517205)
  let a2 := (a1 &&& 3689348814741910323) + ((a1.toUInt64 >>> ((nI 2).toInt64.toUInt64 &&& Int64.toUInt64 63)).toInt64 &&& 3689348814741910323)
  let a3 := (a2 + (a2.toUInt64 >>> ((nI 4).toInt64.toUInt64 &&& Int64.toUInt64 63)).toInt64) &&& 1085102592571150095
  let a4 := a3 + (a3.toUInt64 >>> ((nI 8).toInt64.toUInt64 &&& Int64.toUInt64 63)).toInt64
  let a5 := a4 + (a4.toUInt64 >>> ((nI 16).toInt64.toUInt64 &&& Int64.toUInt64 63)).toInt64
  let a6 := a5 + (a5.toUInt64 >>> ((nI 32).toInt64.toUInt64 &&& Int64.toUInt64 63)).toInt64
  a6.toInt32 &&& nI 127
theorem sw_1 {a0 X1 : Nat} (h0 : a0 < 9) : (a0 + 256 * X1) / 256 = X1 := by omega
theorem sw_2 {a0 a1 a2 X2 X3 : Nat} (h0 : a0 < 9) (h1 : a1 < 9) (h2 : a2 < 9) : (a0 + 256 * (a1 + 256 * X2) + (a1 + 256 * (a2 + 256 * X3))) / 65536 = X2 + X3 := by
  rw [show a0 + 256 * (a1 + 256 * X2) + (a1 + 256 * (a2 + 256 * X3)) = (a0 + a1 + 256 * (a1 + a2)) + 65536 * (X2 + X3) by omega, Nat.add_mul_div_left _ _ (by decide), Nat.div_eq_of_lt (by omega), Nat.zero_add]
theorem sw_l {s0 s1 s2 s3 : Nat} (h0 : s0 < 40) (h1 : s1 < 40) (h2 : s2 < 40) (h3 : s3 < 40) : s0 + 256 * s1 + 65536 * s2 + 16777216 * s3 < 4294967296 := by omega
theorem sw_3 {a0 a1 a2 a3 a4 a5 a6 X4 X5 X6 X7 : Nat} (h0 : a0 < 9) (h1 : a1 < 9) (h2 : a2 < 9) (h3 : a3 < 9) (h4 : a4 < 9) (h5 : a5 < 9) (h6 : a6 < 9) : (a0 + 256 * (a1 + 256 * (a2 + 256 * (a3 + 256 * X4))) + (a1 + 256 * (a2 + 256 * (a3 + 256 * (a4 + 256 * X5)))) + (a2 + 256 * (a3 + 256 * (a4 + 256 * (a5 + 256 * X6)))) + (a3 + 256 * (a4 + 256 * (a5 + 256 * (a6 + 256 * X7))))) / 4294967296 = X4 + X5 + X6 + X7 := by
  have hs : a0 + 256 * (a1 + 256 * (a2 + 256 * (a3 + 256 * X4))) + (a1 + 256 * (a2 + 256 * (a3 + 256 * (a4 + 256 * X5)))) + (a2 + 256 * (a3 + 256 * (a4 + 256 * (a5 + 256 * X6)))) + (a3 + 256 * (a4 + 256 * (a5 + 256 * (a6 + 256 * X7)))) = ((a0 + a1 + a2 + a3) + 256 * (a1 + a2 + a3 + a4) + 65536 * (a2 + a3 + a4 + a5) + 16777216 * (a3 + a4 + a5 + a6)) + 4294967296 * (X4 + X5 + X6 + X7) := by
    clear h0 h1 h2 h3 h4 h5 h6
    omega
  rw [hs, Nat.add_mul_div_left _ _ (by decide), Nat.div_eq_of_lt (sw_l (by omega) (by omega) (by omega) (by omega)), Nat.zero_add]
theorem sw_b {a X : Nat} {M : Nat} (h : a < 9) (hX : X < M) : a + 256 * X < 9 + 256 * M := by omega
theorem swar_sum {a0 a1 a2 a3 a4 a5 a6 a7 x : Nat} (h0 : a0 < 9) (h1 : a1 < 9) (h2 : a2 < 9) (h3 : a3 < 9) (h4 : a4 < 9) (h5 : a5 < 9) (h6 : a6 < 9) (h7 : a7 < 9) (hx : x = a0 + 256 * (a1 + 256 * (a2 + 256 * (a3 + 256 * (a4 + 256 * (a5 + 256 * (a6 + 256 * a7))))))) :
    ∃ x4 x5 : Nat, x4 = (x + x / 256) % 2 ^ 64 ∧ x5 = (x4 + x4 / 65536) % 2 ^ 64 ∧ (x5 + x5 / 4294967296) % 2 ^ 64 % 128 = a0 + a1 + a2 + a3 + a4 + a5 + a6 + a7 := by
  have b6 := sw_b h6 h7
  have b5 := sw_b h5 b6
  have b4 := sw_b h4 b5
  have b3 := sw_b h3 b4
  have b2 := sw_b h2 b3
  have b1 := sw_b h1 b2
  have b0 := sw_b h0 b1
  have d2 := sw_2 (X2 := a2 + 256 * (a3 + 256 * (a4 + 256 * (a5 + 256 * (a6 + 256 * a7))))) (X3 := a3 + 256 * (a4 + 256 * (a5 + 256 * (a6 + 256 * a7)))) h0 h1 h2
  have d3 := sw_3 (X4 := a4 + 256 * (a5 + 256 * (a6 + 256 * a7))) (X5 := a5 + 256 * (a6 + 256 * a7)) (X6 := a6 + 256 * a7) (X7 := a7) h0 h1 h2 h3 h4 h5 h6
  have d1 := sw_1 (X1 := a1 + 256 * (a2 + 256 * (a3 + 256 * (a4 + 256 * (a5 + 256 * (a6 + 256 * a7)))))) h0
  subst hx
  generalize e6 : a6 + 256 * a7 = X6 at *
  generalize e5 : a5 + 256 * X6 = X5 at *
  generalize e4 : a4 + 256 * X5 = X4 at *
  generalize e3 : a3 + 256 * X4 = X3 at *
  generalize e2 : a2 + 256 * X3 = X2 at *
  generalize e1 : a1 + 256 * X2 = X1 at *
  generalize e0 : a0 + 256 * X1 = x at *
  refine ⟨_, _, rfl, rfl, ?_⟩
  rw [d1, Nat.mod_eq_of_lt (show x + X1 < 2 ^ 64 from Nat.lt_trans (Nat.add_lt_add b0 b1) (by decide)), d2]
  rw [Nat.mod_eq_of_lt (show x + X1 + (X2 + X3) < 2 ^ 64 from Nat.lt_trans (Nat.add_lt_add (Nat.add_lt_add b0 b1) (Nat.add_lt_add b2 b3)) (by decide)), ← Nat.add_assoc, d3]
  rw [Nat.mod_eq_of_lt (show x + X1 + X2 + X3 + (X4 + X5 + X6 + a7) < 2 ^ 64 from Nat.lt_trans (Nat.add_lt_add (Nat.add_lt_add (Nat.add_lt_add (Nat.add_lt_add b0 b1) b2) b3) (Nat.add_lt_add (Nat.add_lt_add (Nat.add_lt_add b4 b5) b6) h7)) (by decide))]
  have f7 : x + X1 + X2 + X3 + (X4 + X5 + X6 + a7) = (a0 + a1 + a2 + a3 + a4 + a5 + a6 + a7) + 128 * (2 * (X1 + X2 + X3 + X4 + X5 + X6 + a7)) := by
    clear b0 b1 b2 b3 b4 b5 b6 h0 h1 h2 h3 h4 h5 h6 h7 d1 d2 d3
    omega
  rw [f7, Nat.add_mul_mod_self_left]
  exact Nat.mod_eq_of_lt (by clear f7 b0 b1 b2 b3 b4 b5 b6 d1 d2 d3 e0 e1 e2 e3 e4 e5 e6; omega)
end
section
theorem swar_ok (x : Int64) : swar x = nI (cnt (tb1 (u64 x)) 0 64) := by
  have hx := u64_lt x
  unfold swar
  generalize h1 : x - ((x.toUInt64 >>> ((nI 1).toInt64.toUInt64 &&& Int64.toUInt64 63)).toInt64 &&& 6148914691236517205) = a1
  have c5 : u64 6148914691236517205 = m5 8 := by decide +kernel
  have c3 : u64 3689348814741910323 = m3 8 := by decide +kernel
  have cf : u64 1085102592571150095 = mf 8 := by decide +kernel
  have e1 : u64 a1 = p1 8 (u64 x) := by
    rw [← h1, u64_sub]
    · rw [u64_and, u64_shr _ (by decide), c5]
      rfl
    · rw [u64_and, u64_shr _ (by decide)]
      exact Nat.le_trans Nat.and_le_left (Nat.div_le_self _ _)
  simp only []
  generalize h2 : (a1 &&& 3689348814741910323) + ((a1.toUInt64 >>> ((nI 2).toInt64.toUInt64 &&& Int64.toUInt64 63)).toInt64 &&& 3689348814741910323) = a2
  have hp2 : p2 8 (u64 x) < 2 ^ 63 := by have := p2_le 8 (u64 x); omega
  have e2 : u64 a2 = p2 8 (u64 x) := by
    have h : p2 8 (u64 x) = (u64 a1 &&& m3 8) + ((u64 a1 / 2 ^ 2) &&& m3 8) := by rw [e1]; rfl
    rw [← h2, u64_add, u64_and, u64_and, u64_shr _ (by decide), c3, ← h, Nat.mod_eq_of_lt (by omega)]
  generalize h3 : (a2 + (a2.toUInt64 >>> ((nI 4).toInt64.toUInt64 &&& Int64.toUInt64 63)).toInt64) &&& 1085102592571150095 = a3
  have e3 : u64 a3 = p3 8 (u64 x) := by
    rw [← h3, u64_and, u64_add, u64_shr _ (by decide), cf, e2, Nat.mod_eq_of_lt (by omega)]
    rfl
  rw [p3_8] at e3
  have b : ∀ z, g8 (z % 256) < 9 := fun z => (by_4 (z % 256) (by omega)).2.2
  obtain ⟨x4, x5, r4, r5, r6⟩ := swar_sum (b _) (b _) (b _) (b _) (b _) (b _) (b _) (b _) e3
  generalize h4 : a3 + (a3.toUInt64 >>> ((nI 8).toInt64.toUInt64 &&& Int64.toUInt64 63)).toInt64 = a4
  have e4 : u64 a4 = x4 := by rw [← h4, u64_add, u64_shr _ (by decide), r4]
  generalize h5 : a4 + (a4.toUInt64 >>> ((nI 16).toInt64.toUInt64 &&& Int64.toUInt64 63)).toInt64 = a5
  have e5 : u64 a5 = x5 := by rw [← h5, u64_add, u64_shr _ (by decide), e4, r5]
  generalize h6 : a5 + (a5.toUInt64 >>> ((nI 32).toInt64.toUInt64 &&& Int64.toUInt64 63)).toInt64 = a6
  have e6 : u64 a6 = (x5 + x5 / 4294967296) % 2 ^ 64 := by rw [← h6, u64_add, u64_shr _ (by decide), e5]
  have e7 : a6.toInt32.toBitVec.toNat = u64 a6 % 2 ^ 32 := by
    show (a6.toBitVec.signExtend 32).toNat = _
    rw [BitVec.signExtend_eq_setWidth_of_le _ (by decide), BitVec.toNat_setWidth]
    rfl
  rw [pk_and a6.toInt32 (m := nI 127) 7 (by decide), e7, e6, cnt_64]
  congr 1
  omega
end
section
/-! THE MAP -/
def Bk (B : Nat) : Prop := B = 8 ∨ B = 16 ∨ B = 32 ∨ B = 64
theorem Bk.pos {B : Nat} (h : Bk B) : 8 ≤ B ∧ B ≤ 64 := by rcases h with rfl | rfl | rfl | rfl <;> decide
theorem Bk.fit {B k q : Nat} (h : Bk B) (hq : q ≤ B) : k * B % 64 + q ≤ 64 := by rcases h with rfl | rfl | rfl | rfl <;> omega
/-- the offsets are those of the bits -/
def Mp (N B : Nat) (bs : Nat → Int64) (os : Nat → Int32) : Prop := ∀ k, k ≤ N / B → os k = nI (cnt (bitAt bs) 0 (k * B))
theorem Mp_addr {N B : Nat} {bs : Nat → Int64} {os : Nat → Int32} (h : Mp N B bs os) {i : Nat} (hi : i ≤ N) : nI 1 + os (i / B) + nI (cnt (bitAt bs) (i / B * B) (i % B)) = nI (1 + cnt (bitAt bs) 0 i) := by
  rw [h (i / B) (Nat.div_le_div_right hi), nI_add, nI_add]
  congr 1
  have e := cnt_add (bitAt bs) 0 (i / B * B) (i % B)
  rw [Nat.zero_add, show i / B * B + i % B = i by rw [Nat.mul_comm]; exact Nat.div_add_mod i B] at e
  omega
section KM
variable {p : Program} {l : Launch} {e : Env} {R : Room} {s : State} {m : MethodId} {args : Array Value} {below : List Frame} {meth : Method} {c : Code} {H : Heap} {locs : List Loc} {cells slots : Nat} {Q : State → Prop} {cc : ByteArray} {pc : Nat} {ls : Array Slot} {rest : List Value} {nL : Nat} {c0 : Cond} {own : String}
theorem k_min (S : CallFix p m c cc nL s args (c0 :: GT) own) {idx : Nat} (hl : Cond.methodLink own idx y_A_min ∈ GT) (hsz : ls.size = nL) (hR : 1 ≤ R.frames ∧ 21 ≤ R.locals) (hrest : (rest.map fun v => v.category).sum ≤ 8) (hcs : cells ≤ R.cells ∧ slots ≤ R.slots) {x y : Int32} (hdg : decode cc pc = .ok (.invokestatic idx, 3))
    (kk : W p l e R s m args below meth c H locs cells slots Q (F0 m (pc + 3) ls (.int (if y < x then y else x) :: rest))) : W p l e R s m args below meth c H locs cells slots Q (F0 m pc ls (.int y :: .int x :: rest)) :=
  va_mmin S.1 S.2.1 (S.2.2.1.trans hsz.symm) S.2.2.2.1 (S.2.2.2.2 _ (List.mem_cons_of_mem _ hl)) (S.2.2.2.2 _ (List.mem_cons_of_mem _ tb_15)) (S.2.2.2.2 _ (List.mem_cons_of_mem _ tb_2)) (S.2.2.2.2 _ (List.mem_cons_of_mem _ tb_16)) hR.1 (by omega) hcs.1 hcs.2 hdg kk
theorem k_max (S : CallFix p m c cc nL s args (c0 :: GT) own) {idx : Nat} (hl : Cond.methodLink own idx y_A_max ∈ GT) (hsz : ls.size = nL) (hR : 1 ≤ R.frames ∧ 21 ≤ R.locals) (hrest : (rest.map fun v => v.category).sum ≤ 8) (hcs : cells ≤ R.cells ∧ slots ≤ R.slots) {x y : Int32} (hdg : decode cc pc = .ok (.invokestatic idx, 3))
    (kk : W p l e R s m args below meth c H locs cells slots Q (F0 m (pc + 3) ls (.int (if x < y then y else x) :: rest))) : W p l e R s m args below meth c H locs cells slots Q (F0 m pc ls (.int y :: .int x :: rest)) :=
  va_mmax S.1 S.2.1 (S.2.2.1.trans hsz.symm) S.2.2.2.1 (S.2.2.2.2 _ (List.mem_cons_of_mem _ hl)) (S.2.2.2.2 _ (List.mem_cons_of_mem _ tb_18)) (S.2.2.2.2 _ (List.mem_cons_of_mem _ tb_2)) (S.2.2.2.2 _ (List.mem_cons_of_mem _ tb_19)) hR.1 (by omega) hcs.1 hcs.2 hdg kk
end KM
theorem min_nI {a b : Nat} (ha : a < 2 ^ 31) (hb : b < 2 ^ 31) : (if nI b < nI a then nI b else nI a) = nI (min a b) := by
  by_cases h : b < a
  · rw [if_pos ((nI_ltI hb ha).mpr h), Nat.min_eq_right (by omega)]
  · rw [if_neg (fun q => h ((nI_ltI hb ha).mp q)), Nat.min_eq_left (by omega)]
theorem tt_of {b : Bool} (h : ¬ b = false) : b = true := by cases b <;> first | rfl | exact absurd rfl h
theorem fill_L {u : Nat → Int64} {g : Nat → Int64} {i : Nat} {v : Int64} (h : ∀ j, j < i → u j = g j) (hv : v = g i) : ∀ j, j < i + 1 → vp_updL u i v j = g j := fun j hj => by
  by_cases e : j = i
  · rw [e, pk_uLs]; exact hv
  · rw [pk_uLn e]; exact h j (by omega)
theorem fill_I {u : Nat → Int32} {g : Nat → Int32} {i : Nat} {v : Int32} (h : ∀ j, j < i → u j = g j) (hv : v = g i) : ∀ j, j < i + 1 → upd u i v j = g j := fun j hj => by
  by_cases e : j = i
  · rw [e, pk_us]; exact hv
  · rw [pk_un e]; exact h j (by omega)
theorem run_or {a i h j : Nat} {x : Bool} (h3 : a ≤ i) : (x || (decide (a ≤ j) && decide (j < i)) || (decide (i ≤ j) && decide (j < i + h))) = (x || (decide (a ≤ j) && decide (j < i + h))) := by
  cases x
  · simp only [Bool.false_or]
    by_cases h1 : a ≤ j <;> by_cases h2 : j < i <;> by_cases h4 : i ≤ j <;> by_cases h5 : j < i + h <;> simp [h1, h2, h4, h5] <;> omega
  · simp
theorem run_0 {a j : Nat} {x : Bool} : (x || (decide (a ≤ j) && decide (j < a))) = x := by
  by_cases h1 : a ≤ j
  · have : ¬ j < a := by omega
    simp [this]
  · simp [h1]
section M1
variable {l : Launch} {D : va_G} {am ab ao : Nat} {cI cL cZ : ClassId} {N B : Nat} {bs : Nat → Int64} {os : Nat → Int32}
set_option maxHeartbeats 4000000 in
set_option maxRecDepth 100000 in
/-- Long.bitCount: the bits that are set -/
theorem c_J_bitCount (v : Int64) : roC l y_J_bitCount b_J_bitCount 2 (some .int) { frames := 0, cells := 0, slots := 0, locals := 0 } D (tyS cI cL cZ) [.long v] [] (fun r => r = nI (cnt (tb1 (u64 v)) 0 64)) := by
  refine ro_of (by decide) (Nat.le_of_ble_eq_true rfl) ?_
  intro p e s m args below meth c S hr hlocks hK hP ls hl
  have hx := S.1
  have hb := S.2.1
  have hl : lv_has ls 2 [(0, .long v)] := hl
  refine lv_lload_n hx hb d_J_bitCount_0 rfl (lv_at hl 0 rfl) ?_
  refine lv_lload_n hx hb d_J_bitCount_1 rfl (lv_at hl 0 rfl) ?_
  refine lv_iconst (v := nI 1) hx hb d_J_bitCount_2 (by decide) ?_
  refine lv_lushr (v := (v.toUInt64 >>> ((nI 1).toInt64.toUInt64 &&& Int64.toUInt64 63)).toInt64) hx hb d_J_bitCount_3 rfl ?_
  refine lv_ldc2 (v := 6148914691236517205) hx hb S.2.2.2.1 (S.2.2.2.2 _ (List.mem_cons_of_mem _ tb_149)) d_J_bitCount_4 ?_
  refine lv_land hx hb d_J_bitCount_7 ?_
  refine lv_lsub hx hb d_J_bitCount_8 ?_
  refine lv_topl (fun a1 ea1 => ?_)
  refine lv_lstore_n (lv' := [(0, .long a1)]) hx hb d_J_bitCount_9 rfl hl (by decide) rfl (fun ls hl => ?_)
  refine lv_lload_n hx hb d_J_bitCount_10 rfl (lv_at hl 0 rfl) ?_
  refine lv_ldc2 (v := 3689348814741910323) hx hb S.2.2.2.1 (S.2.2.2.2 _ (List.mem_cons_of_mem _ tb_150)) d_J_bitCount_11 ?_
  refine lv_land hx hb d_J_bitCount_14 ?_
  refine lv_lload_n hx hb d_J_bitCount_15 rfl (lv_at hl 0 rfl) ?_
  refine lv_iconst (v := nI 2) hx hb d_J_bitCount_16 (by decide) ?_
  refine lv_lushr (v := (a1.toUInt64 >>> ((nI 2).toInt64.toUInt64 &&& Int64.toUInt64 63)).toInt64) hx hb d_J_bitCount_17 rfl ?_
  refine lv_ldc2 (v := 3689348814741910323) hx hb S.2.2.2.1 (S.2.2.2.2 _ (List.mem_cons_of_mem _ tb_150)) d_J_bitCount_18 ?_
  refine lv_land hx hb d_J_bitCount_21 ?_
  refine lv_ladd hx hb d_J_bitCount_22 ?_
  refine lv_topl (fun a2 ea2 => ?_)
  refine lv_lstore_n (lv' := [(0, .long a2)]) hx hb d_J_bitCount_23 rfl hl (by decide) rfl (fun ls hl => ?_)
  refine lv_lload_n hx hb d_J_bitCount_24 rfl (lv_at hl 0 rfl) ?_
  refine lv_lload_n hx hb d_J_bitCount_25 rfl (lv_at hl 0 rfl) ?_
  refine lv_iconst (v := nI 4) hx hb d_J_bitCount_26 (by decide) ?_
  refine lv_lushr (v := (a2.toUInt64 >>> ((nI 4).toInt64.toUInt64 &&& Int64.toUInt64 63)).toInt64) hx hb d_J_bitCount_27 rfl ?_
  refine lv_ladd hx hb d_J_bitCount_28 ?_
  refine lv_ldc2 (v := 1085102592571150095) hx hb S.2.2.2.1 (S.2.2.2.2 _ (List.mem_cons_of_mem _ tb_151)) d_J_bitCount_29 ?_
  refine lv_land hx hb d_J_bitCount_32 ?_
  refine lv_topl (fun a3 ea3 => ?_)
  refine lv_lstore_n (lv' := [(0, .long a3)]) hx hb d_J_bitCount_33 rfl hl (by decide) rfl (fun ls hl => ?_)
  refine lv_lload_n hx hb d_J_bitCount_34 rfl (lv_at hl 0 rfl) ?_
  refine lv_lload_n hx hb d_J_bitCount_35 rfl (lv_at hl 0 rfl) ?_
  refine lv_bipush (v := nI 8) hx hb d_J_bitCount_36 (by decide) ?_
  refine lv_lushr (v := (a3.toUInt64 >>> ((nI 8).toInt64.toUInt64 &&& Int64.toUInt64 63)).toInt64) hx hb d_J_bitCount_38 rfl ?_
  refine lv_ladd hx hb d_J_bitCount_39 ?_
  refine lv_topl (fun a4 ea4 => ?_)
  refine lv_lstore_n (lv' := [(0, .long a4)]) hx hb d_J_bitCount_40 rfl hl (by decide) rfl (fun ls hl => ?_)
  refine lv_lload_n hx hb d_J_bitCount_41 rfl (lv_at hl 0 rfl) ?_
  refine lv_lload_n hx hb d_J_bitCount_42 rfl (lv_at hl 0 rfl) ?_
  refine lv_bipush (v := nI 16) hx hb d_J_bitCount_43 (by decide) ?_
  refine lv_lushr (v := (a4.toUInt64 >>> ((nI 16).toInt64.toUInt64 &&& Int64.toUInt64 63)).toInt64) hx hb d_J_bitCount_45 rfl ?_
  refine lv_ladd hx hb d_J_bitCount_46 ?_
  refine lv_topl (fun a5 ea5 => ?_)
  refine lv_lstore_n (lv' := [(0, .long a5)]) hx hb d_J_bitCount_47 rfl hl (by decide) rfl (fun ls hl => ?_)
  refine lv_lload_n hx hb d_J_bitCount_48 rfl (lv_at hl 0 rfl) ?_
  refine lv_lload_n hx hb d_J_bitCount_49 rfl (lv_at hl 0 rfl) ?_
  refine lv_bipush (v := nI 32) hx hb d_J_bitCount_50 (by decide) ?_
  refine lv_lushr (v := (a5.toUInt64 >>> ((nI 32).toInt64.toUInt64 &&& Int64.toUInt64 63)).toInt64) hx hb d_J_bitCount_52 rfl ?_
  refine lv_ladd hx hb d_J_bitCount_53 ?_
  refine lv_topl (fun a6 ea6 => ?_)
  refine lv_lstore_n (lv' := [(0, .long a6)]) hx hb d_J_bitCount_54 rfl hl (by decide) rfl (fun ls hl => ?_)
  refine lv_lload_n hx hb d_J_bitCount_55 rfl (lv_at hl 0 rfl) ?_
  refine lv_l2i (v := a6.toInt32) hx hb d_J_bitCount_56 rfl ?_
  refine lv_bipush (v := nI 127) hx hb d_J_bitCount_57 (by decide) ?_
  refine lv_iand hx hb d_J_bitCount_59 ?_
  subst ea1 ea2 ea3 ea4 ea5 ea6
  exact k_ret S hr hlocks (swar_ok v) d_J_bitCount_60
set_option maxHeartbeats 4000000 in
set_option maxRecDepth 100000 in
/-- a bit -/
theorem c_M_has (i : Nat) (hi : i ≤ N) (hN : N ≤ 4000) : roC l y_M_has b_M_has 2 (some .boolean) { frames := 0, cells := 0, slots := 0, locals := 0 } D (tyS cI cL cZ) [.ref am, .int (nI i)] (pW am ab ao cI cL N B bs os) (fun r => r = b2i (bitAt bs i)) := by
  refine ro_of (by decide) (Nat.le_of_ble_eq_true rfl) ?_
  intro p e s m args below meth c S hr hlocks hK hP ls hl
  have hx := S.1
  have hb := S.2.1
  have hl : lv_has ls 2 [(0, .ref am), (1, .int (nI i))] := hl
  refine lv_aload_n hx hb d_M_has_0 rfl (lv_at hl 0 rfl) ?_
  refine k_get S i_M hK hP 0 rfl rfl 0 (by decide) tb_26 rfl rfl d_M_has_1 ?_
  refine lv_iload_n hx hb d_M_has_4 rfl (lv_at hl 1 rfl) ?_
  refine lv_bipush (v := nI 64) hx hb d_M_has_5 (by decide) ?_
  refine k_div hx hb d_M_has_7 (by omega) (by omega) (by omega) ?_
  refine k_lld hx hb hK hP 1 1 rfl rfl (by omega) (by omega) d_M_has_8 ?_
  refine lv_iload_n hx hb d_M_has_9 rfl (lv_at hl 1 rfl) ?_
  refine lv_bipush (v := nI 64) hx hb d_M_has_10 (by decide) ?_
  refine k_rem hx hb d_M_has_12 (by omega) (by omega) (by omega) ?_
  refine lv_lushr (v := ((bs (i / 64)).toUInt64 >>> ((nI (i % 64)).toInt64.toUInt64 &&& Int64.toUInt64 63)).toInt64) hx hb d_M_has_13 rfl ?_
  refine lv_lconst (v := 1) hx hb d_M_has_14 (by decide) ?_
  refine lv_land hx hb d_M_has_15 ?_
  refine lv_lconst (v := 0) hx hb d_M_has_16 (by decide) ?_
  refine W.lcmp hx hb d_M_has_17 ?_
  refine lv_if_eq (tgt := 25) hx hb d_M_has_18 (by decide) (fun c1 => ?_) (fun c1 => ?_)
  · refine lv_iconst (v := nI 0) hx hb d_M_has_25 (by decide) ?_
    refine k_top (y := 0) (rfl) ?_
    exact k_retz S hr hlocks (by decide) (by rw [(bit_has bs i).mp c1]; rfl) d_M_has_26
  · refine lv_iconst (v := nI 1) hx hb d_M_has_21 (by decide) ?_
    refine lv_goto (tgt := 26) hx hb d_M_has_22 (by decide) ?_
    refine k_top (y := 1) (rfl) ?_
    exact k_retz S hr hlocks (by decide) (by rw [tt_of (fun q => c1 ((bit_has bs i).mpr q))]; rfl) d_M_has_26
set_option maxHeartbeats 4000000 in
set_option maxRecDepth 100000 in
/-- how many bits of a block are set before a place -/
theorem c_M_before (k q : Nat) (hk : k * B ≤ N) (hq : q ≤ B) (hB : Bk B) (hN : N ≤ 4000) : roC l y_M_before b_M_before 8 (some .int) { frames := 1, cells := 0, slots := 0, locals := 21 } D (tyS cI cL cZ) [.ref am, .int (nI k), .int (nI q)] (pW am ab ao cI cL N B bs os) (fun r => r = nI (cnt (bitAt bs) (k * B) q)) := by
  refine ro_of (by decide) (Nat.le_of_ble_eq_true rfl) ?_
  intro p e s m args below meth c S hr hlocks hK hP ls hl
  have hx := S.1
  have hb := S.2.1
  have hl : lv_has ls 8 [(0, .ref am), (1, .int (nI k)), (2, .int (nI q))] := hl
  have hf := hB.fit (k := k) hq
  have hBp := hB.pos
  obtain ⟨f, ef⟩ : ∃ f, f = k * B := ⟨_, rfl⟩
  rw [← ef] at hk hf ⊢
  refine lv_iload_n hx hb d_M_before_0 rfl (lv_at hl 1 rfl) ?_
  refine lv_aload_n hx hb d_M_before_1 rfl (lv_at hl 0 rfl) ?_
  refine k_get S i_M hK hP 0 rfl rfl 2 (by decide) tb_29 rfl rfl d_M_before_2 ?_
  refine k_mul hx hb d_M_before_5 ?_
  refine k_top (y := nI f) (by rw [ef]) ?_
  refine lv_istore_n (lv' := [(3, .int (nI f)), (0, .ref am), (1, .int (nI k)), (2, .int (nI q))]) hx hb d_M_before_6 rfl hl (by decide) rfl (fun ls hl => ?_)
  refine lv_aload_n hx hb d_M_before_7 rfl (lv_at hl 1 rfl) ?_
  refine k_get S i_M hK hP 0 rfl rfl 0 (by decide) tb_26 rfl rfl d_M_before_8 ?_
  refine lv_iload_n hx hb d_M_before_11 rfl (lv_at hl 0 rfl) ?_
  refine lv_bipush (v := nI 64) hx hb d_M_before_12 (by decide) ?_
  refine k_div hx hb d_M_before_14 (by omega) (by omega) (by omega) ?_
  refine k_lld hx hb hK hP 1 1 rfl rfl (by omega) (by omega) d_M_before_15 ?_
  refine lv_iload_n hx hb d_M_before_16 rfl (lv_at hl 0 rfl) ?_
  refine lv_bipush (v := nI 64) hx hb d_M_before_17 (by decide) ?_
  refine k_rem hx hb d_M_before_19 (by omega) (by omega) (by omega) ?_
  refine lv_lushr (v := ((bs (f / 64)).toUInt64 >>> ((nI (f % 64)).toInt64.toUInt64 &&& Int64.toUInt64 63)).toInt64) hx hb d_M_before_20 rfl ?_
  refine lv_topl (fun ro ero => ?_)
  refine lv_lstore (lv' := [(4, .long ro), (3, .int (nI f)), (0, .ref am), (1, .int (nI k)), (2, .int (nI q))]) hx hb d_M_before_21 hl (by decide) rfl (fun ls hl => ?_)
  refine lv_iload_n hx hb d_M_before_23 rfl (lv_at hl 4 rfl) ?_
  refine lv_bipush (v := nI 64) hx hb d_M_before_24 (by decide) ?_
  refine k_ine (tgt := 35) hx hb d_M_before_26 (by decide) (by omega) (by omega) (fun c1 => ?_) (fun c1 => ?_)
  · refine lv_lconst (v := 1) hx hb d_M_before_35 (by decide) ?_
    refine lv_iload_n hx hb d_M_before_36 rfl (lv_at hl 4 rfl) ?_
    refine lv_lshl (v := 1 <<< ((nI q).toInt64 &&& 63)) hx hb d_M_before_37 rfl ?_
    refine lv_lconst (v := 1) hx hb d_M_before_38 (by decide) ?_
    refine lv_lsub hx hb d_M_before_39 ?_
    refine lv_lstore (lv' := [(6, .long ((1 <<< ((nI q).toInt64 &&& 63)) - 1)), (4, .long ro), (3, .int (nI f)), (0, .ref am), (1, .int (nI k)), (2, .int (nI q))]) hx hb d_M_before_40 hl (by decide) rfl (fun ls hl => ?_)
    refine lv_lload hx hb d_M_before_42 (lv_at hl 1 rfl) ?_
    refine lv_lload hx hb d_M_before_44 (lv_at hl 0 rfl) ?_
    refine lv_land hx hb d_M_before_46 ?_
    refine k_roS (np := 1) (As := [.long (ro &&& ((1 <<< ((nI q).toInt64 &&& 63)) - 1))]) (rest := []) S (c_J_bitCount (ro &&& ((1 <<< ((nI q).toInt64 &&& 63)) - 1))) (gd_S tb_146 tb_147 tb_5 tb_148) hK (hP.sub [] rfl) (by decide +kernel) rfl ⟨rfl, rfl⟩ ⟨Nat.le_of_ble_eq_true rfl, Nat.le_of_ble_eq_true rfl⟩ hl.1 rfl (Nat.le_of_ble_eq_true rfl) d_M_before_47 ⟨Nat.zero_le _, Nat.zero_le _⟩ (fun v1 hv1 => ?_)
    subst hv1
    exact k_ret S hr hlocks (by rw [u64_and, ero]; exact congrArg nI (cnt_blk hf (u64_ones (by omega)))) d_M_before_50
  · refine lv_ldc2 (v := (-1)) hx hb S.2.2.2.1 (S.2.2.2.2 _ (List.mem_cons_of_mem _ tb_137)) d_M_before_29 ?_
    refine lv_goto (tgt := 40) hx hb d_M_before_32 (by decide) ?_
    refine lv_lstore (lv' := [(6, .long (-1)), (4, .long ro), (3, .int (nI f)), (0, .ref am), (1, .int (nI k)), (2, .int (nI q))]) hx hb d_M_before_40 hl (by decide) rfl (fun ls hl => ?_)
    refine lv_lload hx hb d_M_before_42 (lv_at hl 1 rfl) ?_
    refine lv_lload hx hb d_M_before_44 (lv_at hl 0 rfl) ?_
    refine lv_land hx hb d_M_before_46 ?_
    refine k_roS (np := 1) (As := [.long (ro &&& (-1))]) (rest := []) S (c_J_bitCount (ro &&& (-1))) (gd_S tb_146 tb_147 tb_5 tb_148) hK (hP.sub [] rfl) (by decide +kernel) rfl ⟨rfl, rfl⟩ ⟨Nat.le_of_ble_eq_true rfl, Nat.le_of_ble_eq_true rfl⟩ hl.1 rfl (Nat.le_of_ble_eq_true rfl) d_M_before_47 ⟨Nat.zero_le _, Nat.zero_le _⟩ (fun v2 hv2 => ?_)
    subst hv2
    exact k_ret S hr hlocks (by rw [u64_and, ero]; exact congrArg nI (cnt_blk hf (by rw [c1]; exact u64_m1))) d_M_before_50
set_option maxHeartbeats 4000000 in
set_option maxRecDepth 100000 in
/-- where a word goes -/
theorem c_M_address (i : Nat) (hi : i ≤ N) (hM : Mp N B bs os) (hB : Bk B) (hN : N ≤ 4000) : roC l y_M_address b_M_address 2 (some .int) { frames := 2, cells := 0, slots := 0, locals := 48 } D (tyS cI cL cZ) [.ref am, .int (nI i)] (pW am ab ao cI cL N B bs os) (fun r => r = nI (1 + cnt (bitAt bs) 0 i)) := by
  refine ro_of (by decide) (Nat.le_of_ble_eq_true rfl) ?_
  intro p e s m args below meth c S hr hlocks hK hP ls hl
  have hx := S.1
  have hb := S.2.1
  have hl : lv_has ls 2 [(0, .ref am), (1, .int (nI i))] := hl
  have hBp := hB.pos
  have hd : i / B ≤ N / B := Nat.div_le_div_right hi
  have hd2 : i / B ≤ i := Nat.div_le_self i B
  have hd3 : N / B ≤ N := Nat.div_le_self N B
  have hm : i % B < B := Nat.mod_lt i (by omega)
  have hmul : i / B * B ≤ i := Nat.div_mul_le_self i B
  refine lv_iconst (v := nI 1) hx hb d_M_address_0 (by decide) ?_
  refine lv_aload_n hx hb d_M_address_1 rfl (lv_at hl 0 rfl) ?_
  refine k_get S i_M hK hP 0 rfl rfl 1 (by decide) tb_27 rfl rfl d_M_address_2 ?_
  refine lv_iload_n hx hb d_M_address_5 rfl (lv_at hl 1 rfl) ?_
  refine lv_aload_n hx hb d_M_address_6 rfl (lv_at hl 0 rfl) ?_
  refine k_get S i_M hK hP 0 rfl rfl 2 (by decide) tb_29 rfl rfl d_M_address_7 ?_
  refine k_div hx hb d_M_address_10 (by omega) (by omega) (by omega) ?_
  refine k_ild hx hb hK hP 2 0 rfl rfl (Nat.lt_succ_of_le hd) (by omega) d_M_address_11 ?_
  refine lv_iadd hx hb d_M_address_12 ?_
  refine lv_aload_n hx hb d_M_address_13 rfl (lv_at hl 0 rfl) ?_
  refine lv_iload_n hx hb d_M_address_14 rfl (lv_at hl 1 rfl) ?_
  refine lv_aload_n hx hb d_M_address_15 rfl (lv_at hl 0 rfl) ?_
  refine k_get S i_M hK hP 0 rfl rfl 2 (by decide) tb_29 rfl rfl d_M_address_16 ?_
  refine k_div hx hb d_M_address_19 (by omega) (by omega) (by omega) ?_
  refine lv_iload_n hx hb d_M_address_20 rfl (lv_at hl 1 rfl) ?_
  refine lv_aload_n hx hb d_M_address_21 rfl (lv_at hl 0 rfl) ?_
  refine k_get S i_M hK hP 0 rfl rfl 2 (by decide) tb_29 rfl rfl d_M_address_22 ?_
  refine k_rem hx hb d_M_address_25 (by omega) (by omega) (by omega) ?_
  refine k_roV (np := 2) (As := [.int (nI (i / B)), .int (nI (i % B))]) (rest := [.int ((nI 1) + (os (i / B)))]) S (c_M_before (i / B) (i % B) (Nat.le_trans hmul hi) (Nat.le_of_lt hm) hB hN) (gd_V tb_142 tb_144 tp_M_before tb_3 tb_145) hK hP rfl rfl (by decide +kernel) rfl ⟨rfl, rfl⟩ ⟨Nat.le_of_ble_eq_true rfl, Nat.le_of_ble_eq_true rfl⟩ hl.1 rfl (Nat.le_of_ble_eq_true rfl) d_M_address_26 ⟨Nat.zero_le _, Nat.zero_le _⟩ (fun v1 hv1 => ?_)
  subst hv1
  refine lv_iadd hx hb d_M_address_29 ?_
  exact k_ret S hr hlocks (Mp_addr hM hi) d_M_address_30
set_option maxHeartbeats 4000000 in
set_option maxRecDepth 100000 in
/-- no bit is set -/
theorem c_M_clear (hN : N ≤ 4000) {sz : Nat} : mvC l y_M_clear b_M_clear 2 { frames := 0, cells := 0, slots := 0, locals := 0 } D (tyS cI cL cZ) [.ref am] sz (pW am ab ao cI cL N B bs os) (fun u : Nat → Int64 => (pW am ab ao cI cL N B u os)) (fun u => ∀ j, j < N / 64 + 1 → u j = 0) := by
  refine mv_of (by decide) (Nat.le_of_ble_eq_true rfl) ?_
  intro p e s m args below meth c A S hr hlocks hK hP hD hA hS ls hl
  have hx := S.1
  have hb := S.2.1
  have hl : lv_has ls 2 [(0, .ref am)] := hl
  refine lv_iconst (v := nI 0) hx hb d_M_clear_0 (by decide) ?_
  refine lv_istore_n (lv' := [(1, .int (nI 0)), (0, .ref am)]) hx hb d_M_clear_1 rfl hl (by decide) rfl (fun ls hl => ?_)
  have loop : ∀ (n i : Nat) (u : Nat → Int64), N / 64 + 1 < i + n → i ≤ N / 64 + 1 → (∀ j, j < i → u j = 0) → ∀ (H : Heap) (locs : List Loc), va_P D classes (pW am ab ao cI cL N B u os) H → va_D A (pW am ab ao cI cL N B u os) → va_S A s.heap H locs → ∀ ls : Array Slot, lv_has ls 2 [(1, .int (nI i)), (0, .ref am)] → W p l e ({ frames := 0, cells := 0, slots := 0, locals := 0 } : Room) s m args below meth c H locs 0 0 (MQ below (va_Qv (fun u => ∀ j, j < N / 64 + 1 → u j = 0) (fun (u : Nat → Int64) t => va_P D classes ((pW am ab ao cI cL N B u os)) t.heap ∧ va_D A ((pW am ab ao cI cL N B u os))) A) args s 0 0 A) (F0 m 2 ls []) := by
    intro n
    induction n with
    | zero => intro i u h1 h2; omega
    | succ n ih =>
      intro i u h1 h2 h3 H locs hP hD hS ls hl
      refine lv_iload_n hx hb d_M_clear_2 rfl (lv_at hl 0 rfl) ?_
      refine lv_aload_n hx hb d_M_clear_3 rfl (lv_at hl 1 rfl) ?_
      refine k_get S i_M hK hP 0 rfl rfl 0 (by decide) tb_26 rfl rfl d_M_clear_4 ?_
      refine k_len hx hb hK hP 1 1 rfl rfl d_M_clear_7 ?_
      refine k_ige (tgt := 24) hx hb d_M_clear_8 (by decide) (by omega) (by omega) (fun c1 => ?_) (fun c1 => ?_)
      · exact k_mretv S hr hlocks u (fun j hj => h3 j (by omega)) hP hD hS d_M_clear_24
      · refine lv_aload_n hx hb d_M_clear_11 rfl (lv_at hl 1 rfl) ?_
        refine k_get S i_M hK hP 0 rfl rfl 0 (by decide) tb_26 rfl rfl d_M_clear_12 ?_
        refine lv_iload_n hx hb d_M_clear_15 rfl (lv_at hl 0 rfl) ?_
        refine lv_lconst (v := 0) hx hb d_M_clear_16 (by decide) ?_
        refine k_lst (ws' := (pW am ab ao cI cL N B (vp_updL u i 0) os)) hx hb hK hP hD hS 1 1 rfl rfl (by omega) (by omega) rfl d_M_clear_17 (fun H locs hP hD hS => ?_)
        refine k_iinc (k := 0) (a := i) (lv' := [(1, .int (nI (i + 1))), (0, .ref am)]) hx hb d_M_clear_18 hl rfl (by decide) rfl (fun ls hl => ?_)
        refine lv_goto (tgt := 2) hx hb d_M_clear_21 (by decide) ?_
        exact ih (i + 1) (vp_updL u i 0) (by omega) (by omega) (fill_L (g := fun _ => 0) h3 rfl) H locs hP hD hS ls (lv_sub hl [0, 1] rfl)
  exact loop (N / 64 + 2) 0 bs (by omega) (by omega) (fun j hj => by omega) _ _ hP hD hS ls (lv_sub hl [0, 1] rfl)
set_option maxHeartbeats 4000000 in
set_option maxRecDepth 100000 in
/-- a run of bits is set -/
theorem c_M_mark (a g : Nat) (hg : a + g ≤ N + 1) (hN : N ≤ 4000) {sz : Nat} : mvC l y_M_mark b_M_mark 8 { frames := 1, cells := 0, slots := 0, locals := 21 } D (tyS cI cL cZ) [.ref am, .int (nI a), .int (nI g)] sz (pW am ab ao cI cL N B bs os) (fun u : Nat → Int64 => (pW am ab ao cI cL N B u os)) (fun u => ∀ j, bitAt u j = (bitAt bs j || (decide (a ≤ j) && decide (j < a + g)))) := by
  refine mv_of (by decide) (Nat.le_of_ble_eq_true rfl) ?_
  intro p e s m args below meth c A S hr hlocks hK hP hD hA hS ls hl
  have hx := S.1
  have hb := S.2.1
  have hl : lv_has ls 8 [(0, .ref am), (1, .int (nI a)), (2, .int (nI g))] := hl
  refine lv_iload_n hx hb d_M_mark_0 rfl (lv_at hl 1 rfl) ?_
  refine lv_istore_n (lv' := [(3, .int (nI a)), (0, .ref am), (1, .int (nI a)), (2, .int (nI g))]) hx hb d_M_mark_1 rfl hl (by decide) rfl (fun ls hl => ?_)
  refine lv_iload_n hx hb d_M_mark_2 rfl (lv_at hl 3 rfl) ?_
  refine lv_istore (lv' := [(4, .int (nI g)), (3, .int (nI a)), (0, .ref am), (1, .int (nI a)), (2, .int (nI g))]) hx hb d_M_mark_3 hl (by decide) rfl (fun ls hl => ?_)
  have loop : ∀ (n i k : Nat) (u : Nat → Int64), k < n → i + k = a + g → a ≤ i → (∀ j, bitAt u j = (bitAt bs j || (decide (a ≤ j) && decide (j < i)))) → ∀ (H : Heap) (locs : List Loc), va_P D classes (pW am ab ao cI cL N B u os) H → va_D A (pW am ab ao cI cL N B u os) → va_S A s.heap H locs → ∀ ls : Array Slot, lv_has ls 8 [(4, .int (nI k)), (3, .int (nI i)), (0, .ref am), (1, .int (nI a)), (2, .int (nI g))] → W p l e ({ frames := 1, cells := 0, slots := 0, locals := 21 } : Room) s m args below meth c H locs 0 0 (MQ below (va_Qv (fun u => ∀ j, bitAt u j = (bitAt bs j || (decide (a ≤ j) && decide (j < a + g)))) (fun (u : Nat → Int64) t => va_P D classes ((pW am ab ao cI cL N B u os)) t.heap ∧ va_D A ((pW am ab ao cI cL N B u os))) A) args s 0 0 A) (F0 m 5 ls []) := by
    intro n
    induction n with
    | zero => intro i k u h1; omega
    | succ n ih =>
      intro i k u h1 h2 h3 h4 H locs hP hD hS ls hl
      refine lv_iload hx hb d_M_mark_5 (lv_at hl 0 rfl) ?_
      refine k_zle (tgt := 79) hx hb d_M_mark_7 (by decide) (by omega) (fun c1 => ?_) (fun c1 => ?_)
      · exact k_mretv S hr hlocks u (fun j => by rw [h4 j, show i = a + g by omega]) hP hD hS d_M_mark_79
      · refine lv_iload hx hb d_M_mark_10 (lv_at hl 0 rfl) ?_
        refine lv_bipush (v := nI 64) hx hb d_M_mark_12 (by decide) ?_
        refine lv_iload_n hx hb d_M_mark_14 rfl (lv_at hl 1 rfl) ?_
        refine lv_bipush (v := nI 64) hx hb d_M_mark_15 (by decide) ?_
        refine k_rem hx hb d_M_mark_17 (by omega) (by omega) (by omega) ?_
        refine k_sub hx hb d_M_mark_18 (by omega) ?_
        refine k_min (rest := []) S tb_136 hl.1 ⟨Nat.le_of_ble_eq_true rfl, Nat.le_of_ble_eq_true rfl⟩ (Nat.le_of_ble_eq_true rfl) ⟨Nat.zero_le _, Nat.zero_le _⟩ d_M_mark_19 ?_
        obtain ⟨h, eh⟩ : ∃ h, h = min k (64 - i % 64) := ⟨_, rfl⟩
        have hh : 0 < h ∧ h ≤ k ∧ i % 64 + h ≤ 64 := by omega
        refine k_top (y := nI h) (by rw [eh]; exact min_nI (by omega) (by omega)) ?_
        refine lv_istore (lv' := [(5, .int (nI h)), (4, .int (nI k)), (3, .int (nI i)), (0, .ref am), (1, .int (nI a)), (2, .int (nI g))]) hx hb d_M_mark_22 hl (by decide) rfl (fun ls hl => ?_)
        refine lv_iload hx hb d_M_mark_24 (lv_at hl 0 rfl) ?_
        refine lv_bipush (v := nI 64) hx hb d_M_mark_26 (by decide) ?_
        refine k_ine (tgt := 37) hx hb d_M_mark_28 (by decide) (by omega) (by omega) (fun c2 => ?_) (fun c2 => ?_)
        · refine lv_lconst (v := 1) hx hb d_M_mark_37 (by decide) ?_
          refine lv_iload hx hb d_M_mark_38 (lv_at hl 0 rfl) ?_
          refine lv_lshl (v := 1 <<< ((nI h).toInt64 &&& 63)) hx hb d_M_mark_40 rfl ?_
          refine lv_lconst (v := 1) hx hb d_M_mark_41 (by decide) ?_
          refine lv_lsub hx hb d_M_mark_42 ?_
          have ho : u64 ((1 <<< ((nI h).toInt64 &&& 63)) - 1) = 2 ^ h - 1 := u64_ones (by omega)
          refine lv_lstore (lv' := [(6, .long ((1 <<< ((nI h).toInt64 &&& 63)) - 1)), (5, .int (nI h)), (4, .int (nI k)), (3, .int (nI i)), (0, .ref am), (1, .int (nI a)), (2, .int (nI g))]) hx hb d_M_mark_43 hl (by decide) rfl (fun ls hl => ?_)
          refine lv_aload_n hx hb d_M_mark_45 rfl (lv_at hl 4 rfl) ?_
          refine k_get S i_M hK hP 0 rfl rfl 0 (by decide) tb_26 rfl rfl d_M_mark_46 ?_
          refine lv_iload_n hx hb d_M_mark_49 rfl (lv_at hl 3 rfl) ?_
          refine lv_bipush (v := nI 64) hx hb d_M_mark_50 (by decide) ?_
          refine k_div hx hb d_M_mark_52 (by omega) (by omega) (by omega) ?_
          refine lv_dup2_11 hx hb d_M_mark_53 rfl rfl ?_
          refine k_lld hx hb hK hP 1 1 rfl rfl (by omega) (by omega) d_M_mark_54 ?_
          refine lv_lload hx hb d_M_mark_55 (lv_at hl 0 rfl) ?_
          refine lv_iload_n hx hb d_M_mark_57 rfl (lv_at hl 3 rfl) ?_
          refine lv_bipush (v := nI 64) hx hb d_M_mark_58 (by decide) ?_
          refine k_rem hx hb d_M_mark_60 (by omega) (by omega) (by omega) ?_
          refine lv_lshl (v := ((1 <<< ((nI h).toInt64 &&& 63)) - 1) <<< ((nI (i % 64)).toInt64 &&& 63)) hx hb d_M_mark_61 rfl ?_
          refine lv_lor hx hb d_M_mark_62 ?_
          refine k_lst (ws' := (pW am ab ao cI cL N B (vp_updL u (i / 64) ((u (i / 64)) ||| (((1 <<< ((nI h).toInt64 &&& 63)) - 1) <<< ((nI (i % 64)).toInt64 &&& 63)))) os)) hx hb hK hP hD hS 1 1 rfl rfl (by omega) (by omega) rfl d_M_mark_63 (fun H locs hP hD hS => ?_)
          refine lv_iload_n hx hb d_M_mark_64 rfl (lv_at hl 3 rfl) ?_
          refine lv_iload hx hb d_M_mark_65 (lv_at hl 1 rfl) ?_
          refine k_add hx hb d_M_mark_67 ?_
          refine lv_istore_n (lv' := [(3, .int (nI (i + h))), (6, .long ((1 <<< ((nI h).toInt64 &&& 63)) - 1)), (5, .int (nI h)), (4, .int (nI k)), (0, .ref am), (1, .int (nI a)), (2, .int (nI g))]) hx hb d_M_mark_68 rfl hl (by decide) rfl (fun ls hl => ?_)
          refine lv_iload hx hb d_M_mark_69 (lv_at hl 3 rfl) ?_
          refine lv_iload hx hb d_M_mark_71 (lv_at hl 2 rfl) ?_
          refine k_sub hx hb d_M_mark_73 (by omega) ?_
          refine lv_istore (lv' := [(4, .int (nI (k - h))), (3, .int (nI (i + h))), (6, .long ((1 <<< ((nI h).toInt64 &&& 63)) - 1)), (5, .int (nI h)), (0, .ref am), (1, .int (nI a)), (2, .int (nI g))]) hx hb d_M_mark_74 hl (by decide) rfl (fun ls hl => ?_)
          refine lv_goto (tgt := 5) hx hb d_M_mark_76 (by decide) ?_
          exact ih (i + h) (k - h) (vp_updL u (i / 64) ((u (i / 64)) ||| (((1 <<< ((nI h).toInt64 &&& 63)) - 1) <<< ((nI (i % 64)).toInt64 &&& 63)))) (by omega) (by omega) (by omega) (fun j => by rw [bit_run hh.2.2 ho j, h4 j, run_or h3]) H locs hP hD hS ls (lv_sub hl [0, 1, 4, 5, 6] rfl)
        · refine lv_ldc2 (v := (-1)) hx hb S.2.2.2.1 (S.2.2.2.2 _ (List.mem_cons_of_mem _ tb_137)) d_M_mark_31 ?_
          refine lv_goto (tgt := 43) hx hb d_M_mark_34 (by decide) ?_
          have ho : u64 (-1) = 2 ^ h - 1 := by rw [c2]; exact u64_m1
          refine lv_lstore (lv' := [(6, .long (-1)), (5, .int (nI h)), (4, .int (nI k)), (3, .int (nI i)), (0, .ref am), (1, .int (nI a)), (2, .int (nI g))]) hx hb d_M_mark_43 hl (by decide) rfl (fun ls hl => ?_)
          refine lv_aload_n hx hb d_M_mark_45 rfl (lv_at hl 4 rfl) ?_
          refine k_get S i_M hK hP 0 rfl rfl 0 (by decide) tb_26 rfl rfl d_M_mark_46 ?_
          refine lv_iload_n hx hb d_M_mark_49 rfl (lv_at hl 3 rfl) ?_
          refine lv_bipush (v := nI 64) hx hb d_M_mark_50 (by decide) ?_
          refine k_div hx hb d_M_mark_52 (by omega) (by omega) (by omega) ?_
          refine lv_dup2_11 hx hb d_M_mark_53 rfl rfl ?_
          refine k_lld hx hb hK hP 1 1 rfl rfl (by omega) (by omega) d_M_mark_54 ?_
          refine lv_lload hx hb d_M_mark_55 (lv_at hl 0 rfl) ?_
          refine lv_iload_n hx hb d_M_mark_57 rfl (lv_at hl 3 rfl) ?_
          refine lv_bipush (v := nI 64) hx hb d_M_mark_58 (by decide) ?_
          refine k_rem hx hb d_M_mark_60 (by omega) (by omega) (by omega) ?_
          refine lv_lshl (v := (-1) <<< ((nI (i % 64)).toInt64 &&& 63)) hx hb d_M_mark_61 rfl ?_
          refine lv_lor hx hb d_M_mark_62 ?_
          refine k_lst (ws' := (pW am ab ao cI cL N B (vp_updL u (i / 64) ((u (i / 64)) ||| ((-1) <<< ((nI (i % 64)).toInt64 &&& 63)))) os)) hx hb hK hP hD hS 1 1 rfl rfl (by omega) (by omega) rfl d_M_mark_63 (fun H locs hP hD hS => ?_)
          refine lv_iload_n hx hb d_M_mark_64 rfl (lv_at hl 3 rfl) ?_
          refine lv_iload hx hb d_M_mark_65 (lv_at hl 1 rfl) ?_
          refine k_add hx hb d_M_mark_67 ?_
          refine lv_istore_n (lv' := [(3, .int (nI (i + h))), (6, .long (-1)), (5, .int (nI h)), (4, .int (nI k)), (0, .ref am), (1, .int (nI a)), (2, .int (nI g))]) hx hb d_M_mark_68 rfl hl (by decide) rfl (fun ls hl => ?_)
          refine lv_iload hx hb d_M_mark_69 (lv_at hl 3 rfl) ?_
          refine lv_iload hx hb d_M_mark_71 (lv_at hl 2 rfl) ?_
          refine k_sub hx hb d_M_mark_73 (by omega) ?_
          refine lv_istore (lv' := [(4, .int (nI (k - h))), (3, .int (nI (i + h))), (6, .long (-1)), (5, .int (nI h)), (0, .ref am), (1, .int (nI a)), (2, .int (nI g))]) hx hb d_M_mark_74 hl (by decide) rfl (fun ls hl => ?_)
          refine lv_goto (tgt := 5) hx hb d_M_mark_76 (by decide) ?_
          exact ih (i + h) (k - h) (vp_updL u (i / 64) ((u (i / 64)) ||| ((-1) <<< ((nI (i % 64)).toInt64 &&& 63)))) (by omega) (by omega) (by omega) (fun j => by rw [bit_run hh.2.2 ho j, h4 j, run_or h3]) H locs hP hD hS ls (lv_sub hl [0, 1, 4, 5, 6] rfl)
  exact loop (g + 1) a g bs (by omega) rfl (Nat.le_refl a) (fun j => by rw [run_0]) _ _ hP hD hS ls (lv_sub hl [0, 1, 2, 3, 4] rfl)
set_option maxHeartbeats 4000000 in
set_option maxRecDepth 100000 in
/-- the offsets are counted -/
theorem c_M_lay (hB : Bk B) (hN : N ≤ 4000) {sz : Nat} : mvC l y_M_lay b_M_lay 3 { frames := 2, cells := 0, slots := 0, locals := 48 } D (tyS cI cL cZ) [.ref am] sz (pW am ab ao cI cL N B bs os) (fun u : Nat → Int32 => (pW am ab ao cI cL N B bs u)) (fun u => Mp N B bs u) := by
  refine mv_of (by decide) (Nat.le_of_ble_eq_true rfl) ?_
  intro p e s m args below meth c A S hr hlocks hK hP hD hA hS ls hl
  have hx := S.1
  have hb := S.2.1
  have hl : lv_has ls 3 [(0, .ref am)] := hl
  have hBp := hB.pos
  have hd3 : N / B ≤ N := Nat.div_le_self N B
  have hd0 : 0 ≤ N / B := Nat.zero_le _
  refine lv_iconst (v := nI 0) hx hb d_M_lay_0 (by decide) ?_
  refine lv_istore_n (lv' := [(1, .int (nI 0)), (0, .ref am)]) hx hb d_M_lay_1 rfl hl (by decide) rfl (fun ls hl => ?_)
  refine lv_iconst (v := nI 0) hx hb d_M_lay_2 (by decide) ?_
  refine lv_istore_n (lv' := [(2, .int (nI 0)), (1, .int (nI 0)), (0, .ref am)]) hx hb d_M_lay_3 rfl hl (by decide) rfl (fun ls hl => ?_)
  have loop : ∀ (n i : Nat) (u : Nat → Int32), N / B + 1 < i + n → i ≤ N / B + 1 → (∀ k, k < i → u k = nI (cnt (bitAt bs) 0 (k * B))) → ∀ (H : Heap) (locs : List Loc), va_P D classes (pW am ab ao cI cL N B bs u) H → va_D A (pW am ab ao cI cL N B bs u) → va_S A s.heap H locs → ∀ ls : Array Slot, lv_has ls 3 [(2, .int (nI i)), (1, .int (nI (cnt (bitAt bs) 0 (i * B)))), (0, .ref am)] → W p l e ({ frames := 2, cells := 0, slots := 0, locals := 48 } : Room) s m args below meth c H locs 0 0 (MQ below (va_Qv (fun u => Mp N B bs u) (fun (u : Nat → Int32) t => va_P D classes ((pW am ab ao cI cL N B bs u)) t.heap ∧ va_D A ((pW am ab ao cI cL N B bs u))) A) args s 0 0 A) (F0 m 4 ls []) := by
    intro n
    induction n with
    | zero => intro i u h1 h2; omega
    | succ n ih =>
      intro i u h1 h2 h3 H locs hP hD hS ls hl
      refine lv_iload_n hx hb d_M_lay_4 rfl (lv_at hl 0 rfl) ?_
      refine lv_aload_n hx hb d_M_lay_5 rfl (lv_at hl 2 rfl) ?_
      refine k_get S i_M hK hP 0 rfl rfl 1 (by decide) tb_27 rfl rfl d_M_lay_6 ?_
      refine k_len hx hb hK hP 2 0 rfl rfl d_M_lay_9 ?_
      refine k_ige (tgt := 38) hx hb d_M_lay_10 (by decide) (by omega) (by omega) (fun c1 => ?_) (fun c1 => ?_)
      · exact k_mretv S hr hlocks u (fun k hk => h3 k (by omega)) hP hD hS d_M_lay_38
      · have hi : i * B ≤ N := Nat.le_trans (Nat.mul_le_mul_right B (show i ≤ N / B by omega)) (Nat.div_mul_le_self N B)
        refine lv_aload_n hx hb d_M_lay_13 rfl (lv_at hl 2 rfl) ?_
        refine k_get S i_M hK hP 0 rfl rfl 1 (by decide) tb_27 rfl rfl d_M_lay_14 ?_
        refine lv_iload_n hx hb d_M_lay_17 rfl (lv_at hl 0 rfl) ?_
        refine lv_iload_n hx hb d_M_lay_18 rfl (lv_at hl 1 rfl) ?_
        refine k_ist (ws' := (pW am ab ao cI cL N B bs (upd u i (nI (cnt (bitAt bs) 0 (i * B)))))) hx hb hK hP hD hS 2 0 rfl rfl (by omega) (by omega) rfl d_M_lay_19 (fun H locs hP hD hS => ?_)
        refine lv_iload_n hx hb d_M_lay_20 rfl (lv_at hl 1 rfl) ?_
        refine lv_aload_n hx hb d_M_lay_21 rfl (lv_at hl 2 rfl) ?_
        refine lv_iload_n hx hb d_M_lay_22 rfl (lv_at hl 0 rfl) ?_
        refine lv_aload_n hx hb d_M_lay_23 rfl (lv_at hl 2 rfl) ?_
        refine k_get S i_M hK hP 0 rfl rfl 2 (by decide) tb_29 rfl rfl d_M_lay_24 ?_
        refine k_roV (np := 2) (As := [.int (nI i), .int (nI B)]) (rest := [.int (nI (cnt (bitAt bs) 0 (i * B)))]) S (c_M_before i B hi (Nat.le_refl B) hB hN) (gd_V tb_142 tb_144 tp_M_before tb_3 tb_145) hK hP rfl rfl (by decide +kernel) rfl ⟨rfl, rfl⟩ ⟨Nat.le_of_ble_eq_true rfl, Nat.le_of_ble_eq_true rfl⟩ hl.1 rfl (Nat.le_of_ble_eq_true rfl) d_M_lay_27 ⟨Nat.zero_le _, Nat.zero_le _⟩ (fun v1 hv1 => ?_)
        subst hv1
        refine k_add hx hb d_M_lay_30 ?_
        refine k_top (y := nI (cnt (bitAt bs) 0 ((i + 1) * B))) (by rw [Nat.succ_mul, cnt_add, Nat.zero_add]) ?_
        refine lv_istore_n (lv' := [(1, .int (nI (cnt (bitAt bs) 0 ((i + 1) * B)))), (2, .int (nI i)), (0, .ref am)]) hx hb d_M_lay_31 rfl hl (by decide) rfl (fun ls hl => ?_)
        refine k_iinc (k := 1) (a := i) (lv' := [(2, .int (nI (i + 1))), (1, .int (nI (cnt (bitAt bs) 0 ((i + 1) * B)))), (0, .ref am)]) hx hb d_M_lay_32 hl rfl (by decide) rfl (fun ls hl => ?_)
        refine lv_goto (tgt := 4) hx hb d_M_lay_35 (by decide) ?_
        exact ih (i + 1) (upd u i (nI (cnt (bitAt bs) 0 (i * B)))) (by omega) (by omega) (fill_I (g := fun k => nI (cnt (bitAt bs) 0 (k * B))) h3 rfl) H locs hP hD hS ls (lv_sub hl [0, 1, 2] rfl)
  exact loop (N / B + 2) 0 os (by omega) (by omega) (fun k hk => by omega) _ _ hP hD hS ls (by rw [Nat.zero_mul]; exact lv_sub hl [0, 1, 2] rfl)
end M1
end
section
/-! THE CLASS: what it changes word by word -/
theorem inR_m1 {x : Int32} {r : Nat} (hr : r < 2 ^ 31) (h : inR x (nI 0) (nI r - nI 1) = true) : ∃ j : Nat, j < r ∧ x = nI j := by
  rcases Nat.eq_zero_or_pos r with rfl | q
  · exfalso
    simp only [inR, Bool.and_eq_true, decide_eq_true_eq] at h
    exact absurd (Int32.le_trans h.1 h.2) (by decide)
  · rw [pk_sub q] at h
    obtain ⟨k, hk, e⟩ := inR_nat (by omega) h
    exact ⟨k, by omega, e⟩
theorem isO_nat {N T : Nat} {w : Nat → Int32} {L : List Nat} {rt : Nat → Int32} (hH : Hp N T w L rt) {a : Int32} (h : isO L a = true) : ∃ t : Nat, t ∈ L ∧ a = nI t ∧ hdN a = t ∧ 1 ≤ t ∧ t ≤ N := by
  obtain ⟨t, ht, e⟩ := isO_iff.mp h
  have h1 := hH.obj ht
  have h2 := hH.N
  exact ⟨t, ht, e, by rw [e]; exact hdN_nI (by omega), h1.1, h1.2.2.2⟩
def mkS (N T O : Nat) (w : Nat → Int32) (r q : Int32) : Int32 × Nat × Nat × (Nat → Int32) := if inR r (nI 0) (nI 15) && inR q (nI 0) (nI 100) then (if T + hdN r + hdN q ≤ N then (nI T, T + 1 + hdN r + hdN q, O + 1, upd w T (nI (256 * hdN q + 16 * hdN r))) else (0, T, O, w)) else (-1, T, O, w)
def rfS (w : Nat → Int32) (L : List Nat) (o k v : Int32) : Bool := isO L o && inR k (nI 0) (nI (rfN (w (hdN o))) - nI 1) && isLd L v
def rfW (w : Nat → Int32) (L : List Nat) (o k v : Int32) : Nat → Int32 := if rfS w L o k v then upd w (hdN o + 1 + hdN k) v else w
def stS (w : Nat → Int32) (L : List Nat) (o k : Int32) : Bool := isO L o && inR k (nI 0) (nI (plN (w (hdN o))) - nI 1)
def stW (w : Nat → Int32) (L : List Nat) (o k v : Int32) : Nat → Int32 := if stS w L o k then upd w (hdN o + 1 + rfN (w (hdN o)) + hdN k) v else w
def roS (L : List Nat) (k o : Int32) : Bool := inR k (nI 0) (nI 7) && isLd L o
def roW (rt : Nat → Int32) (L : List Nat) (k o : Int32) : Nat → Int32 := if roS L k o then upd rt (hdN k) o else rt
theorem hd_or' : ∀ q, q < 101 → ∀ r, r < 16 → (nI q <<< (nI 8 &&& 31)) ||| (nI r <<< (nI 4 &&& 31)) = nI (256 * q + 16 * r) := by decide +kernel
def mvS (N : Nat) (b : Nat → Bool) (i : Int32) : Int32 := if inR i (nI 0) (nI N) then (if b (hdN i) then nI (1 + cnt b 0 (hdN i)) else 0) else -1
def btS (N : Nat) (b : Nat → Bool) (i : Int32) : Int32 := if inR i (nI 0) (nI N) then b2i (b (hdN i)) else -1
section H3
variable {l : Launch} {D : va_G} {x aw af am ab ao ar ap az : Nat} {cI cL cZ : ClassId} {N B T O C R : Nat} {rf : Int32} {w f : Nat → Int32} {bs : Nat → Int64} {os rt op sn : Nat → Int32}
variable {L : List Nat}
set_option maxHeartbeats 4000000 in
set_option maxRecDepth 100000 in
/-- where a lead goes -/
theorem c_H_goes (t : Nat) (ht : t ≤ N) (hM : Mp N B bs os) (hB : Bk B) (hN : N ≤ 4000) : roC l y_H_goes b_H_goes 2 (some .int) { frames := 3, cells := 0, slots := 0, locals := 69 } D (tyS cI cL cZ) [.ref x, .int (nI t)] (xW x aw af am ab ao ar ap az cI cL cZ N B T O C R rf w f bs os rt op sn) (fun r => r = if t = 0 then nI 0 else nI (1 + cnt (bitAt bs) 0 t)) := by
  refine ro_of (by decide) (Nat.le_of_ble_eq_true rfl) ?_
  intro p e s m args below meth c S hr hlocks hK hP ls hl
  have hx := S.1
  have hb := S.2.1
  have hl : lv_has ls 2 [(0, .ref x), (1, .int (nI t))] := hl
  refine lv_iload_n hx hb d_H_goes_0 rfl (lv_at hl 1 rfl) ?_
  refine k_zne (tgt := 8) hx hb d_H_goes_1 (by decide) (by omega) (fun c1 => ?_) (fun c1 => ?_)
  · refine lv_aload_n hx hb d_H_goes_8 rfl (lv_at hl 0 rfl) ?_
    refine k_get S i_H hK hP 0 rfl rfl 4 (by decide) tb_44 rfl rfl d_H_goes_9 ?_
    refine lv_iload_n hx hb d_H_goes_12 rfl (lv_at hl 1 rfl) ?_
    refine k_roV (np := 1) (As := [.int (nI t)]) (rest := []) S (c_M_address t ht hM hB hN) (gd_V tb_160 tb_161 tb_162 tb_3 tb_163) hK (hP.sub [3, 4, 5] rfl) rfl rfl (by decide +kernel) rfl ⟨rfl, rfl⟩ ⟨Nat.le_of_ble_eq_true rfl, Nat.le_of_ble_eq_true rfl⟩ hl.1 rfl (Nat.le_of_ble_eq_true rfl) d_H_goes_13 ⟨Nat.zero_le _, Nat.zero_le _⟩ (fun v1 hv1 => ?_)
    subst hv1
    exact k_ret S hr hlocks (by rw [if_neg (by omega)]) d_H_goes_16
  · refine lv_iconst (v := nI 0) hx hb d_H_goes_4 (by decide) ?_
    refine lv_goto (tgt := 16) hx hb d_H_goes_5 (by decide) ?_
    exact k_ret S hr hlocks (by rw [if_pos c1]) d_H_goes_16
set_option maxHeartbeats 4000000 in
set_option maxRecDepth 100000 in
/-- a bit is told -/
theorem c_H_bit (i : Int32) (hN : N ≤ 4000) : roC l y_H_bit b_H_bit 2 (some .int) { frames := 1, cells := 0, slots := 0, locals := 22 } D (tyS cI cL cZ) [.ref x, .int i] (xW x aw af am ab ao ar ap az cI cL cZ N B T O C R rf w f bs os rt op sn) (fun r => r = btS N (bitAt bs) i) := by
  refine ro_of (by decide) (Nat.le_of_ble_eq_true rfl) ?_
  intro p e s m args below meth c S hr hlocks hK hP ls hl
  have hx := S.1
  have hb := S.2.1
  have hl : lv_has ls 2 [(0, .ref x), (1, .int i)] := hl
  refine lv_iload_n hx hb d_H_bit_0 rfl (lv_at hl 1 rfl) ?_
  refine lv_iconst (v := nI 0) hx hb d_H_bit_1 (by decide) ?_
  refine lv_aload_n hx hb d_H_bit_2 rfl (lv_at hl 0 rfl) ?_
  refine k_get S i_H hK hP 0 rfl rfl 0 (by decide) tb_40 rfl rfl d_H_bit_3 ?_
  refine k_roS (np := 3) (As := [.int i, .int (nI 0), .int (nI N)]) (rest := []) S (c_H_within i (nI 0) (nI N)) (gd_S tb_100 tb_101 tb_1 tb_102) hK (hP.sub [] rfl) (by decide +kernel) rfl ⟨rfl, rfl⟩ ⟨Nat.le_of_ble_eq_true rfl, Nat.le_of_ble_eq_true rfl⟩ hl.1 rfl (Nat.le_of_ble_eq_true rfl) d_H_bit_6 ⟨Nat.zero_le _, Nat.zero_le _⟩ (fun v1 hv1 => ?_)
  subst hv1
  refine k_beq (tgt := 31) hx hb d_H_bit_9 (by decide) (fun c1 => ?_) (fun c1 => ?_)
  · refine lv_iconst (v := (-1)) hx hb d_H_bit_31 (by decide) ?_
    exact k_ret S hr hlocks (by unfold btS; rw [c1]; rfl) d_H_bit_32
  · obtain ⟨k, hk, rfl⟩ := inR_nat (by omega) c1
    refine lv_aload_n hx hb d_H_bit_12 rfl (lv_at hl 0 rfl) ?_
    refine k_get S i_H hK hP 0 rfl rfl 4 (by decide) tb_44 rfl rfl d_H_bit_13 ?_
    refine lv_iload_n hx hb d_H_bit_16 rfl (lv_at hl 1 rfl) ?_
    refine k_roV (np := 1) (As := [.int (nI k)]) (rest := []) S (c_M_has k hk hN) (gd_V tb_156 tb_157 tb_158 tb_3 tb_159) hK (hP.sub [3, 4, 5] rfl) rfl rfl (by decide +kernel) rfl ⟨rfl, rfl⟩ ⟨Nat.le_of_ble_eq_true rfl, Nat.le_of_ble_eq_true rfl⟩ hl.1 rfl (Nat.le_of_ble_eq_true rfl) d_H_bit_17 ⟨Nat.zero_le _, Nat.zero_le _⟩ (fun v2 hv2 => ?_)
    subst hv2
    refine k_beq (tgt := 27) hx hb d_H_bit_20 (by decide) (fun c2 => ?_) (fun c2 => ?_)
    · refine lv_iconst (v := nI 0) hx hb d_H_bit_27 (by decide) ?_
      refine lv_goto (tgt := 32) hx hb d_H_bit_28 (by decide) ?_
      exact k_ret S hr hlocks (by unfold btS; rw [c1, hdN_nI (by omega), c2]; rfl) d_H_bit_32
    · refine lv_iconst (v := nI 1) hx hb d_H_bit_23 (by decide) ?_
      refine lv_goto (tgt := 32) hx hb d_H_bit_24 (by decide) ?_
      exact k_ret S hr hlocks (by unfold btS; rw [c1, hdN_nI (by omega), c2]; rfl) d_H_bit_32
set_option maxHeartbeats 4000000 in
set_option maxRecDepth 100000 in
/-- where a word went -/
theorem c_H_moved (i : Int32) (hM : Mp N B bs os) (hB : Bk B) (hN : N ≤ 4000) : roC l y_H_moved b_H_moved 2 (some .int) { frames := 3, cells := 0, slots := 0, locals := 69 } D (tyS cI cL cZ) [.ref x, .int i] (xW x aw af am ab ao ar ap az cI cL cZ N B T O C R rf w f bs os rt op sn) (fun r => r = mvS N (bitAt bs) i) := by
  refine ro_of (by decide) (Nat.le_of_ble_eq_true rfl) ?_
  intro p e s m args below meth c S hr hlocks hK hP ls hl
  have hx := S.1
  have hb := S.2.1
  have hl : lv_has ls 2 [(0, .ref x), (1, .int i)] := hl
  refine lv_iload_n hx hb d_H_moved_0 rfl (lv_at hl 1 rfl) ?_
  refine lv_iconst (v := nI 0) hx hb d_H_moved_1 (by decide) ?_
  refine lv_aload_n hx hb d_H_moved_2 rfl (lv_at hl 0 rfl) ?_
  refine k_get S i_H hK hP 0 rfl rfl 0 (by decide) tb_40 rfl rfl d_H_moved_3 ?_
  refine k_roS (np := 3) (As := [.int i, .int (nI 0), .int (nI N)]) (rest := []) S (c_H_within i (nI 0) (nI N)) (gd_S tb_100 tb_101 tb_1 tb_102) hK (hP.sub [] rfl) (by decide +kernel) rfl ⟨rfl, rfl⟩ ⟨Nat.le_of_ble_eq_true rfl, Nat.le_of_ble_eq_true rfl⟩ hl.1 rfl (Nat.le_of_ble_eq_true rfl) d_H_moved_6 ⟨Nat.zero_le _, Nat.zero_le _⟩ (fun v1 hv1 => ?_)
  subst hv1
  refine k_beq (tgt := 38) hx hb d_H_moved_9 (by decide) (fun c1 => ?_) (fun c1 => ?_)
  · refine lv_iconst (v := (-1)) hx hb d_H_moved_38 (by decide) ?_
    exact k_ret S hr hlocks (by unfold mvS; rw [c1]; rfl) d_H_moved_39
  · obtain ⟨k, hk, rfl⟩ := inR_nat (by omega) c1
    refine lv_aload_n hx hb d_H_moved_12 rfl (lv_at hl 0 rfl) ?_
    refine k_get S i_H hK hP 0 rfl rfl 4 (by decide) tb_44 rfl rfl d_H_moved_13 ?_
    refine lv_iload_n hx hb d_H_moved_16 rfl (lv_at hl 1 rfl) ?_
    refine k_roV (np := 1) (As := [.int (nI k)]) (rest := []) S (c_M_has k hk hN) (gd_V tb_156 tb_157 tb_158 tb_3 tb_159) hK (hP.sub [3, 4, 5] rfl) rfl rfl (by decide +kernel) rfl ⟨rfl, rfl⟩ ⟨Nat.le_of_ble_eq_true rfl, Nat.le_of_ble_eq_true rfl⟩ hl.1 rfl (Nat.le_of_ble_eq_true rfl) d_H_moved_17 ⟨Nat.zero_le _, Nat.zero_le _⟩ (fun v2 hv2 => ?_)
    subst hv2
    refine k_beq (tgt := 34) hx hb d_H_moved_20 (by decide) (fun c2 => ?_) (fun c2 => ?_)
    · refine lv_iconst (v := nI 0) hx hb d_H_moved_34 (by decide) ?_
      refine lv_goto (tgt := 39) hx hb d_H_moved_35 (by decide) ?_
      exact k_ret S hr hlocks (by unfold mvS; rw [c1, hdN_nI (by omega), c2]; rfl) d_H_moved_39
    · refine lv_aload_n hx hb d_H_moved_23 rfl (lv_at hl 0 rfl) ?_
      refine k_get S i_H hK hP 0 rfl rfl 4 (by decide) tb_44 rfl rfl d_H_moved_24 ?_
      refine lv_iload_n hx hb d_H_moved_27 rfl (lv_at hl 1 rfl) ?_
      refine k_roV (np := 1) (As := [.int (nI k)]) (rest := []) S (c_M_address k hk hM hB hN) (gd_V tb_160 tb_161 tb_162 tb_3 tb_163) hK (hP.sub [3, 4, 5] rfl) rfl rfl (by decide +kernel) rfl ⟨rfl, rfl⟩ ⟨Nat.le_of_ble_eq_true rfl, Nat.le_of_ble_eq_true rfl⟩ hl.1 rfl (Nat.le_of_ble_eq_true rfl) d_H_moved_28 ⟨Nat.zero_le _, Nat.zero_le _⟩ (fun v3 hv3 => ?_)
      subst hv3
      refine lv_goto (tgt := 39) hx hb d_H_moved_31 (by decide) ?_
      exact k_ret S hr hlocks (by unfold mvS; rw [c1, hdN_nI (by omega), c2]; rfl) d_H_moved_39
set_option maxHeartbeats 4000000 in
set_option maxRecDepth 100000 in
/-- a new object -/
theorem c_H_make (r q : Int32) (hN : N ≤ 4000) (hT : T ≤ N + 1) {sz : Nat} : muC l y_H_make b_H_make 5 (some .int) { frames := 1, cells := 0, slots := 0, locals := 22 } D (tyS cI cL cZ) [.ref x, .int r, .int q] sz (xW x aw af am ab ao ar ap az cI cL cZ N B T O C R rf w f bs os rt op sn) (fun u : Nat × Nat × (Nat → Int32) => (xW x aw af am ab ao ar ap az cI cL cZ N B u.1 u.2.1 C R rf u.2.2 f bs os rt op sn)) (fun v u => (v, u) = mkS N T O w r q) := by
  refine mu_of (by decide) (Nat.le_of_ble_eq_true rfl) ?_
  intro p e s m args below meth c A S hr hlocks hK hP hD hA hS ls hl
  have hx := S.1
  have hb := S.2.1
  have hl : lv_has ls 5 [(0, .ref x), (1, .int r), (2, .int q)] := hl
  refine lv_iload_n hx hb d_H_make_0 rfl (lv_at hl 1 rfl) ?_
  refine lv_iconst (v := nI 0) hx hb d_H_make_1 (by decide) ?_
  refine lv_bipush (v := nI 15) hx hb d_H_make_2 (by decide) ?_
  refine k_roS (np := 3) (As := [.int r, .int (nI 0), .int (nI 15)]) (rest := []) S (c_H_within r (nI 0) (nI 15)) (gd_S tb_100 tb_101 tb_1 tb_102) hK (hP.sub [] rfl) (by decide +kernel) rfl ⟨rfl, rfl⟩ ⟨Nat.le_of_ble_eq_true rfl, Nat.le_of_ble_eq_true rfl⟩ hl.1 rfl (Nat.le_of_ble_eq_true rfl) d_H_make_4 ⟨Nat.zero_le _, Nat.zero_le _⟩ (fun v1 hv1 => ?_)
  subst hv1
  refine k_beq (tgt := 20) hx hb d_H_make_7 (by decide) (fun c1 => ?_) (fun c1 => ?_)
  · refine lv_iconst (v := (-1)) hx hb d_H_make_20 (by decide) ?_
    exact k_mret S hr hlocks (T, O, w) (by unfold mkS; rw [c1]; rfl) hP hD hS d_H_make_21
  · refine lv_iload_n hx hb d_H_make_10 rfl (lv_at hl 2 rfl) ?_
    refine lv_iconst (v := nI 0) hx hb d_H_make_11 (by decide) ?_
    refine lv_bipush (v := nI 100) hx hb d_H_make_12 (by decide) ?_
    refine k_roS (np := 3) (As := [.int q, .int (nI 0), .int (nI 100)]) (rest := []) S (c_H_within q (nI 0) (nI 100)) (gd_S tb_100 tb_101 tb_1 tb_102) hK (hP.sub [] rfl) (by decide +kernel) rfl ⟨rfl, rfl⟩ ⟨Nat.le_of_ble_eq_true rfl, Nat.le_of_ble_eq_true rfl⟩ hl.1 rfl (Nat.le_of_ble_eq_true rfl) d_H_make_14 ⟨Nat.zero_le _, Nat.zero_le _⟩ (fun v2 hv2 => ?_)
    subst hv2
    refine k_bne (tgt := 22) hx hb d_H_make_17 (by decide) (fun c2 => ?_) (fun c2 => ?_)
    · obtain ⟨rn, hrn, rfl⟩ := inR_nat (by omega) c1
      obtain ⟨qn, hqn, rfl⟩ := inR_nat (by omega) c2
      refine lv_iconst (v := nI 1) hx hb d_H_make_22 (by decide) ?_
      refine lv_iload_n hx hb d_H_make_23 rfl (lv_at hl 1 rfl) ?_
      refine k_add hx hb d_H_make_24 ?_
      refine lv_iload_n hx hb d_H_make_25 rfl (lv_at hl 2 rfl) ?_
      refine k_add hx hb d_H_make_26 ?_
      refine lv_istore_n (lv' := [(3, .int (nI ((1 + rn) + qn))), (0, .ref x), (1, .int (nI rn)), (2, .int (nI qn))]) hx hb d_H_make_27 rfl hl (by decide) rfl (fun ls hl => ?_)
      refine lv_aload_n hx hb d_H_make_28 rfl (lv_at hl 1 rfl) ?_
      refine k_get S i_H hK hP 0 rfl rfl 8 (by decide) tb_48 rfl rfl d_H_make_29 ?_
      refine lv_iload_n hx hb d_H_make_32 rfl (lv_at hl 0 rfl) ?_
      refine k_add hx hb d_H_make_33 ?_
      refine lv_aload_n hx hb d_H_make_34 rfl (lv_at hl 1 rfl) ?_
      refine k_get S i_H hK hP 0 rfl rfl 0 (by decide) tb_40 rfl rfl d_H_make_35 ?_
      refine lv_iconst (v := nI 1) hx hb d_H_make_38 (by decide) ?_
      refine k_add hx hb d_H_make_39 ?_
      refine k_ile (tgt := 45) hx hb d_H_make_40 (by decide) (by omega) (by omega) (fun c3 => ?_) (fun c3 => ?_)
      · refine lv_aload_n hx hb d_H_make_45 rfl (lv_at hl 1 rfl) ?_
        refine k_get S i_H hK hP 0 rfl rfl 8 (by decide) tb_48 rfl rfl d_H_make_46 ?_
        refine lv_istore (lv' := [(4, .int (nI T)), (3, .int (nI ((1 + rn) + qn))), (0, .ref x), (1, .int (nI rn)), (2, .int (nI qn))]) hx hb d_H_make_49 hl (by decide) rfl (fun ls hl => ?_)
        refine lv_aload_n hx hb d_H_make_51 rfl (lv_at hl 2 rfl) ?_
        refine k_get S i_H hK hP 0 rfl rfl 2 (by decide) tb_42 rfl rfl d_H_make_52 ?_
        refine lv_iload hx hb d_H_make_55 (lv_at hl 0 rfl) ?_
        refine lv_iload_n hx hb d_H_make_57 rfl (lv_at hl 4 rfl) ?_
        refine lv_bipush (v := nI 8) hx hb d_H_make_58 (by decide) ?_
        refine lv_ishl hx hb d_H_make_60 ?_
        refine lv_iload_n hx hb d_H_make_61 rfl (lv_at hl 3 rfl) ?_
        refine lv_iconst (v := nI 4) hx hb d_H_make_62 (by decide) ?_
        refine lv_ishl hx hb d_H_make_63 ?_
        refine lv_ior hx hb d_H_make_64 ?_
        refine k_top (y := nI (256 * qn + 16 * rn)) (hd_or' qn (by omega) rn (by omega)) ?_
        refine k_ist (ws' := (xW x aw af am ab ao ar ap az cI cL cZ N B T O C R rf (upd w T (nI (256 * qn + 16 * rn))) f bs os rt op sn)) hx hb hK hP hD hS 1 0 rfl rfl (by omega) (by omega) rfl d_H_make_65 (fun H locs hP hD hS => ?_)
        refine lv_aload_n hx hb d_H_make_66 rfl (lv_at hl 2 rfl) ?_
        refine lv_dup hx hb d_H_make_67 rfl ?_
        refine k_get S i_H hK hP 0 rfl rfl 8 (by decide) tb_48 rfl rfl d_H_make_68 ?_
        refine lv_iload_n hx hb d_H_make_71 rfl (lv_at hl 1 rfl) ?_
        refine k_add hx hb d_H_make_72 ?_
        refine k_top (y := nI (T + 1 + rn + qn)) (congrArg nI (by omega)) ?_
        refine k_put (ws' := (xW x aw af am ab ao ar ap az cI cL cZ N B (T + 1 + rn + qn) O C R rf (upd w T (nI (256 * qn + 16 * rn))) f bs os rt op sn)) S i_H t_H_ok n_H hK hP hD hS 0 rfl rfl 8 (by decide) tb_48 rfl rfl rfl rfl (Nat.le_of_ble_eq_true rfl) rfl d_H_make_73 (fun H locs hP hD hS => ?_)
        refine lv_aload_n hx hb d_H_make_76 rfl (lv_at hl 2 rfl) ?_
        refine lv_dup hx hb d_H_make_77 rfl ?_
        refine k_get S i_H hK hP 0 rfl rfl 9 (by decide) tb_49 rfl rfl d_H_make_78 ?_
        refine lv_iconst (v := nI 1) hx hb d_H_make_81 (by decide) ?_
        refine k_add hx hb d_H_make_82 ?_
        refine k_put (ws' := (xW x aw af am ab ao ar ap az cI cL cZ N B (T + 1 + rn + qn) (O + 1) C R rf (upd w T (nI (256 * qn + 16 * rn))) f bs os rt op sn)) S i_H t_H_ok n_H hK hP hD hS 0 rfl rfl 9 (by decide) tb_49 rfl rfl rfl rfl (Nat.le_of_ble_eq_true rfl) rfl d_H_make_83 (fun H locs hP hD hS => ?_)
        refine lv_iload hx hb d_H_make_86 (lv_at hl 0 rfl) ?_
        exact k_mret S hr hlocks (T + 1 + rn + qn, O + 1, upd w T (nI (256 * qn + 16 * rn))) (by unfold mkS; rw [c1, c2, hdN_nI (by omega), hdN_nI (by omega)]; show _ = if T + rn + qn ≤ N then _ else _; rw [if_pos (by omega)]) hP hD hS d_H_make_88
      · refine lv_iconst (v := nI 0) hx hb d_H_make_43 (by decide) ?_
        exact k_mret S hr hlocks (T, O, w) (by unfold mkS; rw [c1, c2, hdN_nI (by omega), hdN_nI (by omega)]; show _ = if T + rn + qn ≤ N then _ else _; rw [if_neg (by omega)]; rfl) hP hD hS d_H_make_44
    · refine lv_iconst (v := (-1)) hx hb d_H_make_20 (by decide) ?_
      exact k_mret S hr hlocks (T, O, w) (by unfold mkS; rw [c1, c2]; rfl) hP hD hS d_H_make_21
set_option maxHeartbeats 4000000 in
set_option maxRecDepth 100000 in
/-- a reference is set -/
theorem c_H_refer (o k v : Int32) (hH : Hp N T w L rt) {sz : Nat} : muC l y_H_refer b_H_refer 4 (some .boolean) { frames := 3, cells := 0, slots := 0, locals := 64 } D (tyS cI cL cZ) [.ref x, .int o, .int k, .int v] sz (xW x aw af am ab ao ar ap az cI cL cZ N B T O C R rf w f bs os rt op sn) (fun u : Nat → Int32 => (xW x aw af am ab ao ar ap az cI cL cZ N B T O C R rf u f bs os rt op sn)) (fun r u => r = b2i (rfS w L o k v) ∧ u = rfW w L o k v) := by
  refine mu_of (by decide) (Nat.le_of_ble_eq_true rfl) ?_
  intro p e s m args below meth c A S hr hlocks hK hP hD hA hS ls hl
  have hx := S.1
  have hb := S.2.1
  have hl : lv_has ls 4 [(0, .ref x), (1, .int o), (2, .int k), (3, .int v)] := hl
  have hN := hH.N
  have hT := hH.T
  refine lv_aload_n hx hb d_H_refer_0 rfl (lv_at hl 0 rfl) ?_
  refine lv_iload_n hx hb d_H_refer_1 rfl (lv_at hl 1 rfl) ?_
  refine k_roV (np := 1) (As := [.int o]) (rest := []) S (c_H_isObject hH o) (gd_V tb_107 tb_81 tb_82 tb_1 tb_83) hK hP rfl rfl (by decide +kernel) rfl ⟨rfl, rfl⟩ ⟨Nat.le_of_ble_eq_true rfl, Nat.le_of_ble_eq_true rfl⟩ hl.1 rfl (Nat.le_of_ble_eq_true rfl) d_H_refer_2 ⟨Nat.zero_le _, Nat.zero_le _⟩ (fun v1 hv1 => ?_)
  subst hv1
  refine k_beq (tgt := 35) hx hb d_H_refer_5 (by decide) (fun c1 => ?_) (fun c1 => ?_)
  · refine lv_iconst (v := nI 0) hx hb d_H_refer_35 (by decide) ?_
    refine k_top (y := 0) (rfl) ?_
    exact k_mretz S hr hlocks (by decide) w (⟨by rw [show rfS w L o k v = false by simp [rfS, c1]]; rfl, by unfold rfW; rw [show rfS w L o k v = false by simp [rfS, c1]]; rfl⟩) hP hD hS d_H_refer_36
  · obtain ⟨t, htL, rfl, htN, ht1, ht2⟩ := isO_nat hH c1
    have hob := hH.obj htL
    have hsz : szN (w t) = 1 + rfN (w t) + plN (w t) := rfl
    refine lv_iload_n hx hb d_H_refer_8 rfl (lv_at hl 2 rfl) ?_
    refine lv_iconst (v := nI 0) hx hb d_H_refer_9 (by decide) ?_
    refine lv_aload_n hx hb d_H_refer_10 rfl (lv_at hl 0 rfl) ?_
    refine lv_iload_n hx hb d_H_refer_11 rfl (lv_at hl 1 rfl) ?_
    refine k_roV (np := 1) (As := [.int (nI t)]) (rest := [.int (nI 0), .int k]) S (c_H_references t hN.2 ht2 hob.2.2.1) (gd_V tb_88 tb_90 tp_H_references tb_1 tb_91) hK hP rfl rfl (by decide +kernel) rfl ⟨rfl, rfl⟩ ⟨Nat.le_of_ble_eq_true rfl, Nat.le_of_ble_eq_true rfl⟩ hl.1 rfl (Nat.le_of_ble_eq_true rfl) d_H_refer_12 ⟨Nat.zero_le _, Nat.zero_le _⟩ (fun v2 hv2 => ?_)
    subst hv2
    refine lv_iconst (v := nI 1) hx hb d_H_refer_15 (by decide) ?_
    refine lv_isub hx hb d_H_refer_16 ?_
    refine k_roS (np := 3) (As := [.int k, .int (nI 0), .int ((nI (rfN (w t))) - (nI 1))]) (rest := []) S (c_H_within k (nI 0) (nI (rfN (w t)) - nI 1)) (gd_S tb_100 tb_101 tb_1 tb_102) hK (hP.sub [] rfl) (by decide +kernel) rfl ⟨rfl, rfl⟩ ⟨Nat.le_of_ble_eq_true rfl, Nat.le_of_ble_eq_true rfl⟩ hl.1 rfl (Nat.le_of_ble_eq_true rfl) d_H_refer_17 ⟨Nat.zero_le _, Nat.zero_le _⟩ (fun v3 hv3 => ?_)
    subst hv3
    refine k_beq (tgt := 35) hx hb d_H_refer_20 (by decide) (fun c2 => ?_) (fun c2 => ?_)
    · refine lv_iconst (v := nI 0) hx hb d_H_refer_35 (by decide) ?_
      refine k_top (y := 0) (rfl) ?_
      exact k_mretz S hr hlocks (by decide) w (⟨by rw [show rfS w L (nI t) k v = false by simp [rfS, htN, c2]]; rfl, by unfold rfW; rw [show rfS w L (nI t) k v = false by simp [rfS, htN, c2]]; rfl⟩) hP hD hS d_H_refer_36
    · have hr16 := rfN_lt (w t)
      obtain ⟨kn, hkn, rfl⟩ := inR_m1 (by omega) c2
      have hkN : hdN (nI kn) = kn := hdN_nI (by omega)
      refine lv_iload_n hx hb d_H_refer_23 rfl (lv_at hl 3 rfl) ?_
      refine lv_if_eq (tgt := 37) hx hb d_H_refer_24 (by decide) (fun c3 => ?_) (fun c3 => ?_)
      · refine lv_aload_n hx hb d_H_refer_37 rfl (lv_at hl 0 rfl) ?_
        refine k_get S i_H hK hP 0 rfl rfl 2 (by decide) tb_42 rfl rfl d_H_refer_38 ?_
        refine lv_iload_n hx hb d_H_refer_41 rfl (lv_at hl 1 rfl) ?_
        refine lv_iconst (v := nI 1) hx hb d_H_refer_42 (by decide) ?_
        refine k_add hx hb d_H_refer_43 ?_
        refine lv_iload_n hx hb d_H_refer_44 rfl (lv_at hl 2 rfl) ?_
        refine k_add hx hb d_H_refer_45 ?_
        refine lv_iload_n hx hb d_H_refer_46 rfl (lv_at hl 3 rfl) ?_
        refine k_ist (ws' := (xW x aw af am ab ao ar ap az cI cL cZ N B T O C R rf (upd w ((t + 1) + kn) v) f bs os rt op sn)) hx hb hK hP hD hS 1 0 rfl rfl (by omega) (by omega) rfl d_H_refer_47 (fun H locs hP hD hS => ?_)
        refine lv_iconst (v := nI 1) hx hb d_H_refer_48 (by decide) ?_
        refine k_top (y := 1) (rfl) ?_
        exact k_mretz S hr hlocks (by decide) (upd w (t + 1 + kn) v) (⟨by rw [show rfS w L (nI t) (nI kn) v = true by simp [rfS, c1, htN, c2, isLd, c3]]; rfl, by unfold rfW; rw [show rfS w L (nI t) (nI kn) v = true by simp [rfS, c1, htN, c2, isLd, c3], htN, hkN]; rfl⟩) hP hD hS d_H_refer_49
      · refine lv_aload_n hx hb d_H_refer_27 rfl (lv_at hl 0 rfl) ?_
        refine lv_iload_n hx hb d_H_refer_28 rfl (lv_at hl 3 rfl) ?_
        refine k_roV (np := 1) (As := [.int v]) (rest := []) S (c_H_isObject hH v) (gd_V tb_107 tb_81 tb_82 tb_1 tb_83) hK hP rfl rfl (by decide +kernel) rfl ⟨rfl, rfl⟩ ⟨Nat.le_of_ble_eq_true rfl, Nat.le_of_ble_eq_true rfl⟩ hl.1 rfl (Nat.le_of_ble_eq_true rfl) d_H_refer_29 ⟨Nat.zero_le _, Nat.zero_le _⟩ (fun v4 hv4 => ?_)
        subst hv4
        refine k_bne (tgt := 37) hx hb d_H_refer_32 (by decide) (fun c4 => ?_) (fun c4 => ?_)
        · refine lv_aload_n hx hb d_H_refer_37 rfl (lv_at hl 0 rfl) ?_
          refine k_get S i_H hK hP 0 rfl rfl 2 (by decide) tb_42 rfl rfl d_H_refer_38 ?_
          refine lv_iload_n hx hb d_H_refer_41 rfl (lv_at hl 1 rfl) ?_
          refine lv_iconst (v := nI 1) hx hb d_H_refer_42 (by decide) ?_
          refine k_add hx hb d_H_refer_43 ?_
          refine lv_iload_n hx hb d_H_refer_44 rfl (lv_at hl 2 rfl) ?_
          refine k_add hx hb d_H_refer_45 ?_
          refine lv_iload_n hx hb d_H_refer_46 rfl (lv_at hl 3 rfl) ?_
          refine k_ist (ws' := (xW x aw af am ab ao ar ap az cI cL cZ N B T O C R rf (upd w ((t + 1) + kn) v) f bs os rt op sn)) hx hb hK hP hD hS 1 0 rfl rfl (by omega) (by omega) rfl d_H_refer_47 (fun H locs hP hD hS => ?_)
          refine lv_iconst (v := nI 1) hx hb d_H_refer_48 (by decide) ?_
          refine k_top (y := 1) (rfl) ?_
          exact k_mretz S hr hlocks (by decide) (upd w (t + 1 + kn) v) (⟨by rw [show rfS w L (nI t) (nI kn) v = true by simp [rfS, c1, htN, c2, isLd, c4]]; rfl, by unfold rfW; rw [show rfS w L (nI t) (nI kn) v = true by simp [rfS, c1, htN, c2, isLd, c4], htN, hkN]; rfl⟩) hP hD hS d_H_refer_49
        · refine lv_iconst (v := nI 0) hx hb d_H_refer_35 (by decide) ?_
          refine k_top (y := 0) (rfl) ?_
          exact k_mretz S hr hlocks (by decide) w (⟨by rw [show rfS w L (nI t) (nI kn) v = false by simp [rfS, isLd, c3, c4]]; rfl, by unfold rfW; rw [show rfS w L (nI t) (nI kn) v = false by simp [rfS, isLd, c3, c4]]; rfl⟩) hP hD hS d_H_refer_36
set_option maxHeartbeats 4000000 in
set_option maxRecDepth 100000 in
/-- a plain word is set -/
theorem c_H_set (o k v : Int32) (hH : Hp N T w L rt) {sz : Nat} : muC l y_H_set b_H_set 4 (some .boolean) { frames := 3, cells := 0, slots := 0, locals := 64 } D (tyS cI cL cZ) [.ref x, .int o, .int k, .int v] sz (xW x aw af am ab ao ar ap az cI cL cZ N B T O C R rf w f bs os rt op sn) (fun u : Nat → Int32 => (xW x aw af am ab ao ar ap az cI cL cZ N B T O C R rf u f bs os rt op sn)) (fun r u => r = b2i (stS w L o k) ∧ u = stW w L o k v) := by
  refine mu_of (by decide) (Nat.le_of_ble_eq_true rfl) ?_
  intro p e s m args below meth c A S hr hlocks hK hP hD hA hS ls hl
  have hx := S.1
  have hb := S.2.1
  have hl : lv_has ls 4 [(0, .ref x), (1, .int o), (2, .int k), (3, .int v)] := hl
  have hN := hH.N
  have hT := hH.T
  refine lv_aload_n hx hb d_H_set_0 rfl (lv_at hl 0 rfl) ?_
  refine lv_iload_n hx hb d_H_set_1 rfl (lv_at hl 1 rfl) ?_
  refine k_roV (np := 1) (As := [.int o]) (rest := []) S (c_H_isObject hH o) (gd_V tb_107 tb_81 tb_82 tb_1 tb_83) hK hP rfl rfl (by decide +kernel) rfl ⟨rfl, rfl⟩ ⟨Nat.le_of_ble_eq_true rfl, Nat.le_of_ble_eq_true rfl⟩ hl.1 rfl (Nat.le_of_ble_eq_true rfl) d_H_set_2 ⟨Nat.zero_le _, Nat.zero_le _⟩ (fun v1 hv1 => ?_)
  subst hv1
  refine k_beq (tgt := 23) hx hb d_H_set_5 (by decide) (fun c1 => ?_) (fun c1 => ?_)
  · refine lv_iconst (v := nI 0) hx hb d_H_set_23 (by decide) ?_
    refine k_top (y := 0) (rfl) ?_
    exact k_mretz S hr hlocks (by decide) w (⟨by rw [show stS w L o k = false by simp [stS, c1]]; rfl, by unfold stW; rw [show stS w L o k = false by simp [stS, c1]]; rfl⟩) hP hD hS d_H_set_24
  · obtain ⟨t, htL, rfl, htN, ht1, ht2⟩ := isO_nat hH c1
    have hob := hH.obj htL
    have hsz : szN (w t) = 1 + rfN (w t) + plN (w t) := rfl
    refine lv_iload_n hx hb d_H_set_8 rfl (lv_at hl 2 rfl) ?_
    refine lv_iconst (v := nI 0) hx hb d_H_set_9 (by decide) ?_
    refine lv_aload_n hx hb d_H_set_10 rfl (lv_at hl 0 rfl) ?_
    refine lv_iload_n hx hb d_H_set_11 rfl (lv_at hl 1 rfl) ?_
    refine k_roV (np := 1) (As := [.int (nI t)]) (rest := [.int (nI 0), .int k]) S (c_H_plain t hN.2 ht2 hob.2.2.1) (gd_V tb_92 tb_94 tp_H_plain tb_1 tb_95) hK hP rfl rfl (by decide +kernel) rfl ⟨rfl, rfl⟩ ⟨Nat.le_of_ble_eq_true rfl, Nat.le_of_ble_eq_true rfl⟩ hl.1 rfl (Nat.le_of_ble_eq_true rfl) d_H_set_12 ⟨Nat.zero_le _, Nat.zero_le _⟩ (fun v2 hv2 => ?_)
    subst hv2
    refine lv_iconst (v := nI 1) hx hb d_H_set_15 (by decide) ?_
    refine lv_isub hx hb d_H_set_16 ?_
    refine k_roS (np := 3) (As := [.int k, .int (nI 0), .int ((nI (plN (w t))) - (nI 1))]) (rest := []) S (c_H_within k (nI 0) (nI (plN (w t)) - nI 1)) (gd_S tb_100 tb_101 tb_1 tb_102) hK (hP.sub [] rfl) (by decide +kernel) rfl ⟨rfl, rfl⟩ ⟨Nat.le_of_ble_eq_true rfl, Nat.le_of_ble_eq_true rfl⟩ hl.1 rfl (Nat.le_of_ble_eq_true rfl) d_H_set_17 ⟨Nat.zero_le _, Nat.zero_le _⟩ (fun v3 hv3 => ?_)
    subst hv3
    refine k_bne (tgt := 25) hx hb d_H_set_20 (by decide) (fun c2 => ?_) (fun c2 => ?_)
    · obtain ⟨kn, hkn, rfl⟩ := inR_m1 (by omega) c2
      have hkN : hdN (nI kn) = kn := hdN_nI (by omega)
      refine lv_aload_n hx hb d_H_set_25 rfl (lv_at hl 0 rfl) ?_
      refine k_get S i_H hK hP 0 rfl rfl 2 (by decide) tb_42 rfl rfl d_H_set_26 ?_
      refine lv_iload_n hx hb d_H_set_29 rfl (lv_at hl 1 rfl) ?_
      refine lv_iconst (v := nI 1) hx hb d_H_set_30 (by decide) ?_
      refine k_add hx hb d_H_set_31 ?_
      refine lv_aload_n hx hb d_H_set_32 rfl (lv_at hl 0 rfl) ?_
      refine lv_iload_n hx hb d_H_set_33 rfl (lv_at hl 1 rfl) ?_
      refine k_roV (np := 1) (As := [.int (nI t)]) (rest := [.int (nI (t + 1)), .ref aw]) S (c_H_references t hN.2 ht2 hob.2.2.1) (gd_V tb_88 tb_90 tp_H_references tb_1 tb_91) hK hP rfl rfl (by decide +kernel) rfl ⟨rfl, rfl⟩ ⟨Nat.le_of_ble_eq_true rfl, Nat.le_of_ble_eq_true rfl⟩ hl.1 rfl (Nat.le_of_ble_eq_true rfl) d_H_set_34 ⟨Nat.zero_le _, Nat.zero_le _⟩ (fun v4 hv4 => ?_)
      subst hv4
      refine k_add hx hb d_H_set_37 ?_
      refine lv_iload_n hx hb d_H_set_38 rfl (lv_at hl 2 rfl) ?_
      refine k_add hx hb d_H_set_39 ?_
      refine lv_iload_n hx hb d_H_set_40 rfl (lv_at hl 3 rfl) ?_
      refine k_ist (ws' := (xW x aw af am ab ao ar ap az cI cL cZ N B T O C R rf (upd w (((t + 1) + (rfN (w t))) + kn) v) f bs os rt op sn)) hx hb hK hP hD hS 1 0 rfl rfl (by omega) (by omega) rfl d_H_set_41 (fun H locs hP hD hS => ?_)
      refine lv_iconst (v := nI 1) hx hb d_H_set_42 (by decide) ?_
      refine k_top (y := 1) (rfl) ?_
      exact k_mretz S hr hlocks (by decide) (upd w (t + 1 + rfN (w t) + kn) v) (⟨by rw [show stS w L (nI t) (nI kn) = true by simp [stS, c1, htN, c2]]; rfl, by unfold stW; rw [show stS w L (nI t) (nI kn) = true by simp [stS, c1, htN, c2], htN, hkN]; rfl⟩) hP hD hS d_H_set_43
    · refine lv_iconst (v := nI 0) hx hb d_H_set_23 (by decide) ?_
      refine k_top (y := 0) (rfl) ?_
      exact k_mretz S hr hlocks (by decide) w (⟨by rw [show stS w L (nI t) k = false by simp [stS, htN, c2]]; rfl, by unfold stW; rw [show stS w L (nI t) k = false by simp [stS, htN, c2]]; rfl⟩) hP hD hS d_H_set_24
set_option maxHeartbeats 4000000 in
set_option maxRecDepth 100000 in
/-- a root is set -/
theorem c_H_root (k o : Int32) (hH : Hp N T w L rt) {sz : Nat} : muC l y_H_root b_H_root 3 (some .boolean) { frames := 3, cells := 0, slots := 0, locals := 64 } D (tyS cI cL cZ) [.ref x, .int k, .int o] sz (xW x aw af am ab ao ar ap az cI cL cZ N B T O C R rf w f bs os rt op sn) (fun u : Nat → Int32 => (xW x aw af am ab ao ar ap az cI cL cZ N B T O C R rf w f bs os u op sn)) (fun r u => r = b2i (roS L k o) ∧ u = roW rt L k o) := by
  refine mu_of (by decide) (Nat.le_of_ble_eq_true rfl) ?_
  intro p e s m args below meth c A S hr hlocks hK hP hD hA hS ls hl
  have hx := S.1
  have hb := S.2.1
  have hl : lv_has ls 3 [(0, .ref x), (1, .int k), (2, .int o)] := hl
  refine lv_iload_n hx hb d_H_root_0 rfl (lv_at hl 1 rfl) ?_
  refine lv_iconst (v := nI 0) hx hb d_H_root_1 (by decide) ?_
  refine lv_bipush (v := nI 7) hx hb d_H_root_2 (by decide) ?_
  refine k_roS (np := 3) (As := [.int k, .int (nI 0), .int (nI 7)]) (rest := []) S (c_H_within k (nI 0) (nI 7)) (gd_S tb_100 tb_101 tb_1 tb_102) hK (hP.sub [] rfl) (by decide +kernel) rfl ⟨rfl, rfl⟩ ⟨Nat.le_of_ble_eq_true rfl, Nat.le_of_ble_eq_true rfl⟩ hl.1 rfl (Nat.le_of_ble_eq_true rfl) d_H_root_4 ⟨Nat.zero_le _, Nat.zero_le _⟩ (fun v1 hv1 => ?_)
  subst hv1
  refine k_beq (tgt := 22) hx hb d_H_root_7 (by decide) (fun c1 => ?_) (fun c1 => ?_)
  · refine lv_iconst (v := nI 0) hx hb d_H_root_22 (by decide) ?_
    refine k_top (y := 0) (rfl) ?_
    exact k_mretz S hr hlocks (by decide) rt (⟨by rw [show roS L k o = false by simp [roS, c1]]; rfl, by unfold roW; rw [show roS L k o = false by simp [roS, c1]]; rfl⟩) hP hD hS d_H_root_23
  · obtain ⟨kn, hkn, rfl⟩ := inR_nat (by omega) c1
    have hkN : hdN (nI kn) = kn := hdN_nI (by omega)
    refine lv_iload_n hx hb d_H_root_10 rfl (lv_at hl 2 rfl) ?_
    refine lv_if_eq (tgt := 24) hx hb d_H_root_11 (by decide) (fun c2 => ?_) (fun c2 => ?_)
    · refine lv_aload_n hx hb d_H_root_24 rfl (lv_at hl 0 rfl) ?_
      refine k_get S i_H hK hP 0 rfl rfl 5 (by decide) tb_45 rfl rfl d_H_root_25 ?_
      refine lv_iload_n hx hb d_H_root_28 rfl (lv_at hl 1 rfl) ?_
      refine lv_iload_n hx hb d_H_root_29 rfl (lv_at hl 2 rfl) ?_
      refine k_ist (ws' := (xW x aw af am ab ao ar ap az cI cL cZ N B T O C R rf w f bs os (upd rt kn o) op sn)) hx hb hK hP hD hS 6 0 rfl rfl (by omega) (by omega) rfl d_H_root_30 (fun H locs hP hD hS => ?_)
      refine lv_iconst (v := nI 1) hx hb d_H_root_31 (by decide) ?_
      refine k_top (y := 1) (rfl) ?_
      exact k_mretz S hr hlocks (by decide) (upd rt kn o) (⟨by rw [show roS L (nI kn) o = true by simp [roS, c1, isLd, c2]]; rfl, by unfold roW; rw [show roS L (nI kn) o = true by simp [roS, c1, isLd, c2], hkN]; rfl⟩) hP hD hS d_H_root_32
    · refine lv_aload_n hx hb d_H_root_14 rfl (lv_at hl 0 rfl) ?_
      refine lv_iload_n hx hb d_H_root_15 rfl (lv_at hl 2 rfl) ?_
      refine k_roV (np := 1) (As := [.int o]) (rest := []) S (c_H_isObject hH o) (gd_V tb_107 tb_81 tb_82 tb_1 tb_83) hK hP rfl rfl (by decide +kernel) rfl ⟨rfl, rfl⟩ ⟨Nat.le_of_ble_eq_true rfl, Nat.le_of_ble_eq_true rfl⟩ hl.1 rfl (Nat.le_of_ble_eq_true rfl) d_H_root_16 ⟨Nat.zero_le _, Nat.zero_le _⟩ (fun v2 hv2 => ?_)
      subst hv2
      refine k_bne (tgt := 24) hx hb d_H_root_19 (by decide) (fun c3 => ?_) (fun c3 => ?_)
      · refine lv_aload_n hx hb d_H_root_24 rfl (lv_at hl 0 rfl) ?_
        refine k_get S i_H hK hP 0 rfl rfl 5 (by decide) tb_45 rfl rfl d_H_root_25 ?_
        refine lv_iload_n hx hb d_H_root_28 rfl (lv_at hl 1 rfl) ?_
        refine lv_iload_n hx hb d_H_root_29 rfl (lv_at hl 2 rfl) ?_
        refine k_ist (ws' := (xW x aw af am ab ao ar ap az cI cL cZ N B T O C R rf w f bs os (upd rt kn o) op sn)) hx hb hK hP hD hS 6 0 rfl rfl (by omega) (by omega) rfl d_H_root_30 (fun H locs hP hD hS => ?_)
        refine lv_iconst (v := nI 1) hx hb d_H_root_31 (by decide) ?_
        refine k_top (y := 1) (rfl) ?_
        exact k_mretz S hr hlocks (by decide) (upd rt kn o) (⟨by rw [show roS L (nI kn) o = true by simp [roS, c1, isLd, c3]]; rfl, by unfold roW; rw [show roS L (nI kn) o = true by simp [roS, c1, isLd, c3], hkN]; rfl⟩) hP hD hS d_H_root_32
      · refine lv_iconst (v := nI 0) hx hb d_H_root_22 (by decide) ?_
        refine k_top (y := 0) (rfl) ?_
        exact k_mretz S hr hlocks (by decide) rt (⟨by rw [show roS L (nI kn) o = false by simp [roS, isLd, c2, c3]]; rfl, by unfold roW; rw [show roS L (nI kn) o = false by simp [roS, isLd, c2, c3]]; rfl⟩) hP hD hS d_H_root_23
end H3
end
section
/-! THE PLAIN LAW of 'reach': a row of different objects, seen and in a row -/
def SO (N : Nat) (O : List Nat) (op sn : Nat → Int32) : Prop := O.Nodup ∧ (∀ i, i < O.length → op i = nI (O.getD i 0)) ∧ (∀ a, a ≤ N → sn a = b2i (decide (a ∈ O)))
theorem SO_nil {N : Nat} {op sn : Nat → Int32} (h : ∀ j, j < N + 1 → sn j = 0) : SO N [] op sn := ⟨List.nodup_nil, fun i hi => by simp at hi, fun a ha => by rw [h a (by omega)]; rfl⟩
theorem SO_len {N : Nat} {O L : List Nat} {op sn : Nat → Int32} (h : SO N O op sn) (hs : ∀ a ∈ O, a ∈ L) (hL : L.length ≤ N) : O.length ≤ N := Nat.le_trans (h.1.length_le_of_subset hs) hL
def metL (O : List Nat) (t : Nat) : List Nat := if t = 0 ∨ t ∈ O then O else O ++ [t]
theorem SO_met {N : Nat} {O : List Nat} {op sn : Nat → Int32} {t : Nat} (h : SO N O op sn) (hn : t ∉ O) : SO N (O ++ [t]) (upd op O.length (nI t)) (upd sn t (nI 1)) := by
  refine ⟨?_, fun i hi => ?_, fun a ha => ?_⟩
  · rw [List.nodup_append]
    exact ⟨h.1, List.nodup_cons.mpr ⟨List.not_mem_nil, List.nodup_nil⟩, fun a ha b hb => by rw [List.mem_singleton.mp hb]; exact fun e => hn (e ▸ ha)⟩
  · by_cases e : i = O.length
    · rw [e, pk_us]; simp
    · have hi2 : i < O.length := by simp at hi; omega
      rw [pk_un e, h.2.1 i hi2, List.getD_eq_getElem?_getD, List.getD_eq_getElem?_getD, List.getElem?_append_left hi2]
  · by_cases e : a = t
    · rw [e, pk_us]; simp [b2i]; rfl
    · rw [pk_un e, h.2.2 a ha]; simp [e]
/-- a longer row -/
def Ext (O O' : List Nat) : Prop := ∃ X, O' = O ++ X
theorem Ext.refl (O : List Nat) : Ext O O := ⟨[], by simp⟩
theorem Ext.trans {A B C : List Nat} (h : Ext A B) (g : Ext B C) : Ext A C := by
  obtain ⟨X, rfl⟩ := h
  obtain ⟨Y, rfl⟩ := g
  exact ⟨X ++ Y, by simp⟩
theorem Ext.mem {A B : List Nat} (h : Ext A B) {a : Nat} (ha : a ∈ A) : a ∈ B := by
  obtain ⟨X, rfl⟩ := h
  exact List.mem_append_left _ ha
theorem Ext.len {A B : List Nat} (h : Ext A B) : A.length ≤ B.length := by
  obtain ⟨X, rfl⟩ := h
  simp
theorem Ext.get {A B : List Nat} (h : Ext A B) {i : Nat} (hi : i < A.length) : B.getD i 0 = A.getD i 0 := by
  obtain ⟨X, rfl⟩ := h
  rw [List.getD_eq_getElem?_getD, List.getD_eq_getElem?_getD, List.getElem?_append_left hi]
theorem metL_ext (O : List Nat) (t : Nat) : Ext O (metL O t) := by
  unfold metL
  by_cases h : t = 0 ∨ t ∈ O
  · rw [if_pos h]; exact Ext.refl O
  · rw [if_neg h]; exact ⟨[t], rfl⟩
theorem metL_in {O : List Nat} {t : Nat} (ht : t ≠ 0) : t ∈ metL O t := by
  unfold metL
  by_cases h : t = 0 ∨ t ∈ O
  · rw [if_pos h]
    rcases h with h | h
    · exact absurd h ht
    · exact h
  · rw [if_neg h]; exact List.mem_append_right _ List.mem_cons_self
theorem mem_metL {O : List Nat} {t a : Nat} (h : a ∈ metL O t) : a ∈ O ∨ (a = t ∧ t ≠ 0) := by
  unfold metL at h
  by_cases q : t = 0 ∨ t ∈ O
  · rw [if_pos q] at h; exact Or.inl h
  · rw [if_neg q] at h
    rcases List.mem_append.mp h with h | h
    · exact Or.inl h
    · exact Or.inr ⟨List.mem_singleton.mp h, fun e => q (Or.inl e)⟩
theorem getD_mem {O : List Nat} {i : Nat} (h : i < O.length) : O.getD i 0 ∈ O := by
  rw [List.getD_eq_getElem?_getD, List.getElem?_eq_getElem h]
  exact List.getElem_mem h
theorem mem_getD {O : List Nat} {a : Nat} (h : a ∈ O) : ∃ i, i < O.length ∧ O.getD i 0 = a := by
  obtain ⟨i, hi, e⟩ := List.getElem_of_mem h
  exact ⟨i, hi, by rw [List.getD_eq_getElem?_getD, List.getElem?_eq_getElem hi]; exact e⟩
/-- the first k references of o lead into O -/
def Cl (w : Nat → Int32) (L O : List Nat) (o k : Nat) : Prop := ∀ j t, j < k → t ∈ L → w (o + 1 + j) = nI t → t ∈ O
theorem Cl.ext {w : Nat → Int32} {L O O' : List Nat} {o k : Nat} (h : Cl w L O o k) (e : Ext O O') : Cl w L O' o k := fun j t h1 h2 h3 => e.mem (h j t h1 h2 h3)
def ClA (w : Nat → Int32) (L O : List Nat) (n : Nat) : Prop := ∀ i, i < n → Cl w L O (O.getD i 0) (rfN (w (O.getD i 0)))
theorem ClA.ext {w : Nat → Int32} {L O O' : List Nat} {n : Nat} (h : ClA w L O n) (e : Ext O O') (hn : n ≤ O.length) : ClA w L O' n := fun i hi => by
  rw [e.get (by omega)]
  exact (h i hi).ext e
theorem ClA.succ {w : Nat → Int32} {L O : List Nat} {n : Nat} (h : ClA w L O n) (h2 : Cl w L O (O.getD n 0) (rfN (w (O.getD n 0)))) : ClA w L O (n + 1) := fun i hi => by
  by_cases e : i = n
  · rw [e]; exact h2
  · exact h i (by omega)
theorem nI_inj {N T : Nat} {w : Nat → Int32} {L : List Nat} {rt : Nat → Int32} (hH : Hp N T w L rt) {a t : Nat} (ha : a ∈ L) (ht : t ≤ N) (e : nI t = nI a) : t = a := by
  have h1 := hH.obj ha
  have h2 := hH.N
  exact (nI_eq (by omega) (by omega)).mp e
/-- one more reference of o is met -/
theorem Cl.met {N T : Nat} {w : Nat → Int32} {L : List Nat} {rt : Nat → Int32} (hH : Hp N T w L rt) {O : List Nat} {o k t : Nat} (h : Cl w L O o k) (e : w (o + 1 + k) = nI t) (ht : t ≤ N) : Cl w L (metL O t) o (k + 1) := fun j t' h1 h2 h3 => by
  by_cases q : j = k
  · rw [q, e] at h3
    have := nI_inj hH h2 ht h3
    subst this
    exact metL_in (by have := hH.obj h2; omega)
  · exact (metL_ext O t).mem (h j t' (by omega) h2 h3)
/-- the roots -/
theorem roots_met {N T : Nat} {w : Nat → Int32} {L : List Nat} {rt : Nat → Int32} (hH : Hp N T w L rt) {O : List Nat} {k t : Nat} (h : ∀ j a, j < k → a ∈ L → rt j = nI a → a ∈ O) (e : rt k = nI t) (ht : t ≤ N) : ∀ j a, j < k + 1 → a ∈ L → rt j = nI a → a ∈ metL O t := fun j a h1 h2 h3 => by
  by_cases q : j = k
  · rw [q, e] at h3
    have := nI_inj hH h2 ht h3
    subst this
    exact metL_in (by have := hH.obj h2; omega)
  · exact (metL_ext O t).mem (h j a (by omega) h2 h3)
theorem roots_all {w : Nat → Int32} {L : List Nat} {rt : Nat → Int32} {O : List Nat} (h : ∀ j a, j < 8 → a ∈ L → rt j = nI a → a ∈ O) (h2 : ∀ a ∈ O, Rch w rt L 0 a) : ∀ a, a ∈ O ↔ Rch w rt L 0 a := fun a => ⟨h2 a, fun ⟨h3, k, h4, h5⟩ => h k a h4 h3 h5⟩
/-- a level is done -/
theorem level_done {w : Nat → Int32} {L : List Nat} {rt : Nat → Int32} {O O' : List Nat} {s : Nat} (hO : ∀ a, a ∈ O ↔ Rch w rt L s a) (e : Ext O O') (h2 : ∀ a ∈ O', Rch w rt L (s + 1) a) (hc : ClA w L O' O.length) : ∀ a, a ∈ O' ↔ Rch w rt L (s + 1) a := fun a => ⟨h2 a, fun h => by
  rcases h with h | ⟨h3, b, k, h4, h5, h6⟩
  · exact e.mem ((hO a).mpr h)
  · obtain ⟨i, hi, hb⟩ := mem_getD ((hO b).mpr h4)
    have := hc i hi
    rw [e.get hi, hb] at this
    exact this k a h5 h3 h6⟩
theorem level_end {w : Nat → Int32} {L : List Nat} {rt : Nat → Int32} {O : List Nat} {s S : Nat} (hO : ∀ a, a ∈ O ↔ Rch w rt L s a) (hc : ClA w L O O.length) (hs : s ≤ S) : ∀ a, a ∈ O ↔ Rch w rt L S a := fun a => ⟨fun h => ((hO a).mp h).mono hs, fun h => (hO a).mpr (Rch.stop (fun x hx => by
  rcases hx with hx | ⟨h3, b, k, h4, h5, h6⟩
  · exact hx
  · obtain ⟨i, hi, hb⟩ := mem_getD ((hO b).mpr h4)
    have := hc i hi
    rw [hb] at this
    exact (hO x).mp (this k x h5 h3 h6)) S a h)⟩
theorem rch_next {w : Nat → Int32} {L : List Nat} {rt : Nat → Int32} {O : List Nat} {s o k t : Nat} (h : ∀ a ∈ O, Rch w rt L (s + 1) a) (ho : Rch w rt L s o) (hk : k < rfN (w o)) (e : w (o + 1 + k) = nI t) (ht : t = 0 ∨ t ∈ L) : ∀ a ∈ metL O t, Rch w rt L (s + 1) a := fun a ha => by
  rcases mem_metL ha with q | ⟨q1, q2⟩
  · exact h a q
  · rcases ht with ht | ht
    · exact absurd ht q2
    · subst q1
      exact Or.inr ⟨ht, o, k, ho, hk, e⟩
theorem root_next {w : Nat → Int32} {L : List Nat} {rt : Nat → Int32} {O : List Nat} {k t : Nat} (h : ∀ a ∈ O, Rch w rt L 0 a) (hk : k < 8) (e : rt k = nI t) (ht : t = 0 ∨ t ∈ L) : ∀ a ∈ metL O t, Rch w rt L 0 a := fun a ha => by
  rcases mem_metL ha with q | ⟨q1, q2⟩
  · exact h a q
  · rcases ht with ht | ht
    · exact absurd ht q2
    · subst q1
      exact ⟨ht, k, hk, e⟩
end
section
/-! THE CLASS: marking -/
noncomputable def nrS (w rt : Nat → Int32) (L : List Nat) (k : Int32) : Int32 := if inR k (nI 0) (nI 100) then nI (rchN w rt L (hdN k)) else -1
section H4
variable {l : Launch} {D : va_G} {x aw af am ab ao ar ap az : Nat} {cI cL cZ : ClassId} {N B T O C R : Nat} {rf : Int32} {w f : Nat → Int32} {bs : Nat → Int64} {os rt op sn : Nat → Int32}
variable {L : List Nat}
set_option maxHeartbeats 4000000 in
set_option maxRecDepth 100000 in
/-- an object is met -/
theorem c_H_meet (t : Nat) (O1 : List Nat) (hSO : SO N O1 op sn) (ht : t ≤ N) (hO : O1.length ≤ N) (hN : N ≤ 4000) {sz : Nat} : muC l y_H_meet b_H_meet 3 (some .int) { frames := 0, cells := 0, slots := 0, locals := 0 } D (tyS cI cL cZ) [.ref x, .int (nI t), .int (nI O1.length)] sz (xW x aw af am ab ao ar ap az cI cL cZ N B T O C R rf w f bs os rt op sn) (fun u : List Nat × (Nat → Int32) × (Nat → Int32) => (xW x aw af am ab ao ar ap az cI cL cZ N B T O C R rf w f bs os rt u.2.1 u.2.2)) (fun v u => v = nI u.1.length ∧ SO N u.1 u.2.1 u.2.2 ∧ u.1 = metL O1 t) := by
  refine mu_of (by decide) (Nat.le_of_ble_eq_true rfl) ?_
  intro p e s m args below meth c A S hr hlocks hK hP hD hA hS ls hl
  have hx := S.1
  have hb := S.2.1
  have hl : lv_has ls 3 [(0, .ref x), (1, .int (nI t)), (2, .int (nI O1.length))] := hl
  refine lv_iload_n hx hb d_H_meet_0 rfl (lv_at hl 1 rfl) ?_
  refine k_zeq (tgt := 13) hx hb d_H_meet_1 (by decide) (by omega) (fun c1 => ?_) (fun c1 => ?_)
  · refine lv_iload_n hx hb d_H_meet_13 rfl (lv_at hl 2 rfl) ?_
    exact k_mret S hr hlocks (O1, op, sn) (⟨rfl, hSO, by unfold metL; rw [if_pos (Or.inl c1)]⟩) hP hD hS d_H_meet_14
  · refine lv_aload_n hx hb d_H_meet_4 rfl (lv_at hl 0 rfl) ?_
    refine k_get S i_H hK hP 0 rfl rfl 7 (by decide) tb_47 rfl rfl d_H_meet_5 ?_
    refine lv_iload_n hx hb d_H_meet_8 rfl (lv_at hl 1 rfl) ?_
    refine k_zld hx hb hK hP 8 2 rfl rfl (by omega) (by omega) d_H_meet_9 ?_
    refine k_top (y := b2i (decide (t ∈ O1))) (hSO.2.2 t ht) ?_
    refine k_beq (tgt := 15) hx hb d_H_meet_10 (by decide) (fun c2 => ?_) (fun c2 => ?_)
    · have c2 : t ∉ O1 := of_decide_eq_false c2
      refine lv_aload_n hx hb d_H_meet_15 rfl (lv_at hl 0 rfl) ?_
      refine k_get S i_H hK hP 0 rfl rfl 7 (by decide) tb_47 rfl rfl d_H_meet_16 ?_
      refine lv_iload_n hx hb d_H_meet_19 rfl (lv_at hl 1 rfl) ?_
      refine lv_iconst (v := nI 1) hx hb d_H_meet_20 (by decide) ?_
      refine k_zst (ws' := (xW x aw af am ab ao ar ap az cI cL cZ N B T O C R rf w f bs os rt op (upd sn t (nI 1)))) hx hb hK hP hD hS 8 2 rfl rfl (by omega) (by omega) (rfl) rfl d_H_meet_21 (fun H locs hP hD hS => ?_)
      refine lv_aload_n hx hb d_H_meet_22 rfl (lv_at hl 0 rfl) ?_
      refine k_get S i_H hK hP 0 rfl rfl 6 (by decide) tb_46 rfl rfl d_H_meet_23 ?_
      refine lv_iload_n hx hb d_H_meet_26 rfl (lv_at hl 2 rfl) ?_
      refine lv_iload_n hx hb d_H_meet_27 rfl (lv_at hl 1 rfl) ?_
      refine k_ist (ws' := (xW x aw af am ab ao ar ap az cI cL cZ N B T O C R rf w f bs os rt (upd op O1.length (nI t)) (upd sn t (nI 1)))) hx hb hK hP hD hS 7 0 rfl rfl (by omega) (by omega) rfl d_H_meet_28 (fun H locs hP hD hS => ?_)
      refine lv_iload_n hx hb d_H_meet_29 rfl (lv_at hl 2 rfl) ?_
      refine lv_iconst (v := nI 1) hx hb d_H_meet_30 (by decide) ?_
      refine k_add hx hb d_H_meet_31 ?_
      exact k_mret S hr hlocks (O1 ++ [t], upd op O1.length (nI t), upd sn t (nI 1)) (⟨by simp, SO_met hSO c2, by unfold metL; rw [if_neg (fun q => q.elim (fun q => by omega) c2)]⟩) hP hD hS d_H_meet_32
    · have c2 : t ∈ O1 := of_decide_eq_true c2
      refine lv_iload_n hx hb d_H_meet_13 rfl (lv_at hl 2 rfl) ?_
      exact k_mret S hr hlocks (O1, op, sn) (⟨rfl, hSO, by unfold metL; rw [if_pos (Or.inr c2)]⟩) hP hD hS d_H_meet_14
set_option maxHeartbeats 4000000 in
set_option maxRecDepth 100000 in
/-- what is led to by at most so many steps -/
theorem c_H_reach (S0 : Nat) (hS0 : S0 ≤ 4000) (hH : Hp N T w L rt) {sz : Nat} : muC l y_H_reach b_H_reach 8 (some .int) { frames := 1, cells := 0, slots := 0, locals := 22 } D (tyS cI cL cZ) [.ref x, .int (nI S0)] sz (xW x aw af am ab ao ar ap az cI cL cZ N B T O C R rf w f bs os rt op sn) (fun u : List Nat × (Nat → Int32) × (Nat → Int32) => (xW x aw af am ab ao ar ap az cI cL cZ N B T O C R rf w f bs os rt u.2.1 u.2.2)) (fun v u => v = nI u.1.length ∧ SO N u.1 u.2.1 u.2.2 ∧ ∀ a, a ∈ u.1 ↔ Rch w rt L S0 a) := by
  refine mu_of (by decide) (Nat.le_of_ble_eq_true rfl) ?_
  intro p e s m args below meth c A S hr hlocks hK hP hD hA hS ls hl
  have hx := S.1
  have hb := S.2.1
  have hl : lv_has ls 8 [(0, .ref x), (1, .int (nI S0))] := hl
  have hN := hH.N
  have hT := hH.T
  have hLn := hH.len
  have loop3 : ∀ (n s0 at0 : Nat) (O1 : List Nat) (op1 sn1 : Nat → Int32), S0 < s0 + n → s0 ≤ S0 → SO N O1 op1 sn1 → (∀ a, a ∈ O1 ↔ Rch w rt L s0 a) → at0 ≤ O1.length → ClA w L O1 at0 → ∀ (H : Heap) (locs : List Loc), va_P D classes (xW x aw af am ab ao ar ap az cI cL cZ N B T O C R rf w f bs os rt op1 sn1) H → va_D A (xW x aw af am ab ao ar ap az cI cL cZ N B T O C R rf w f bs os rt op1 sn1) → va_S A s.heap H locs → ∀ ls : Array Slot, lv_has ls 8 [(4, .int (nI s0)), (3, .int (nI at0)), (2, .int (nI O1.length)), (0, .ref x), (1, .int (nI S0))] → W p l e ({ frames := 1, cells := 0, slots := 0, locals := 22 } : Room) s m args below meth c H locs 0 0 (MQ below (va_Qi (fun v u => v = nI u.1.length ∧ SO N u.1 u.2.1 u.2.2 ∧ ∀ a, a ∈ u.1 ↔ Rch w rt L S0 a) (fun (u : List Nat × (Nat → Int32) × (Nat → Int32)) t => va_P D classes ((xW x aw af am ab ao ar ap az cI cL cZ N B T O C R rf w f bs os rt u.2.1 u.2.2)) t.heap ∧ va_D A ((xW x aw af am ab ao ar ap az cI cL cZ N B T O C R rf w f bs os rt u.2.1 u.2.2))) A) args s 0 0 A) (F0 m 56 ls []) := by
    intro n
    induction n with
    | zero => intro s0 at0 O1 op1 sn1 h1 h2; omega
    | succ n ih3 =>
      intro s0 at0 O1 op1 sn1 hn hs hSO hR hat hCl H locs hP hD hS ls hl
      have hlen : O1.length ≤ N := SO_len hSO (fun a ha => ((hR a).mp ha).mem) hLn
      refine lv_iload hx hb d_H_reach_56 (lv_at hl 0 rfl) ?_
      refine lv_iload_n hx hb d_H_reach_58 rfl (lv_at hl 4 rfl) ?_
      refine k_ige (tgt := 134) hx hb d_H_reach_59 (by decide) (by omega) (by omega) (fun c1 => ?_) (fun c1 => ?_)
      · refine lv_iload_n hx hb d_H_reach_134 rfl (lv_at hl 2 rfl) ?_
        exact k_mret S hr hlocks (O1, op1, sn1) (⟨rfl, hSO, by rw [show S0 = s0 by omega]; exact hR⟩) hP hD hS d_H_reach_135
      · refine lv_iload_n hx hb d_H_reach_62 rfl (lv_at hl 1 rfl) ?_
        refine lv_iload_n hx hb d_H_reach_63 rfl (lv_at hl 2 rfl) ?_
        refine k_ige (tgt := 134) hx hb d_H_reach_64 (by decide) (by omega) (by omega) (fun c2 => ?_) (fun c2 => ?_)
        · refine lv_iload_n hx hb d_H_reach_134 rfl (lv_at hl 2 rfl) ?_
          exact k_mret S hr hlocks (O1, op1, sn1) (⟨rfl, hSO, level_end hR (by rw [show O1.length = at0 by omega]; exact hCl) hs⟩) hP hD hS d_H_reach_135
        · refine lv_iload_n hx hb d_H_reach_67 rfl (lv_at hl 2 rfl) ?_
          refine lv_istore (lv' := [(5, .int (nI O1.length)), (4, .int (nI s0)), (3, .int (nI at0)), (2, .int (nI O1.length)), (0, .ref x), (1, .int (nI S0))]) hx hb d_H_reach_68 hl (by decide) rfl (fun ls hl => ?_)
          have loop4 : ∀ (n4 at1 : Nat) (O2 : List Nat) (op2 sn2 : Nat → Int32), O1.length < at1 + n4 → at1 ≤ O1.length → SO N O2 op2 sn2 → Ext O1 O2 → (∀ a ∈ O2, Rch w rt L (s0 + 1) a) → ClA w L O2 at1 → ∀ (H : Heap) (locs : List Loc), va_P D classes (xW x aw af am ab ao ar ap az cI cL cZ N B T O C R rf w f bs os rt op2 sn2) H → va_D A (xW x aw af am ab ao ar ap az cI cL cZ N B T O C R rf w f bs os rt op2 sn2) → va_S A s.heap H locs → ∀ ls : Array Slot, lv_has ls 8 [(5, .int (nI O1.length)), (3, .int (nI at1)), (2, .int (nI O2.length)), (4, .int (nI s0)), (0, .ref x), (1, .int (nI S0))] → W p l e ({ frames := 1, cells := 0, slots := 0, locals := 22 } : Room) s m args below meth c H locs 0 0 (MQ below (va_Qi (fun v u => v = nI u.1.length ∧ SO N u.1 u.2.1 u.2.2 ∧ ∀ a, a ∈ u.1 ↔ Rch w rt L S0 a) (fun (u : List Nat × (Nat → Int32) × (Nat → Int32)) t => va_P D classes ((xW x aw af am ab ao ar ap az cI cL cZ N B T O C R rf w f bs os rt u.2.1 u.2.2)) t.heap ∧ va_D A ((xW x aw af am ab ao ar ap az cI cL cZ N B T O C R rf w f bs os rt u.2.1 u.2.2))) A) args s 0 0 A) (F0 m 70 ls []) := by
            intro n4
            induction n4 with
            | zero => intro at1 O2 op2 sn2 h1 h2; omega
            | succ n4 ih4 =>
              intro at1 O2 op2 sn2 hn4 hat1 hSO2 hE hR2 hCl2 H locs hP hD hS ls hl
              have hlen2 : O2.length ≤ N := SO_len hSO2 (fun a ha => (hR2 a ha).mem) hLn
              have hEl := hE.len
              refine lv_iload_n hx hb d_H_reach_70 rfl (lv_at hl 1 rfl) ?_
              refine lv_iload hx hb d_H_reach_71 (lv_at hl 0 rfl) ?_
              refine k_ige (tgt := 128) hx hb d_H_reach_73 (by decide) (by omega) (by omega) (fun c3 => ?_) (fun c3 => ?_)
              · have hat2 : at1 = O1.length := by omega
                subst hat2
                refine k_iinc (k := 3) (a := s0) (lv' := [(4, .int (nI (s0 + 1))), (5, .int (nI O1.length)), (3, .int (nI O1.length)), (2, .int (nI O2.length)), (0, .ref x), (1, .int (nI S0))]) hx hb d_H_reach_128 hl rfl (by decide) rfl (fun ls hl => ?_)
                refine lv_goto (tgt := 56) hx hb d_H_reach_131 (by decide) ?_
                exact ih3 (s0 + 1) O1.length O2 op2 sn2 (by omega) (by omega) hSO2 (level_done hR hE hR2 hCl2) hEl hCl2 H locs hP hD hS ls (lv_sub hl [0, 2, 3, 4, 5] rfl)
              · have hoR : Rch w rt L s0 (O2.getD at1 0) := (hR _).mp (by rw [hE.get c3]; exact getD_mem c3)
                obtain ⟨o, eo⟩ : ∃ o, o = O2.getD at1 0 := ⟨_, rfl⟩
                rw [← eo] at hoR
                have hoL := hoR.mem
                have hob := hH.obj hoL
                have hsz : szN (w o) = 1 + rfN (w o) + plN (w o) := rfl
                have hr16 := rfN_lt (w o)
                refine lv_aload_n hx hb d_H_reach_76 rfl (lv_at hl 4 rfl) ?_
                refine k_get S i_H hK hP 0 rfl rfl 6 (by decide) tb_46 rfl rfl d_H_reach_77 ?_
                refine lv_iload_n hx hb d_H_reach_80 rfl (lv_at hl 1 rfl) ?_
                refine k_ild hx hb hK hP 7 0 rfl rfl (by omega) (by omega) d_H_reach_81 ?_
                refine k_top (y := nI o) (by rw [hSO2.2.1 at1 (by omega), eo]) ?_
                refine lv_istore (lv' := [(6, .int (nI o)), (5, .int (nI O1.length)), (3, .int (nI at1)), (2, .int (nI O2.length)), (4, .int (nI s0)), (0, .ref x), (1, .int (nI S0))]) hx hb d_H_reach_82 hl (by decide) rfl (fun ls hl => ?_)
                refine lv_iconst (v := nI 0) hx hb d_H_reach_84 (by decide) ?_
                refine lv_istore (lv' := [(7, .int (nI 0)), (6, .int (nI o)), (5, .int (nI O1.length)), (3, .int (nI at1)), (2, .int (nI O2.length)), (4, .int (nI s0)), (0, .ref x), (1, .int (nI S0))]) hx hb d_H_reach_85 hl (by decide) rfl (fun ls hl => ?_)
                have loop5 : ∀ (n5 k : Nat) (O3 : List Nat) (op3 sn3 : Nat → Int32), rfN (w o) < k + n5 → k ≤ rfN (w o) → SO N O3 op3 sn3 → Ext O2 O3 → (∀ a ∈ O3, Rch w rt L (s0 + 1) a) → Cl w L O3 o k → ∀ (H : Heap) (locs : List Loc), va_P D classes (xW x aw af am ab ao ar ap az cI cL cZ N B T O C R rf w f bs os rt op3 sn3) H → va_D A (xW x aw af am ab ao ar ap az cI cL cZ N B T O C R rf w f bs os rt op3 sn3) → va_S A s.heap H locs → ∀ ls : Array Slot, lv_has ls 8 [(7, .int (nI k)), (6, .int (nI o)), (5, .int (nI O1.length)), (3, .int (nI at1)), (2, .int (nI O3.length)), (4, .int (nI s0)), (0, .ref x), (1, .int (nI S0))] → W p l e ({ frames := 1, cells := 0, slots := 0, locals := 22 } : Room) s m args below meth c H locs 0 0 (MQ below (va_Qi (fun v u => v = nI u.1.length ∧ SO N u.1 u.2.1 u.2.2 ∧ ∀ a, a ∈ u.1 ↔ Rch w rt L S0 a) (fun (u : List Nat × (Nat → Int32) × (Nat → Int32)) t => va_P D classes ((xW x aw af am ab ao ar ap az cI cL cZ N B T O C R rf w f bs os rt u.2.1 u.2.2)) t.heap ∧ va_D A ((xW x aw af am ab ao ar ap az cI cL cZ N B T O C R rf w f bs os rt u.2.1 u.2.2))) A) args s 0 0 A) (F0 m 87 ls []) := by
                  intro n5
                  induction n5 with
                  | zero => intro k O3 op3 sn3 h1 h2; omega
                  | succ n5 ih5 =>
                    intro k O3 op3 sn3 hn5 hk hSO3 hE3 hR3 hCl3 H locs hP hD hS ls hl
                    have hlen3 : O3.length ≤ N := SO_len hSO3 (fun a ha => (hR3 a ha).mem) hLn
                    have hEl3 := hE3.len
                    refine lv_iload hx hb d_H_reach_87 (lv_at hl 0 rfl) ?_
                    refine lv_aload_n hx hb d_H_reach_89 rfl (lv_at hl 6 rfl) ?_
                    refine lv_iload hx hb d_H_reach_90 (lv_at hl 1 rfl) ?_
                    refine k_roV (np := 1) (As := [.int (nI o)]) (rest := [.int (nI k)]) S (c_H_references o hN.2 (by omega) hob.2.2.1) (gd_V tb_88 tb_90 tp_H_references tb_1 tb_91) hK hP rfl rfl (by decide +kernel) rfl ⟨rfl, rfl⟩ ⟨Nat.le_of_ble_eq_true rfl, Nat.le_of_ble_eq_true rfl⟩ hl.1 rfl (Nat.le_of_ble_eq_true rfl) d_H_reach_92 ⟨Nat.zero_le _, Nat.zero_le _⟩ (fun v1 hv1 => ?_)
                    subst hv1
                    refine k_ige (tgt := 122) hx hb d_H_reach_95 (by decide) (by omega) (by omega) (fun c4 => ?_) (fun c4 => ?_)
                    · refine k_iinc (k := 3) (a := at1) (lv' := [(3, .int (nI (at1 + 1))), (7, .int (nI k)), (6, .int (nI o)), (5, .int (nI O1.length)), (2, .int (nI O3.length)), (4, .int (nI s0)), (0, .ref x), (1, .int (nI S0))]) hx hb d_H_reach_122 hl rfl (by decide) rfl (fun ls hl => ?_)
                      refine lv_goto (tgt := 70) hx hb d_H_reach_125 (by decide) ?_
                      exact ih4 (at1 + 1) O3 op3 sn3 (by omega) (by omega) hSO3 (hE.trans hE3) hR3 ((hCl2.ext hE3 (by omega)).succ (by rw [hE3.get (by omega), ← eo, show rfN (w o) = k by omega]; exact hCl3)) H locs hP hD hS ls (lv_sub hl [3, 0, 4, 5, 6, 7] rfl)
                    · obtain ⟨tt, ett, htt, htL⟩ := hH.ld (hH.rf o hoL k c4)
                      refine lv_aload_n hx hb d_H_reach_98 rfl (lv_at hl 6 rfl) ?_
                      refine lv_aload_n hx hb d_H_reach_99 rfl (lv_at hl 6 rfl) ?_
                      refine k_get S i_H hK hP 0 rfl rfl 2 (by decide) tb_42 rfl rfl d_H_reach_100 ?_
                      refine lv_iload hx hb d_H_reach_103 (lv_at hl 1 rfl) ?_
                      refine lv_iconst (v := nI 1) hx hb d_H_reach_105 (by decide) ?_
                      refine k_add hx hb d_H_reach_106 ?_
                      refine lv_iload hx hb d_H_reach_107 (lv_at hl 0 rfl) ?_
                      refine k_add hx hb d_H_reach_109 ?_
                      refine k_ild hx hb hK hP 1 0 rfl rfl (by omega) (by omega) d_H_reach_110 ?_
                      refine k_top (y := nI tt) (ett) ?_
                      refine lv_iload_n hx hb d_H_reach_111 rfl (lv_at hl 4 rfl) ?_
                      refine k_muV (np := 2) (wr := []) (As := [.int (nI tt), .int (nI O3.length)]) (rest := []) S (c_H_meet tt O3 hSO3 htt hlen3 hN.2) (gd_V tb_124 tb_126 tp_H_meet tb_1 tb_127) hK hP hD hS hA [0, 1, 2, 3, 4, 5, 6, 7, 8] [] rfl rfl rfl (by decide) (by decide) (by decide) rfl rfl (by decide +kernel) rfl ⟨rfl, rfl⟩ ⟨Nat.le_of_ble_eq_true rfl, Nat.le_of_ble_eq_true rfl⟩ hl.1 rfl (Nat.le_of_ble_eq_true rfl) d_H_reach_112 ⟨Nat.zero_le _, Nat.zero_le _⟩ (fun vv u H locs hw hP hD hS => ?_)
                      obtain ⟨O4, op4, sn4⟩ := u
                      obtain ⟨hv, hSO4, eO4⟩ := hw
                      dsimp only at hv hSO4 eO4
                      subst hv
                      have hP : va_P D classes (xW x aw af am ab ao ar ap az cI cL cZ N B T O C R rf w f bs os rt op4 sn4) H := hP
                      have hD : va_D A (xW x aw af am ab ao ar ap az cI cL cZ N B T O C R rf w f bs os rt op4 sn4) := hD
                      refine lv_istore_n (lv' := [(2, .int (nI O4.length)), (7, .int (nI k)), (6, .int (nI o)), (5, .int (nI O1.length)), (3, .int (nI at1)), (4, .int (nI s0)), (0, .ref x), (1, .int (nI S0))]) hx hb d_H_reach_115 rfl hl (by decide) rfl (fun ls hl => ?_)
                      refine k_iinc (k := 1) (a := k) (lv' := [(7, .int (nI (k + 1))), (2, .int (nI O4.length)), (6, .int (nI o)), (5, .int (nI O1.length)), (3, .int (nI at1)), (4, .int (nI s0)), (0, .ref x), (1, .int (nI S0))]) hx hb d_H_reach_116 hl rfl (by decide) rfl (fun ls hl => ?_)
                      refine lv_goto (tgt := 87) hx hb d_H_reach_119 (by decide) ?_
                      exact ih5 (k + 1) O4 op4 sn4 (by omega) (by omega) hSO4 (hE3.trans (by rw [eO4]; exact metL_ext O3 tt)) (by rw [eO4]; exact rch_next hR3 hoR c4 ett htL) (by rw [eO4]; exact hCl3.met hH ett htt) H locs hP hD hS ls (lv_sub hl [0, 2, 3, 4, 1, 5, 6, 7] rfl)
                exact loop5 (rfN (w o) + 1) 0 O2 op2 sn2 (by omega) (by omega) hSO2 (Ext.refl O2) hR2 (fun j t h1 => by omega) H locs hP hD hS ls (lv_sub hl [0, 1, 2, 3, 4, 5, 6, 7] rfl)
          exact loop4 (O1.length + 1) at0 O1 op1 sn1 (by omega) hat hSO (Ext.refl O1) (fun a ha => Or.inl ((hR a).mp ha)) hCl H locs hP hD hS ls (lv_sub hl [0, 2, 3, 1, 4, 5] rfl)
  have loop2 : ∀ (n k : Nat) (O1 : List Nat) (op1 sn1 : Nat → Int32), 8 < k + n → k ≤ 8 → SO N O1 op1 sn1 → (∀ a ∈ O1, Rch w rt L 0 a) → (∀ j a, j < k → a ∈ L → rt j = nI a → a ∈ O1) → ∀ (H : Heap) (locs : List Loc), va_P D classes (xW x aw af am ab ao ar ap az cI cL cZ N B T O C R rf w f bs os rt op1 sn1) H → va_D A (xW x aw af am ab ao ar ap az cI cL cZ N B T O C R rf w f bs os rt op1 sn1) → va_S A s.heap H locs → ∀ ls : Array Slot, lv_has ls 8 [(3, .int (nI k)), (2, .int (nI O1.length)), (0, .ref x), (1, .int (nI S0))] → W p l e ({ frames := 1, cells := 0, slots := 0, locals := 22 } : Room) s m args below meth c H locs 0 0 (MQ below (va_Qi (fun v u => v = nI u.1.length ∧ SO N u.1 u.2.1 u.2.2 ∧ ∀ a, a ∈ u.1 ↔ Rch w rt L S0 a) (fun (u : List Nat × (Nat → Int32) × (Nat → Int32)) t => va_P D classes ((xW x aw af am ab ao ar ap az cI cL cZ N B T O C R rf w f bs os rt u.2.1 u.2.2)) t.heap ∧ va_D A ((xW x aw af am ab ao ar ap az cI cL cZ N B T O C R rf w f bs os rt u.2.1 u.2.2))) A) args s 0 0 A) (F0 m 27 ls []) := by
    intro n
    induction n with
    | zero => intro k O1 op1 sn1 h1 h2; omega
    | succ n ih =>
      intro k O1 op1 sn1 hn hk hSO hR hrt H locs hP hD hS ls hl
      have hlen : O1.length ≤ N := SO_len hSO (fun a ha => (hR a ha).mem) hLn
      refine lv_iload_n hx hb d_H_reach_27 rfl (lv_at hl 0 rfl) ?_
      refine lv_bipush (v := nI 8) hx hb d_H_reach_28 (by decide) ?_
      refine k_ige (tgt := 51) hx hb d_H_reach_30 (by decide) (by omega) (by omega) (fun c1 => ?_) (fun c1 => ?_)
      · refine lv_iconst (v := nI 0) hx hb d_H_reach_51 (by decide) ?_
        refine lv_istore_n (lv' := [(3, .int (nI 0)), (2, .int (nI O1.length)), (0, .ref x), (1, .int (nI S0))]) hx hb d_H_reach_52 rfl hl (by decide) rfl (fun ls hl => ?_)
        refine lv_iconst (v := nI 0) hx hb d_H_reach_53 (by decide) ?_
        refine lv_istore (lv' := [(4, .int (nI 0)), (3, .int (nI 0)), (2, .int (nI O1.length)), (0, .ref x), (1, .int (nI S0))]) hx hb d_H_reach_54 hl (by decide) rfl (fun ls hl => ?_)
        exact loop3 (S0 + 1) 0 0 O1 op1 sn1 (by omega) (by omega) hSO (roots_all (by rw [show (8 : Nat) = k by omega]; exact hrt) hR) (by omega) (fun i hi => by omega) H locs hP hD hS ls (lv_sub hl [0, 1, 2, 3, 4] rfl)
      · obtain ⟨tt, ett, htt, htL⟩ := hH.ld (hH.rt k c1)
        refine lv_aload_n hx hb d_H_reach_33 rfl (lv_at hl 2 rfl) ?_
        refine lv_aload_n hx hb d_H_reach_34 rfl (lv_at hl 2 rfl) ?_
        refine k_get S i_H hK hP 0 rfl rfl 5 (by decide) tb_45 rfl rfl d_H_reach_35 ?_
        refine lv_iload_n hx hb d_H_reach_38 rfl (lv_at hl 0 rfl) ?_
        refine k_ild hx hb hK hP 6 0 rfl rfl (by omega) (by omega) d_H_reach_39 ?_
        refine k_top (y := nI tt) (ett) ?_
        refine lv_iload_n hx hb d_H_reach_40 rfl (lv_at hl 1 rfl) ?_
        refine k_muV (np := 2) (wr := []) (As := [.int (nI tt), .int (nI O1.length)]) (rest := []) S (c_H_meet tt O1 hSO htt hlen hN.2) (gd_V tb_124 tb_126 tp_H_meet tb_1 tb_127) hK hP hD hS hA [0, 1, 2, 3, 4, 5, 6, 7, 8] [] rfl rfl rfl (by decide) (by decide) (by decide) rfl rfl (by decide +kernel) rfl ⟨rfl, rfl⟩ ⟨Nat.le_of_ble_eq_true rfl, Nat.le_of_ble_eq_true rfl⟩ hl.1 rfl (Nat.le_of_ble_eq_true rfl) d_H_reach_41 ⟨Nat.zero_le _, Nat.zero_le _⟩ (fun vv u H locs hw hP hD hS => ?_)
        obtain ⟨O4, op4, sn4⟩ := u
        obtain ⟨hv, hSO4, eO4⟩ := hw
        dsimp only at hv hSO4 eO4
        subst hv
        have hP : va_P D classes (xW x aw af am ab ao ar ap az cI cL cZ N B T O C R rf w f bs os rt op4 sn4) H := hP
        have hD : va_D A (xW x aw af am ab ao ar ap az cI cL cZ N B T O C R rf w f bs os rt op4 sn4) := hD
        refine lv_istore_n (lv' := [(2, .int (nI O4.length)), (3, .int (nI k)), (0, .ref x), (1, .int (nI S0))]) hx hb d_H_reach_44 rfl hl (by decide) rfl (fun ls hl => ?_)
        refine k_iinc (k := 1) (a := k) (lv' := [(3, .int (nI (k + 1))), (2, .int (nI O4.length)), (0, .ref x), (1, .int (nI S0))]) hx hb d_H_reach_45 hl rfl (by decide) rfl (fun ls hl => ?_)
        refine lv_goto (tgt := 27) hx hb d_H_reach_48 (by decide) ?_
        exact ih (k + 1) O4 op4 sn4 (by omega) (by omega) hSO4 (by rw [eO4]; exact root_next hR c1 ett htL) (by rw [eO4]; exact roots_met hH hrt ett htt) H locs hP hD hS ls (lv_sub hl [0, 1, 2, 3] rfl)
  refine lv_iconst (v := nI 0) hx hb d_H_reach_0 (by decide) ?_
  refine lv_istore_n (lv' := [(2, .int (nI 0)), (0, .ref x), (1, .int (nI S0))]) hx hb d_H_reach_1 rfl hl (by decide) rfl (fun ls hl => ?_)
  have loop1 : ∀ (n i : Nat) (sn1 : Nat → Int32), N + 1 < i + n → i ≤ N + 1 → (∀ j, j < i → sn1 j = 0) → ∀ (H : Heap) (locs : List Loc), va_P D classes (xW x aw af am ab ao ar ap az cI cL cZ N B T O C R rf w f bs os rt op sn1) H → va_D A (xW x aw af am ab ao ar ap az cI cL cZ N B T O C R rf w f bs os rt op sn1) → va_S A s.heap H locs → ∀ ls : Array Slot, lv_has ls 8 [(2, .int (nI i)), (0, .ref x), (1, .int (nI S0))] → W p l e ({ frames := 1, cells := 0, slots := 0, locals := 22 } : Room) s m args below meth c H locs 0 0 (MQ below (va_Qi (fun v u => v = nI u.1.length ∧ SO N u.1 u.2.1 u.2.2 ∧ ∀ a, a ∈ u.1 ↔ Rch w rt L S0 a) (fun (u : List Nat × (Nat → Int32) × (Nat → Int32)) t => va_P D classes ((xW x aw af am ab ao ar ap az cI cL cZ N B T O C R rf w f bs os rt u.2.1 u.2.2)) t.heap ∧ va_D A ((xW x aw af am ab ao ar ap az cI cL cZ N B T O C R rf w f bs os rt u.2.1 u.2.2))) A) args s 0 0 A) (F0 m 2 ls []) := by
    intro n
    induction n with
    | zero => intro i sn1 h1 h2; omega
    | succ n ih =>
      intro i sn1 hn hi h0 H locs hP hD hS ls hl
      refine lv_iload_n hx hb d_H_reach_2 rfl (lv_at hl 0 rfl) ?_
      refine lv_aload_n hx hb d_H_reach_3 rfl (lv_at hl 1 rfl) ?_
      refine k_get S i_H hK hP 0 rfl rfl 0 (by decide) tb_40 rfl rfl d_H_reach_4 ?_
      refine k_igt (tgt := 23) hx hb d_H_reach_7 (by decide) (by omega) (by omega) (fun c1 => ?_) (fun c1 => ?_)
      · refine lv_iconst (v := nI 0) hx hb d_H_reach_23 (by decide) ?_
        refine lv_istore_n (lv' := [(2, .int (nI 0)), (0, .ref x), (1, .int (nI S0))]) hx hb d_H_reach_24 rfl hl (by decide) rfl (fun ls hl => ?_)
        refine lv_iconst (v := nI 0) hx hb d_H_reach_25 (by decide) ?_
        refine lv_istore_n (lv' := [(3, .int (nI 0)), (2, .int (nI 0)), (0, .ref x), (1, .int (nI S0))]) hx hb d_H_reach_26 rfl hl (by decide) rfl (fun ls hl => ?_)
        exact loop2 9 0 [] op sn1 (by omega) (by omega) (SO_nil (fun j hj => h0 j (by omega))) (fun a ha => absurd ha List.not_mem_nil) (fun j a h1 => by omega) H locs hP hD hS ls (lv_sub hl [0, 1, 2, 3] rfl)
      · refine lv_aload_n hx hb d_H_reach_10 rfl (lv_at hl 1 rfl) ?_
        refine k_get S i_H hK hP 0 rfl rfl 7 (by decide) tb_47 rfl rfl d_H_reach_11 ?_
        refine lv_iload_n hx hb d_H_reach_14 rfl (lv_at hl 0 rfl) ?_
        refine lv_iconst (v := nI 0) hx hb d_H_reach_15 (by decide) ?_
        refine k_zst (ws' := (xW x aw af am ab ao ar ap az cI cL cZ N B T O C R rf w f bs os rt op (upd sn1 i (nI 0)))) hx hb hK hP hD hS 8 2 rfl rfl (by omega) (by omega) (rfl) rfl d_H_reach_16 (fun H locs hP hD hS => ?_)
        refine k_iinc (k := 0) (a := i) (lv' := [(2, .int (nI (i + 1))), (0, .ref x), (1, .int (nI S0))]) hx hb d_H_reach_17 hl rfl (by decide) rfl (fun ls hl => ?_)
        refine lv_goto (tgt := 2) hx hb d_H_reach_20 (by decide) ?_
        exact ih (i + 1) (upd sn1 i (nI 0)) (by omega) (by omega) (fill_I (g := fun _ => 0) h0 rfl) H locs hP hD hS ls (lv_sub hl [0, 1, 2] rfl)
  exact loop1 (N + 2) 0 sn (by omega) (by omega) (fun j hj => by omega) _ _ hP hD hS ls (lv_sub hl [0, 1, 2] rfl)
set_option maxHeartbeats 4000000 in
set_option maxRecDepth 100000 in
/-- how many are near -/
theorem c_H_near (k : Int32) (hH : Hp N T w L rt) {sz : Nat} : muC l y_H_near b_H_near 2 (some .int) { frames := 2, cells := 0, slots := 0, locals := 49 } D (tyS cI cL cZ) [.ref x, .int k] sz (xW x aw af am ab ao ar ap az cI cL cZ N B T O C R rf w f bs os rt op sn) (fun u : (Nat → Int32) × (Nat → Int32) => (xW x aw af am ab ao ar ap az cI cL cZ N B T O C R rf w f bs os rt u.1 u.2)) (fun v _ => v = nrS w rt L k) := by
  refine mu_of (by decide) (Nat.le_of_ble_eq_true rfl) ?_
  intro p e s m args below meth c A S hr hlocks hK hP hD hA hS ls hl
  have hx := S.1
  have hb := S.2.1
  have hl : lv_has ls 2 [(0, .ref x), (1, .int k)] := hl
  have hN := hH.N
  refine lv_iload_n hx hb d_H_near_0 rfl (lv_at hl 1 rfl) ?_
  refine lv_iconst (v := nI 0) hx hb d_H_near_1 (by decide) ?_
  refine lv_bipush (v := nI 100) hx hb d_H_near_2 (by decide) ?_
  refine k_roS (np := 3) (As := [.int k, .int (nI 0), .int (nI 100)]) (rest := []) S (c_H_within k (nI 0) (nI 100)) (gd_S tb_100 tb_101 tb_1 tb_102) hK (hP.sub [] rfl) (by decide +kernel) rfl ⟨rfl, rfl⟩ ⟨Nat.le_of_ble_eq_true rfl, Nat.le_of_ble_eq_true rfl⟩ hl.1 rfl (Nat.le_of_ble_eq_true rfl) d_H_near_4 ⟨Nat.zero_le _, Nat.zero_le _⟩ (fun v1 hv1 => ?_)
  subst hv1
  refine k_beq (tgt := 18) hx hb d_H_near_7 (by decide) (fun c1 => ?_) (fun c1 => ?_)
  · refine lv_iconst (v := (-1)) hx hb d_H_near_18 (by decide) ?_
    exact k_mret S hr hlocks (op, sn) (by unfold nrS; rw [c1]; rfl) hP hD hS d_H_near_19
  · obtain ⟨kn, hkn, rfl⟩ := inR_nat (by omega) c1
    have hkN : hdN (nI kn) = kn := hdN_nI (by omega)
    refine lv_aload_n hx hb d_H_near_10 rfl (lv_at hl 0 rfl) ?_
    refine lv_iload_n hx hb d_H_near_11 rfl (lv_at hl 1 rfl) ?_
    refine k_muV (np := 1) (wr := []) (As := [.int (nI kn)]) (rest := []) S (c_H_reach kn (by omega) hH) (gd_V tb_120 tb_122 tp_H_reach tb_1 tb_123) hK hP hD hS hA [0, 1, 2, 3, 4, 5, 6, 7, 8] [] rfl rfl rfl (by decide) (by decide) (by decide) rfl rfl (by decide +kernel) rfl ⟨rfl, rfl⟩ ⟨Nat.le_of_ble_eq_true rfl, Nat.le_of_ble_eq_true rfl⟩ hl.1 rfl (Nat.le_of_ble_eq_true rfl) d_H_near_12 ⟨Nat.zero_le _, Nat.zero_le _⟩ (fun vv u H locs hw hP hD hS => ?_)
    obtain ⟨O4, op4, sn4⟩ := u
    obtain ⟨hv, hSO4, hR4⟩ := hw
    dsimp only at hv hSO4 hR4
    subst hv
    have hP : va_P D classes (xW x aw af am ab ao ar ap az cI cL cZ N B T O C R rf w f bs os rt op4 sn4) H := hP
    have hD : va_D A (xW x aw af am ab ao ar ap az cI cL cZ N B T O C R rf w f bs os rt op4 sn4) := hD
    refine lv_goto (tgt := 19) hx hb d_H_near_15 (by decide) ?_
    exact k_mret S hr hlocks (op4, sn4) (by unfold nrS; rw [c1, hkN, ← rch_count hH.ch.nodup hSO4.1 hR4]; rfl) hP hD hS d_H_near_19
end H4
end
section
/-! THE CLASS: sound -/
theorem cnt_t {b : Nat → Bool} {i : Nat} (h : b i = true) : cnt b 0 (i + 1) = cnt b 0 i + 1 := by
  show cnt b 0 i + (b (0 + i)).toNat = _
  rw [Nat.zero_add, h]; rfl
theorem cnt_f {b : Nat → Bool} {i : Nat} (h : b i = false) : cnt b 0 (i + 1) = cnt b 0 i := by
  show cnt b 0 i + (b (0 + i)).toNat = _
  rw [Nat.zero_add, h]; rfl
section H5
variable {l : Launch} {D : va_G} {x aw af am ab ao ar ap az : Nat} {cI cL cZ : ClassId} {N B T O C R : Nat} {rf : Int32} {w f : Nat → Int32} {bs : Nat → Int64} {os rt op sn : Nat → Int32}
variable {L : List Nat}
set_option maxHeartbeats 4000000 in
set_option maxRecDepth 100000 in
/-- it is sound -/
theorem c_H_sound (hH : Hp N T w L rt) (hM : Mp N B bs os) (hB : Bk B) : roC l y_H_sound b_H_sound 5 (some .boolean) { frames := 4, cells := 0, slots := 0, locals := 85 } D (tyS cI cL cZ) [.ref x] (xW x aw af am ab ao ar ap az cI cL cZ N B T O C R rf w f bs os rt op sn) (fun r => r = b2i true) := by
  refine ro_of (by decide) (Nat.le_of_ble_eq_true rfl) ?_
  intro p e s m args below meth c S hr hlocks hK hP ls hl
  have hx := S.1
  have hb := S.2.1
  have hl : lv_has ls 5 [(0, .ref x)] := hl
  have hN := hH.N
  have hT := hH.T
  have loopD : ∀ (n i z : Nat), N + 1 < i + n → i ≤ N + 1 → z = cnt (bitAt bs) 0 i → ∀ ls : Array Slot, lv_has ls 5 [(4, .int (nI i)), (3, .int (nI z)), (1, .int (nI 1)), (0, .ref x)] → W p l e ({ frames := 4, cells := 0, slots := 0, locals := 85 } : Room) s m args below meth c s.heap [] 0 0 (MQ below (vp_Si (fun r => r = b2i true)) args s 0 0 (fun _ => False)) (F0 m 105 ls []) := by
    intro n
    induction n with
    | zero => intro i z h1 h2; omega
    | succ n ih =>
      intro i z hn hi hz ls hl
      have hcl := cnt_le (bitAt bs) 0 i
      refine lv_iload hx hb d_H_sound_105 (lv_at hl 0 rfl) ?_
      refine lv_aload_n hx hb d_H_sound_107 rfl (lv_at hl 3 rfl) ?_
      refine k_get S i_H hK hP 0 rfl rfl 0 (by decide) tb_40 rfl rfl d_H_sound_108 ?_
      refine k_igt (tgt := 158) hx hb d_H_sound_111 (by decide) (by omega) (by omega) (fun c1 => ?_) (fun c1 => ?_)
      · refine lv_iload_n hx hb d_H_sound_158 rfl (lv_at hl 2 rfl) ?_
        exact k_retz S hr hlocks (by decide) (rfl) d_H_sound_159
      · refine lv_aload_n hx hb d_H_sound_114 rfl (lv_at hl 3 rfl) ?_
        refine k_get S i_H hK hP 0 rfl rfl 4 (by decide) tb_44 rfl rfl d_H_sound_115 ?_
        refine lv_iload hx hb d_H_sound_118 (lv_at hl 0 rfl) ?_
        refine k_roV (np := 1) (As := [.int (nI i)]) (rest := []) S (c_M_has i (by omega) hN.2) (gd_V tb_156 tb_157 tb_158 tb_3 tb_159) hK (hP.sub [3, 4, 5] rfl) rfl rfl (by decide +kernel) rfl ⟨rfl, rfl⟩ ⟨Nat.le_of_ble_eq_true rfl, Nat.le_of_ble_eq_true rfl⟩ hl.1 rfl (Nat.le_of_ble_eq_true rfl) d_H_sound_120 ⟨Nat.zero_le _, Nat.zero_le _⟩ (fun v1 hv1 => ?_)
        subst hv1
        refine k_beq (tgt := 152) hx hb d_H_sound_123 (by decide) (fun c2 => ?_) (fun c2 => ?_)
        · refine k_iinc (k := 0) (a := i) (lv' := [(4, .int (nI (i + 1))), (3, .int (nI z)), (1, .int (nI 1)), (0, .ref x)]) hx hb d_H_sound_152 hl rfl (by decide) rfl (fun ls hl => ?_)
          refine lv_goto (tgt := 105) hx hb d_H_sound_155 (by decide) ?_
          exact ih (i + 1) z (by omega) (by omega) (by rw [hz, cnt_f c2]) ls (lv_sub hl [0, 1, 2, 3] rfl)
        · refine lv_iload_n hx hb d_H_sound_126 rfl (lv_at hl 2 rfl) ?_
          refine lv_aload_n hx hb d_H_sound_127 rfl (lv_at hl 3 rfl) ?_
          refine k_get S i_H hK hP 0 rfl rfl 4 (by decide) tb_44 rfl rfl d_H_sound_128 ?_
          refine lv_iload hx hb d_H_sound_131 (lv_at hl 0 rfl) ?_
          refine k_roV (np := 1) (As := [.int (nI i)]) (rest := [.int (nI 1)]) S (c_M_address i (by omega) hM hB hN.2) (gd_V tb_160 tb_161 tb_162 tb_3 tb_163) hK (hP.sub [3, 4, 5] rfl) rfl rfl (by decide +kernel) rfl ⟨rfl, rfl⟩ ⟨Nat.le_of_ble_eq_true rfl, Nat.le_of_ble_eq_true rfl⟩ hl.1 rfl (Nat.le_of_ble_eq_true rfl) d_H_sound_133 ⟨Nat.zero_le _, Nat.zero_le _⟩ (fun v2 hv2 => ?_)
          subst hv2
          refine lv_iconst (v := nI 1) hx hb d_H_sound_136 (by decide) ?_
          refine lv_iload_n hx hb d_H_sound_137 rfl (lv_at hl 1 rfl) ?_
          refine k_add hx hb d_H_sound_138 ?_
          refine k_ine (tgt := 146) hx hb d_H_sound_139 (by decide) (by omega) (by omega) (fun c3 => ?_) (fun c3 => ?_)
          · omega
          · refine lv_iconst (v := nI 1) hx hb d_H_sound_142 (by decide) ?_
            refine lv_goto (tgt := 147) hx hb d_H_sound_143 (by decide) ?_
            refine lv_iand hx hb d_H_sound_147 ?_
            refine k_top (y := nI 1) (rfl) ?_
            refine lv_istore_n (lv' := [(1, .int (nI 1)), (4, .int (nI i)), (3, .int (nI z)), (0, .ref x)]) hx hb d_H_sound_148 rfl hl (by decide) rfl (fun ls hl => ?_)
            refine k_iinc (k := 2) (a := z) (lv' := [(3, .int (nI (z + 1))), (1, .int (nI 1)), (4, .int (nI i)), (0, .ref x)]) hx hb d_H_sound_149 hl rfl (by decide) rfl (fun ls hl => ?_)
            refine k_iinc (k := 2) (a := i) (lv' := [(4, .int (nI (i + 1))), (3, .int (nI (z + 1))), (1, .int (nI 1)), (0, .ref x)]) hx hb d_H_sound_152 hl rfl (by decide) rfl (fun ls hl => ?_)
            refine lv_goto (tgt := 105) hx hb d_H_sound_155 (by decide) ?_
            exact ih (i + 1) (z + 1) (by omega) (by omega) (by rw [hz, cnt_t c2]) ls (lv_sub hl [0, 1, 2, 3] rfl)
  have loopC : ∀ (n k : Nat), 8 < k + n → k ≤ 8 → ∀ ls : Array Slot, lv_has ls 5 [(3, .int (nI k)), (1, .int (nI 1)), (0, .ref x)] → W p l e ({ frames := 4, cells := 0, slots := 0, locals := 85 } : Room) s m args below meth c s.heap [] 0 0 (MQ below (vp_Si (fun r => r = b2i true)) args s 0 0 (fun _ => False)) (F0 m 75 ls []) := by
    intro n
    induction n with
    | zero => intro k h1 h2; omega
    | succ n ih =>
      intro k hn hk ls hl
      refine lv_iload_n hx hb d_H_sound_75 rfl (lv_at hl 0 rfl) ?_
      refine lv_bipush (v := nI 8) hx hb d_H_sound_76 (by decide) ?_
      refine k_ige (tgt := 100) hx hb d_H_sound_78 (by decide) (by omega) (by omega) (fun c1 => ?_) (fun c1 => ?_)
      · refine lv_iconst (v := nI 0) hx hb d_H_sound_100 (by decide) ?_
        refine lv_istore_n (lv' := [(3, .int (nI 0)), (1, .int (nI 1)), (0, .ref x)]) hx hb d_H_sound_101 rfl hl (by decide) rfl (fun ls hl => ?_)
        refine lv_iconst (v := nI 0) hx hb d_H_sound_102 (by decide) ?_
        refine lv_istore (lv' := [(4, .int (nI 0)), (3, .int (nI 0)), (1, .int (nI 1)), (0, .ref x)]) hx hb d_H_sound_103 hl (by decide) rfl (fun ls hl => ?_)
        exact loopD (N + 2) 0 0 (by omega) (by omega) rfl ls (lv_sub hl [0, 1, 2, 3] rfl)
      · refine lv_iload_n hx hb d_H_sound_81 rfl (lv_at hl 1 rfl) ?_
        refine lv_aload_n hx hb d_H_sound_82 rfl (lv_at hl 2 rfl) ?_
        refine lv_aload_n hx hb d_H_sound_83 rfl (lv_at hl 2 rfl) ?_
        refine k_get S i_H hK hP 0 rfl rfl 5 (by decide) tb_45 rfl rfl d_H_sound_84 ?_
        refine lv_iload_n hx hb d_H_sound_87 rfl (lv_at hl 0 rfl) ?_
        refine k_ild hx hb hK hP 6 0 rfl rfl (by omega) (by omega) d_H_sound_88 ?_
        refine k_roV (np := 1) (As := [.int (rt k)]) (rest := [.int (nI 1)]) S (c_H_leadsWell hH (rt k)) (gd_V tb_200 tb_202 tp_H_leadsWell tb_1 tb_203) hK hP rfl rfl (by decide +kernel) rfl ⟨rfl, rfl⟩ ⟨Nat.le_of_ble_eq_true rfl, Nat.le_of_ble_eq_true rfl⟩ hl.1 rfl (Nat.le_of_ble_eq_true rfl) d_H_sound_89 ⟨Nat.zero_le _, Nat.zero_le _⟩ (fun v3 hv3 => ?_)
        subst hv3
        refine k_top (y := nI 1) (by rw [isLd_iff.mpr (hH.rt k c1)]; rfl) ?_
        refine lv_iand hx hb d_H_sound_92 ?_
        refine k_top (y := nI 1) (rfl) ?_
        refine lv_istore_n (lv' := [(1, .int (nI 1)), (3, .int (nI k)), (0, .ref x)]) hx hb d_H_sound_93 rfl hl (by decide) rfl (fun ls hl => ?_)
        refine k_iinc (k := 1) (a := k) (lv' := [(3, .int (nI (k + 1))), (1, .int (nI 1)), (0, .ref x)]) hx hb d_H_sound_94 hl rfl (by decide) rfl (fun ls hl => ?_)
        refine lv_goto (tgt := 75) hx hb d_H_sound_97 (by decide) ?_
        exact ih (k + 1) (by omega) (by omega) ls (lv_sub hl [0, 1, 2] rfl)
  have loopA : ∀ (n : Nat) (ol : List Nat) (t : Nat), T < t + n → Chn w ol t T → 1 ≤ t → (∀ a ∈ ol, a ∈ L) → ∀ ls : Array Slot, lv_has ls 5 [(2, .int (nI t)), (1, .int (nI 1)), (0, .ref x)] → W p l e ({ frames := 4, cells := 0, slots := 0, locals := 85 } : Room) s m args below meth c s.heap [] 0 0 (MQ below (vp_Si (fun r => r = b2i true)) args s 0 0 (fun _ => False)) (F0 m 4 ls []) := by
    intro n
    induction n with
    | zero =>
      intro ol t h1 hC
      have := hC.le
      omega
    | succ n ih =>
      intro ol t hn hC ht hO ls hl
      have hle := hC.le
      refine lv_iload_n hx hb d_H_sound_4 rfl (lv_at hl 0 rfl) ?_
      refine lv_aload_n hx hb d_H_sound_5 rfl (lv_at hl 2 rfl) ?_
      refine k_get S i_H hK hP 0 rfl rfl 8 (by decide) tb_48 rfl rfl d_H_sound_6 ?_
      refine k_ige (tgt := 57) hx hb d_H_sound_9 (by decide) (by omega) (by omega) (fun c1 => ?_) (fun c1 => ?_)
      · have hTt : t = T := by omega
        refine lv_iload_n hx hb d_H_sound_57 rfl (lv_at hl 1 rfl) ?_
        refine lv_iload_n hx hb d_H_sound_58 rfl (lv_at hl 0 rfl) ?_
        refine lv_aload_n hx hb d_H_sound_59 rfl (lv_at hl 2 rfl) ?_
        refine k_get S i_H hK hP 0 rfl rfl 8 (by decide) tb_48 rfl rfl d_H_sound_60 ?_
        refine k_ine (tgt := 70) hx hb d_H_sound_63 (by decide) (by omega) (by omega) (fun c2 => ?_) (fun c2 => ?_)
        · omega
        · refine lv_iconst (v := nI 1) hx hb d_H_sound_66 (by decide) ?_
          refine lv_goto (tgt := 71) hx hb d_H_sound_67 (by decide) ?_
          refine lv_iand hx hb d_H_sound_71 ?_
          refine k_top (y := nI 1) (rfl) ?_
          refine lv_istore_n (lv' := [(1, .int (nI 1)), (2, .int (nI t)), (0, .ref x)]) hx hb d_H_sound_72 rfl hl (by decide) rfl (fun ls hl => ?_)
          refine lv_iconst (v := nI 0) hx hb d_H_sound_73 (by decide) ?_
          refine lv_istore_n (lv' := [(3, .int (nI 0)), (1, .int (nI 1)), (2, .int (nI t)), (0, .ref x)]) hx hb d_H_sound_74 rfl hl (by decide) rfl (fun ls hl => ?_)
          exact loopC 9 0 (by omega) (by omega) ls (lv_sub hl [0, 1, 3] rfl)
      · obtain ⟨ol2, rfl, h0, hC2⟩ := hC.step c1
        have htL := hO t List.mem_cons_self
        have hob := hH.obj htL
        have hsz : szN (w t) = 1 + rfN (w t) + plN (w t) := rfl
        have hr16 := rfN_lt (w t)
        refine lv_iconst (v := nI 0) hx hb d_H_sound_12 (by decide) ?_
        refine lv_istore_n (lv' := [(3, .int (nI 0)), (2, .int (nI t)), (1, .int (nI 1)), (0, .ref x)]) hx hb d_H_sound_13 rfl hl (by decide) rfl (fun ls hl => ?_)
        have loopB : ∀ (n2 k : Nat), rfN (w t) < k + n2 → k ≤ rfN (w t) → ∀ ls : Array Slot, lv_has ls 5 [(3, .int (nI k)), (2, .int (nI t)), (1, .int (nI 1)), (0, .ref x)] → W p l e ({ frames := 4, cells := 0, slots := 0, locals := 85 } : Room) s m args below meth c s.heap [] 0 0 (MQ below (vp_Si (fun r => r = b2i true)) args s 0 0 (fun _ => False)) (F0 m 14 ls []) := by
          intro n2
          induction n2 with
          | zero => intro k h1 h2; omega
          | succ n2 ih2 =>
            intro k hn2 hk ls hl
            refine lv_iload_n hx hb d_H_sound_14 rfl (lv_at hl 0 rfl) ?_
            refine lv_aload_n hx hb d_H_sound_15 rfl (lv_at hl 3 rfl) ?_
            refine lv_iload_n hx hb d_H_sound_16 rfl (lv_at hl 1 rfl) ?_
            refine k_roV (np := 1) (As := [.int (nI t)]) (rest := [.int (nI k)]) S (c_H_references t hN.2 (by omega) h0) (gd_V tb_88 tb_90 tp_H_references tb_1 tb_91) hK hP rfl rfl (by decide +kernel) rfl ⟨rfl, rfl⟩ ⟨Nat.le_of_ble_eq_true rfl, Nat.le_of_ble_eq_true rfl⟩ hl.1 rfl (Nat.le_of_ble_eq_true rfl) d_H_sound_17 ⟨Nat.zero_le _, Nat.zero_le _⟩ (fun v4 hv4 => ?_)
            subst hv4
            refine k_ige (tgt := 46) hx hb d_H_sound_20 (by decide) (by omega) (by omega) (fun c3 => ?_) (fun c3 => ?_)
            · refine lv_iload_n hx hb d_H_sound_46 rfl (lv_at hl 1 rfl) ?_
              refine lv_aload_n hx hb d_H_sound_47 rfl (lv_at hl 3 rfl) ?_
              refine lv_iload_n hx hb d_H_sound_48 rfl (lv_at hl 1 rfl) ?_
              refine k_roV (np := 1) (As := [.int (nI t)]) (rest := [.int (nI t)]) S (c_H_size t hN.2 (by omega) h0) (gd_V tb_84 tb_86 tp_H_size tb_1 tb_87) hK hP rfl rfl (by decide +kernel) rfl ⟨rfl, rfl⟩ ⟨Nat.le_of_ble_eq_true rfl, Nat.le_of_ble_eq_true rfl⟩ hl.1 rfl (Nat.le_of_ble_eq_true rfl) d_H_sound_49 ⟨Nat.zero_le _, Nat.zero_le _⟩ (fun v5 hv5 => ?_)
              subst hv5
              refine k_add hx hb d_H_sound_52 ?_
              refine lv_istore_n (lv' := [(2, .int (nI (t + (szN (w t))))), (3, .int (nI k)), (1, .int (nI 1)), (0, .ref x)]) hx hb d_H_sound_53 rfl hl (by decide) rfl (fun ls hl => ?_)
              refine lv_goto (tgt := 4) hx hb d_H_sound_54 (by decide) ?_
              exact ih ol2 (t + szN (w t)) (by omega) hC2 (by omega) (fun a ha => hO a (List.mem_cons_of_mem _ ha)) ls (lv_sub hl [0, 2, 3] rfl)
            · refine lv_iload_n hx hb d_H_sound_23 rfl (lv_at hl 2 rfl) ?_
              refine lv_aload_n hx hb d_H_sound_24 rfl (lv_at hl 3 rfl) ?_
              refine lv_aload_n hx hb d_H_sound_25 rfl (lv_at hl 3 rfl) ?_
              refine k_get S i_H hK hP 0 rfl rfl 2 (by decide) tb_42 rfl rfl d_H_sound_26 ?_
              refine lv_iload_n hx hb d_H_sound_29 rfl (lv_at hl 1 rfl) ?_
              refine lv_iconst (v := nI 1) hx hb d_H_sound_30 (by decide) ?_
              refine k_add hx hb d_H_sound_31 ?_
              refine lv_iload_n hx hb d_H_sound_32 rfl (lv_at hl 0 rfl) ?_
              refine k_add hx hb d_H_sound_33 ?_
              refine k_ild hx hb hK hP 1 0 rfl rfl (by omega) (by omega) d_H_sound_34 ?_
              refine k_roV (np := 1) (As := [.int (w ((t + 1) + k))]) (rest := [.int (nI 1)]) S (c_H_leadsWell hH (w (t + 1 + k))) (gd_V tb_200 tb_202 tp_H_leadsWell tb_1 tb_203) hK hP rfl rfl (by decide +kernel) rfl ⟨rfl, rfl⟩ ⟨Nat.le_of_ble_eq_true rfl, Nat.le_of_ble_eq_true rfl⟩ hl.1 rfl (Nat.le_of_ble_eq_true rfl) d_H_sound_35 ⟨Nat.zero_le _, Nat.zero_le _⟩ (fun v6 hv6 => ?_)
              subst hv6
              refine k_top (y := nI 1) (by rw [isLd_iff.mpr (hH.rf t htL k c3)]; rfl) ?_
              refine lv_iand hx hb d_H_sound_38 ?_
              refine k_top (y := nI 1) (rfl) ?_
              refine lv_istore_n (lv' := [(1, .int (nI 1)), (3, .int (nI k)), (2, .int (nI t)), (0, .ref x)]) hx hb d_H_sound_39 rfl hl (by decide) rfl (fun ls hl => ?_)
              refine k_iinc (k := 1) (a := k) (lv' := [(3, .int (nI (k + 1))), (1, .int (nI 1)), (2, .int (nI t)), (0, .ref x)]) hx hb d_H_sound_40 hl rfl (by decide) rfl (fun ls hl => ?_)
              refine lv_goto (tgt := 14) hx hb d_H_sound_43 (by decide) ?_
              exact ih2 (k + 1) (by omega) (by omega) ls (lv_sub hl [0, 2, 1, 3] rfl)
        exact loopB (rfN (w t) + 1) 0 (by omega) (by omega) ls (lv_sub hl [0, 1, 2, 3] rfl)
  refine lv_iconst (v := nI 1) hx hb d_H_sound_0 (by decide) ?_
  refine lv_istore_n (lv' := [(1, .int (nI 1)), (0, .ref x)]) hx hb d_H_sound_1 rfl hl (by decide) rfl (fun ls hl => ?_)
  refine lv_iconst (v := nI 1) hx hb d_H_sound_2 (by decide) ?_
  refine lv_istore_n (lv' := [(2, .int (nI 1)), (1, .int (nI 1)), (0, .ref x)]) hx hb d_H_sound_3 rfl hl (by decide) rfl (fun ls hl => ?_)
  exact loopA (T + 1) L 1 (by omega) hH.ch (Nat.le_refl 1) (fun a ha => ha) ls (lv_sub hl [0, 1, 2] rfl)
end H5
end
section
/-! THE MODEL: readers, and what it changes word by word -/
/-- where objects begin -/
def Bg (N : Nat) (L : List Nat) (gn : Nat → Int32) : Prop := ∀ a, a ≤ N → gn a = b2i (decide (a ∈ L))
/-- where each word went -/
def Wn (N : Nat) (b : Nat → Bool) (wn : Nat → Int32) : Prop := ∀ j, j ≤ N → wn j = nI (if b j then 1 + cnt b 0 j else 0)
theorem inR_nat1 {x : Int32} {hi : Nat} (hh : hi < 2 ^ 31) (h : inR x (nI 1) (nI hi) = true) : ∃ k : Nat, 1 ≤ k ∧ k ≤ hi ∧ x = nI k := by
  have h1 := h
  simp only [inR, Bool.and_eq_true, decide_eq_true_eq] at h1
  have h2 : inR x (nI 0) (nI hi) = true := by
    simp only [inR, Bool.and_eq_true, decide_eq_true_eq]
    exact ⟨Int32.le_trans (by decide) h1.1, h1.2⟩
  obtain ⟨k, hk, rfl⟩ := inR_nat hh h2
  exact ⟨k, (nI_leI (by decide) (by omega)).mp h1.1, hk, rfl⟩
theorem isO_dec {N T : Nat} {w : Nat → Int32} {L : List Nat} {rt : Nat → Int32} (hH : Hp N T w L rt) {k : Nat} (hk : k ≤ N) : isO L (nI k) = decide (k ∈ L) := by
  by_cases h : k ∈ L
  · rw [isO_iff.mpr ⟨k, h, rfl⟩]; simp [h]
  · rw [show decide (k ∈ L) = false by simp [h]]
    refine Bool.eq_false_iff.mpr fun q => ?_
    obtain ⟨t, ht, e⟩ := isO_iff.mp q
    exact h (nI_inj hH ht hk e ▸ ht)
theorem isO_out {N T : Nat} {w : Nat → Int32} {L : List Nat} {rt : Nat → Int32} (hH : Hp N T w L rt) {a : Int32} (h : inR a (nI 1) (nI N) = false) : isO L a = false := by
  refine Bool.eq_false_iff.mpr fun q => ?_
  obtain ⟨t, ht, rfl⟩ := isO_iff.mp q
  have h1 := hH.obj ht
  have h2 := hH.N
  have h3 : inR (nI t) (nI 1) (nI N) = true := by
    simp only [inR, Bool.and_eq_true, decide_eq_true_eq]
    exact ⟨nI_le h1.1 (by omega), nI_le h1.2.2.2 (by omega)⟩
  rw [h3] at h
  cases h
theorem upd_id {f : Nat → Int32} {k : Nat} {v : Int32} (h : f k = v) : upd f k v = f := funext fun j => by
  by_cases e : j = k
  · rw [e, pk_us, h]
  · rw [pk_un e]
def ofS (N B : Nat) (b : Nat → Bool) (i : Int32) : Int32 := if inR i (nI 0) (nI (N / B)) then nI (cnt b 0 (hdN i * B)) else -1
def mkL (N T : Nat) (L : List Nat) (r q : Int32) : List Nat := if inR r (nI 0) (nI 15) && inR q (nI 0) (nI 100) && decide (T + hdN r + hdN q ≤ N) then L ++ [T] else L
theorem Bg_add {N T : Nat} {L : List Nat} {gn : Nat → Int32} (h : Bg N L gn) : Bg N (L ++ [T]) (upd gn T (nI 1)) := fun a ha => by
  by_cases e : a = T
  · rw [e, pk_us]; simp [b2i]; rfl
  · rw [pk_un e, h a ha]; simp [e]
section D1
variable {l : Launch} {D : va_G} {m0 bw bf bb bg br bn ba : Nat} {cI cL cZ : ClassId} {N B T O C R : Nat} {th : Int32} {w f gn fg rt wn fr : Nat → Int32}
variable {L : List Nat} {bb0 : Nat → Bool}
set_option maxHeartbeats 4000000 in
set_option maxRecDepth 100000 in
theorem c_D_references (i : Nat) (hN : N ≤ 4000) (hi : i ≤ N) (hw : ¬ w i < 0) : roC l y_D_references b_D_references 2 (some .int) { frames := 0, cells := 0, slots := 0, locals := 0 } D (tyS cI cL cZ) [.ref m0, .int (nI i)] (dW m0 bw bf bb bg br bn ba cI cZ N B T O C R th w f gn fg rt wn fr) (fun r => r = nI (rfN (w i))) := by
  refine ro_of (by decide) (Nat.le_of_ble_eq_true rfl) ?_
  intro p e s m args below meth c S hr hlocks hK hP ls hl
  have hx := S.1
  have hb := S.2.1
  have hl : lv_has ls 2 [(0, .ref m0), (1, .int (nI i))] := hl
  have hlt := hdN_lt (w i)
  refine lv_aload_n hx hb d_D_references_0 rfl (lv_at hl 0 rfl) ?_
  refine k_get S i_D hK hP 0 rfl rfl 7 (by decide) tb_223 rfl rfl d_D_references_1 ?_
  refine lv_iload_n hx hb d_D_references_4 rfl (lv_at hl 1 rfl) ?_
  refine k_ild hx hb hK hP 1 0 rfl rfl (by omega) (by omega) d_D_references_5 ?_
  refine k_top (y := nI (hdN (w i))) (nI_hdN hw) ?_
  refine lv_bipush (v := nI 16) hx hb d_D_references_6 (by decide) ?_
  refine k_div hx hb d_D_references_8 (by omega) (by omega) (by omega) ?_
  refine lv_bipush (v := nI 16) hx hb d_D_references_9 (by decide) ?_
  refine k_rem hx hb d_D_references_11 (by omega) (by omega) (by omega) ?_
  exact k_ret S hr hlocks (rfl) d_D_references_12
set_option maxHeartbeats 4000000 in
set_option maxRecDepth 100000 in
theorem c_D_plain (i : Nat) (hN : N ≤ 4000) (hi : i ≤ N) (hw : ¬ w i < 0) : roC l y_D_plain b_D_plain 2 (some .int) { frames := 0, cells := 0, slots := 0, locals := 0 } D (tyS cI cL cZ) [.ref m0, .int (nI i)] (dW m0 bw bf bb bg br bn ba cI cZ N B T O C R th w f gn fg rt wn fr) (fun r => r = nI (plN (w i))) := by
  refine ro_of (by decide) (Nat.le_of_ble_eq_true rfl) ?_
  intro p e s m args below meth c S hr hlocks hK hP ls hl
  have hx := S.1
  have hb := S.2.1
  have hl : lv_has ls 2 [(0, .ref m0), (1, .int (nI i))] := hl
  have hlt := hdN_lt (w i)
  refine lv_aload_n hx hb d_D_plain_0 rfl (lv_at hl 0 rfl) ?_
  refine k_get S i_D hK hP 0 rfl rfl 7 (by decide) tb_223 rfl rfl d_D_plain_1 ?_
  refine lv_iload_n hx hb d_D_plain_4 rfl (lv_at hl 1 rfl) ?_
  refine k_ild hx hb hK hP 1 0 rfl rfl (by omega) (by omega) d_D_plain_5 ?_
  refine k_top (y := nI (hdN (w i))) (nI_hdN hw) ?_
  refine lv_sipush (v := nI 256) hx hb d_D_plain_6 (by decide) ?_
  refine k_div hx hb d_D_plain_9 (by omega) (by omega) (by omega) ?_
  exact k_ret S hr hlocks (rfl) d_D_plain_10
set_option maxHeartbeats 4000000 in
set_option maxRecDepth 100000 in
theorem c_D_length (i : Nat) (hN : N ≤ 4000) (hi : i ≤ N) (hw : ¬ w i < 0) : roC l y_D_length b_D_length 2 (some .int) { frames := 1, cells := 0, slots := 0, locals := 21 } D (tyS cI cL cZ) [.ref m0, .int (nI i)] (dW m0 bw bf bb bg br bn ba cI cZ N B T O C R th w f gn fg rt wn fr) (fun r => r = nI (szN (w i))) := by
  refine ro_of (by decide) (Nat.le_of_ble_eq_true rfl) ?_
  intro p e s m args below meth c S hr hlocks hK hP ls hl
  have hx := S.1
  have hb := S.2.1
  have hl : lv_has ls 2 [(0, .ref m0), (1, .int (nI i))] := hl
  refine lv_iconst (v := nI 1) hx hb d_D_length_0 (by decide) ?_
  refine lv_aload_n hx hb d_D_length_1 rfl (lv_at hl 0 rfl) ?_
  refine lv_iload_n hx hb d_D_length_2 rfl (lv_at hl 1 rfl) ?_
  refine k_roV (np := 1) (As := [.int (nI i)]) (rest := [.int (nI 1)]) S (c_D_references i hN hi hw) (gd_V tb_279 tb_281 tp_D_references tb_4 tb_282) hK hP rfl rfl (by decide +kernel) rfl ⟨rfl, rfl⟩ ⟨Nat.le_of_ble_eq_true rfl, Nat.le_of_ble_eq_true rfl⟩ hl.1 rfl (Nat.le_of_ble_eq_true rfl) d_D_length_3 ⟨Nat.zero_le _, Nat.zero_le _⟩ (fun v1 hv1 => ?_)
  subst hv1
  refine k_add hx hb d_D_length_6 ?_
  refine lv_aload_n hx hb d_D_length_7 rfl (lv_at hl 0 rfl) ?_
  refine lv_iload_n hx hb d_D_length_8 rfl (lv_at hl 1 rfl) ?_
  refine k_roV (np := 1) (As := [.int (nI i)]) (rest := [.int (nI (1 + (rfN (w i))))]) S (c_D_plain i hN hi hw) (gd_V tb_287 tb_289 tp_D_plain tb_4 tb_290) hK hP rfl rfl (by decide +kernel) rfl ⟨rfl, rfl⟩ ⟨Nat.le_of_ble_eq_true rfl, Nat.le_of_ble_eq_true rfl⟩ hl.1 rfl (Nat.le_of_ble_eq_true rfl) d_D_length_9 ⟨Nat.zero_le _, Nat.zero_le _⟩ (fun v2 hv2 => ?_)
  subst hv2
  refine k_add hx hb d_D_length_12 ?_
  exact k_ret S hr hlocks (rfl) d_D_length_13
set_option maxHeartbeats 4000000 in
set_option maxRecDepth 100000 in
theorem c_D_isObject (hH : Hp N T w L rt) (hG : Bg N L gn) (a : Int32) : roC l y_D_isObject b_D_isObject 2 (some .boolean) { frames := 1, cells := 0, slots := 0, locals := 22 } D (tyS cI cL cZ) [.ref m0, .int a] (dW m0 bw bf bb bg br bn ba cI cZ N B T O C R th w f gn fg rt wn fr) (fun r => r = b2i (isO L a)) := by
  refine ro_of (by decide) (Nat.le_of_ble_eq_true rfl) ?_
  intro p e s m args below meth c S hr hlocks hK hP ls hl
  have hx := S.1
  have hb := S.2.1
  have hl : lv_has ls 2 [(0, .ref m0), (1, .int a)] := hl
  have hN := hH.N
  refine lv_iload_n hx hb d_D_isObject_0 rfl (lv_at hl 1 rfl) ?_
  refine lv_iconst (v := nI 1) hx hb d_D_isObject_1 (by decide) ?_
  refine lv_aload_n hx hb d_D_isObject_2 rfl (lv_at hl 0 rfl) ?_
  refine k_get S i_D hK hP 0 rfl rfl 1 (by decide) tb_217 rfl rfl d_D_isObject_3 ?_
  refine k_roS (np := 3) (As := [.int a, .int (nI 1), .int (nI N)]) (rest := []) S (c_D_isIn a (nI 1) (nI N)) (gd_S tb_263 tb_264 tb_4 tb_265) hK (hP.sub [] rfl) (by decide +kernel) rfl ⟨rfl, rfl⟩ ⟨Nat.le_of_ble_eq_true rfl, Nat.le_of_ble_eq_true rfl⟩ hl.1 rfl (Nat.le_of_ble_eq_true rfl) d_D_isObject_6 ⟨Nat.zero_le _, Nat.zero_le _⟩ (fun v1 hv1 => ?_)
  subst hv1
  refine k_beq (tgt := 25) hx hb d_D_isObject_9 (by decide) (fun c1 => ?_) (fun c1 => ?_)
  · refine lv_iconst (v := nI 0) hx hb d_D_isObject_25 (by decide) ?_
    refine k_top (y := 0) (rfl) ?_
    exact k_retz S hr hlocks (by decide) (by rw [isO_out hH c1]; rfl) d_D_isObject_26
  · obtain ⟨k, hk1, hk, rfl⟩ := inR_nat1 (by omega) c1
    refine lv_aload_n hx hb d_D_isObject_12 rfl (lv_at hl 0 rfl) ?_
    refine k_get S i_D hK hP 0 rfl rfl 9 (by decide) tb_225 rfl rfl d_D_isObject_13 ?_
    refine lv_iload_n hx hb d_D_isObject_16 rfl (lv_at hl 1 rfl) ?_
    refine k_zld hx hb hK hP 3 2 rfl rfl (by omega) (by omega) d_D_isObject_17 ?_
    refine k_top (y := b2i (decide (k ∈ L))) (hG k hk) ?_
    refine k_beq (tgt := 25) hx hb d_D_isObject_18 (by decide) (fun c2 => ?_) (fun c2 => ?_)
    · refine lv_iconst (v := nI 0) hx hb d_D_isObject_25 (by decide) ?_
      refine k_top (y := 0) (rfl) ?_
      exact k_retz S hr hlocks (by decide) (by rw [isO_dec hH hk, c2]; rfl) d_D_isObject_26
    · refine lv_iconst (v := nI 1) hx hb d_D_isObject_21 (by decide) ?_
      refine lv_goto (tgt := 26) hx hb d_D_isObject_22 (by decide) ?_
      refine k_top (y := 1) (rfl) ?_
      exact k_retz S hr hlocks (by decide) (by rw [isO_dec hH hk, c2]; rfl) d_D_isObject_26
set_option maxHeartbeats 4000000 in
set_option maxRecDepth 100000 in
theorem c_D_isLead (hH : Hp N T w L rt) (hG : Bg N L gn) (a : Int32) : roC l y_D_isLead b_D_isLead 2 (some .boolean) { frames := 2, cells := 0, slots := 0, locals := 43 } D (tyS cI cL cZ) [.ref m0, .int a] (dW m0 bw bf bb bg br bn ba cI cZ N B T O C R th w f gn fg rt wn fr) (fun r => r = b2i (isLd L a)) := by
  refine ro_of (by decide) (Nat.le_of_ble_eq_true rfl) ?_
  intro p e s m args below meth c S hr hlocks hK hP ls hl
  have hx := S.1
  have hb := S.2.1
  have hl : lv_has ls 2 [(0, .ref m0), (1, .int a)] := hl
  refine lv_iload_n hx hb d_D_isLead_0 rfl (lv_at hl 1 rfl) ?_
  refine lv_if_eq (tgt := 12) hx hb d_D_isLead_1 (by decide) (fun c1 => ?_) (fun c1 => ?_)
  · refine lv_iconst (v := nI 1) hx hb d_D_isLead_12 (by decide) ?_
    refine lv_goto (tgt := 17) hx hb d_D_isLead_13 (by decide) ?_
    refine k_top (y := 1) (rfl) ?_
    exact k_retz S hr hlocks (by decide) (by simp [isLd, c1, b2i]) d_D_isLead_17
  · refine lv_aload_n hx hb d_D_isLead_4 rfl (lv_at hl 0 rfl) ?_
    refine lv_iload_n hx hb d_D_isLead_5 rfl (lv_at hl 1 rfl) ?_
    refine k_roV (np := 1) (As := [.int a]) (rest := []) S (c_D_isObject hH hG a) (gd_V tb_274 tb_267 tb_268 tb_4 tb_269) hK hP rfl rfl (by decide +kernel) rfl ⟨rfl, rfl⟩ ⟨Nat.le_of_ble_eq_true rfl, Nat.le_of_ble_eq_true rfl⟩ hl.1 rfl (Nat.le_of_ble_eq_true rfl) d_D_isLead_6 ⟨Nat.zero_le _, Nat.zero_le _⟩ (fun v1 hv1 => ?_)
    subst hv1
    refine k_beq (tgt := 16) hx hb d_D_isLead_9 (by decide) (fun c2 => ?_) (fun c2 => ?_)
    · refine lv_iconst (v := nI 0) hx hb d_D_isLead_16 (by decide) ?_
      refine k_top (y := 0) (rfl) ?_
      exact k_retz S hr hlocks (by decide) (by simp [isLd, c1, c2, b2i]) d_D_isLead_17
    · refine lv_iconst (v := nI 1) hx hb d_D_isLead_12 (by decide) ?_
      refine lv_goto (tgt := 17) hx hb d_D_isLead_13 (by decide) ?_
      refine k_top (y := 1) (rfl) ?_
      exact k_retz S hr hlocks (by decide) (by simp [isLd, c1, c2, b2i]) d_D_isLead_17
set_option maxHeartbeats 4000000 in
set_option maxRecDepth 100000 in
theorem c_D_isWord (i : Int32) : roC l y_D_isWord b_D_isWord 2 (some .boolean) { frames := 1, cells := 0, slots := 0, locals := 22 } D (tyS cI cL cZ) [.ref m0, .int i] (dW m0 bw bf bb bg br bn ba cI cZ N B T O C R th w f gn fg rt wn fr) (fun r => r = b2i (inR i (nI 0) (nI N))) := by
  refine ro_of (by decide) (Nat.le_of_ble_eq_true rfl) ?_
  intro p e s m args below meth c S hr hlocks hK hP ls hl
  have hx := S.1
  have hb := S.2.1
  have hl : lv_has ls 2 [(0, .ref m0), (1, .int i)] := hl
  refine lv_iload_n hx hb d_D_isWord_0 rfl (lv_at hl 1 rfl) ?_
  refine lv_iconst (v := nI 0) hx hb d_D_isWord_1 (by decide) ?_
  refine lv_aload_n hx hb d_D_isWord_2 rfl (lv_at hl 0 rfl) ?_
  refine k_get S i_D hK hP 0 rfl rfl 1 (by decide) tb_217 rfl rfl d_D_isWord_3 ?_
  refine k_roS (np := 3) (As := [.int i, .int (nI 0), .int (nI N)]) (rest := []) S (c_D_isIn i (nI 0) (nI N)) (gd_S tb_263 tb_264 tb_4 tb_265) hK (hP.sub [] rfl) (by decide +kernel) rfl ⟨rfl, rfl⟩ ⟨Nat.le_of_ble_eq_true rfl, Nat.le_of_ble_eq_true rfl⟩ hl.1 rfl (Nat.le_of_ble_eq_true rfl) d_D_isWord_6 ⟨Nat.zero_le _, Nat.zero_le _⟩ (fun v1 hv1 => ?_)
  subst hv1
  exact k_retz S hr hlocks (b2i_nar _) (rfl) d_D_isWord_9
set_option maxHeartbeats 4000000 in
set_option maxRecDepth 100000 in
theorem c_D_word (i : Int32) (hN : N ≤ 4000) : roC l y_D_word b_D_word 2 (some .int) { frames := 2, cells := 0, slots := 0, locals := 43 } D (tyS cI cL cZ) [.ref m0, .int i] (dW m0 bw bf bb bg br bn ba cI cZ N B T O C R th w f gn fg rt wn fr) (fun r => r = if inR i (nI 0) (nI N) then w i.toNatClampNeg else -1) := by
  refine ro_of (by decide) (Nat.le_of_ble_eq_true rfl) ?_
  intro p e s m args below meth c S hr hlocks hK hP ls hl
  have hx := S.1
  have hb := S.2.1
  have hl : lv_has ls 2 [(0, .ref m0), (1, .int i)] := hl
  refine lv_aload_n hx hb d_D_word_0 rfl (lv_at hl 0 rfl) ?_
  refine lv_iload_n hx hb d_D_word_1 rfl (lv_at hl 1 rfl) ?_
  refine k_roV (np := 1) (As := [.int i]) (rest := []) S (c_D_isWord i) (gd_V tb_312 tb_314 tp_D_isWord tb_4 tb_315) hK hP rfl rfl (by decide +kernel) rfl ⟨rfl, rfl⟩ ⟨Nat.le_of_ble_eq_true rfl, Nat.le_of_ble_eq_true rfl⟩ hl.1 rfl (Nat.le_of_ble_eq_true rfl) d_D_word_2 ⟨Nat.zero_le _, Nat.zero_le _⟩ (fun v1 hv1 => ?_)
  subst hv1
  refine k_beq (tgt := 17) hx hb d_D_word_5 (by decide) (fun c1 => ?_) (fun c1 => ?_)
  · refine lv_iconst (v := (-1)) hx hb d_D_word_17 (by decide) ?_
    exact k_ret S hr hlocks (by rw [c1]; rfl) d_D_word_18
  · obtain ⟨k, hk, rfl⟩ := inR_nat (by omega) c1
    refine lv_aload_n hx hb d_D_word_8 rfl (lv_at hl 0 rfl) ?_
    refine k_get S i_D hK hP 0 rfl rfl 7 (by decide) tb_223 rfl rfl d_D_word_9 ?_
    refine lv_iload_n hx hb d_D_word_12 rfl (lv_at hl 1 rfl) ?_
    refine k_ild hx hb hK hP 1 0 rfl rfl (by omega) (by omega) d_D_word_13 ?_
    refine lv_goto (tgt := 18) hx hb d_D_word_14 (by decide) ?_
    exact k_ret S hr hlocks (by rw [c1, nI_clamp (by omega)]; rfl) d_D_word_18
set_option maxHeartbeats 4000000 in
set_option maxRecDepth 100000 in
theorem c_D_rootOf (i : Int32) : roC l y_D_rootOf b_D_rootOf 2 (some .int) { frames := 1, cells := 0, slots := 0, locals := 22 } D (tyS cI cL cZ) [.ref m0, .int i] (dW m0 bw bf bb bg br bn ba cI cZ N B T O C R th w f gn fg rt wn fr) (fun r => r = if inR i (nI 0) (nI 7) then rt i.toNatClampNeg else -1) := by
  refine ro_of (by decide) (Nat.le_of_ble_eq_true rfl) ?_
  intro p e s m args below meth c S hr hlocks hK hP ls hl
  have hx := S.1
  have hb := S.2.1
  have hl : lv_has ls 2 [(0, .ref m0), (1, .int i)] := hl
  refine lv_iload_n hx hb d_D_rootOf_0 rfl (lv_at hl 1 rfl) ?_
  refine lv_iconst (v := nI 0) hx hb d_D_rootOf_1 (by decide) ?_
  refine lv_bipush (v := nI 7) hx hb d_D_rootOf_2 (by decide) ?_
  refine k_roS (np := 3) (As := [.int i, .int (nI 0), .int (nI 7)]) (rest := []) S (c_D_isIn i (nI 0) (nI 7)) (gd_S tb_263 tb_264 tb_4 tb_265) hK (hP.sub [] rfl) (by decide +kernel) rfl ⟨rfl, rfl⟩ ⟨Nat.le_of_ble_eq_true rfl, Nat.le_of_ble_eq_true rfl⟩ hl.1 rfl (Nat.le_of_ble_eq_true rfl) d_D_rootOf_4 ⟨Nat.zero_le _, Nat.zero_le _⟩ (fun v1 hv1 => ?_)
  subst hv1
  refine k_beq (tgt := 19) hx hb d_D_rootOf_7 (by decide) (fun c1 => ?_) (fun c1 => ?_)
  · refine lv_iconst (v := (-1)) hx hb d_D_rootOf_19 (by decide) ?_
    exact k_ret S hr hlocks (by rw [c1]; rfl) d_D_rootOf_20
  · obtain ⟨k, hk, rfl⟩ := inR_nat (by omega) c1
    refine lv_aload_n hx hb d_D_rootOf_10 rfl (lv_at hl 0 rfl) ?_
    refine k_get S i_D hK hP 0 rfl rfl 11 (by decide) tb_227 rfl rfl d_D_rootOf_11 ?_
    refine lv_iload_n hx hb d_D_rootOf_14 rfl (lv_at hl 1 rfl) ?_
    refine k_ild hx hb hK hP 5 0 rfl rfl (by omega) (by omega) d_D_rootOf_15 ?_
    refine lv_goto (tgt := 20) hx hb d_D_rootOf_16 (by decide) ?_
    exact k_ret S hr hlocks (by rw [c1, nI_clamp (by omega)]; rfl) d_D_rootOf_20
set_option maxHeartbeats 4000000 in
set_option maxRecDepth 100000 in
theorem c_D_bit (i : Int32) (hN : N ≤ 4000) (hW : Wn N bb0 wn) : roC l y_D_bit b_D_bit 2 (some .int) { frames := 2, cells := 0, slots := 0, locals := 43 } D (tyS cI cL cZ) [.ref m0, .int i] (dW m0 bw bf bb bg br bn ba cI cZ N B T O C R th w f gn fg rt wn fr) (fun r => r = btS N bb0 i) := by
  refine ro_of (by decide) (Nat.le_of_ble_eq_true rfl) ?_
  intro p e s m args below meth c S hr hlocks hK hP ls hl
  have hx := S.1
  have hb := S.2.1
  have hl : lv_has ls 2 [(0, .ref m0), (1, .int i)] := hl
  refine lv_aload_n hx hb d_D_bit_0 rfl (lv_at hl 0 rfl) ?_
  refine lv_iload_n hx hb d_D_bit_1 rfl (lv_at hl 1 rfl) ?_
  refine k_roV (np := 1) (As := [.int i]) (rest := []) S (c_D_isWord i) (gd_V tb_312 tb_314 tp_D_isWord tb_4 tb_315) hK hP rfl rfl (by decide +kernel) rfl ⟨rfl, rfl⟩ ⟨Nat.le_of_ble_eq_true rfl, Nat.le_of_ble_eq_true rfl⟩ hl.1 rfl (Nat.le_of_ble_eq_true rfl) d_D_bit_2 ⟨Nat.zero_le _, Nat.zero_le _⟩ (fun v1 hv1 => ?_)
  subst hv1
  refine k_bne (tgt := 12) hx hb d_D_bit_5 (by decide) (fun c1 => ?_) (fun c1 => ?_)
  · obtain ⟨k, hk, rfl⟩ := inR_nat (by omega) c1
    have hcl := cnt_le bb0 0 k
    refine lv_aload_n hx hb d_D_bit_12 rfl (lv_at hl 0 rfl) ?_
    refine k_get S i_D hK hP 0 rfl rfl 12 (by decide) tb_228 rfl rfl d_D_bit_13 ?_
    refine lv_iload_n hx hb d_D_bit_16 rfl (lv_at hl 1 rfl) ?_
    refine k_ild hx hb hK hP 6 0 rfl rfl (by omega) (by omega) d_D_bit_17 ?_
    refine k_top (y := nI (if bb0 k then 1 + cnt bb0 0 k else 0)) (hW k hk) ?_
    refine k_zle (tgt := 25) hx hb d_D_bit_18 (by decide) (by split <;> omega) (fun c2 => ?_) (fun c2 => ?_)
    · refine lv_iconst (v := nI 0) hx hb d_D_bit_25 (by decide) ?_
      exact k_ret S hr hlocks (by unfold btS; rw [c1, hdN_nI (by omega)]; cases hb : bb0 k <;> simp [hb] at c2 ⊢; rfl) d_D_bit_26
    · refine lv_iconst (v := nI 1) hx hb d_D_bit_21 (by decide) ?_
      refine lv_goto (tgt := 26) hx hb d_D_bit_22 (by decide) ?_
      exact k_ret S hr hlocks (by unfold btS; rw [c1, hdN_nI (by omega)]; cases hb : bb0 k <;> simp [hb] at c2 ⊢; rfl) d_D_bit_26
  · refine lv_iconst (v := (-1)) hx hb d_D_bit_8 (by decide) ?_
    refine lv_goto (tgt := 26) hx hb d_D_bit_9 (by decide) ?_
    exact k_ret S hr hlocks (by unfold btS; rw [c1]; rfl) d_D_bit_26
set_option maxHeartbeats 4000000 in
set_option maxRecDepth 100000 in
theorem c_D_moved (i : Int32) (hN : N ≤ 4000) (hW : Wn N bb0 wn) : roC l y_D_moved b_D_moved 2 (some .int) { frames := 2, cells := 0, slots := 0, locals := 43 } D (tyS cI cL cZ) [.ref m0, .int i] (dW m0 bw bf bb bg br bn ba cI cZ N B T O C R th w f gn fg rt wn fr) (fun r => r = mvS N bb0 i) := by
  refine ro_of (by decide) (Nat.le_of_ble_eq_true rfl) ?_
  intro p e s m args below meth c S hr hlocks hK hP ls hl
  have hx := S.1
  have hb := S.2.1
  have hl : lv_has ls 2 [(0, .ref m0), (1, .int i)] := hl
  refine lv_aload_n hx hb d_D_moved_0 rfl (lv_at hl 0 rfl) ?_
  refine lv_iload_n hx hb d_D_moved_1 rfl (lv_at hl 1 rfl) ?_
  refine k_roV (np := 1) (As := [.int i]) (rest := []) S (c_D_isWord i) (gd_V tb_312 tb_314 tp_D_isWord tb_4 tb_315) hK hP rfl rfl (by decide +kernel) rfl ⟨rfl, rfl⟩ ⟨Nat.le_of_ble_eq_true rfl, Nat.le_of_ble_eq_true rfl⟩ hl.1 rfl (Nat.le_of_ble_eq_true rfl) d_D_moved_2 ⟨Nat.zero_le _, Nat.zero_le _⟩ (fun v1 hv1 => ?_)
  subst hv1
  refine k_beq (tgt := 17) hx hb d_D_moved_5 (by decide) (fun c1 => ?_) (fun c1 => ?_)
  · refine lv_iconst (v := (-1)) hx hb d_D_moved_17 (by decide) ?_
    exact k_ret S hr hlocks (by unfold mvS; rw [c1]; rfl) d_D_moved_18
  · obtain ⟨k, hk, rfl⟩ := inR_nat (by omega) c1
    refine lv_aload_n hx hb d_D_moved_8 rfl (lv_at hl 0 rfl) ?_
    refine k_get S i_D hK hP 0 rfl rfl 12 (by decide) tb_228 rfl rfl d_D_moved_9 ?_
    refine lv_iload_n hx hb d_D_moved_12 rfl (lv_at hl 1 rfl) ?_
    refine k_ild hx hb hK hP 6 0 rfl rfl (by omega) (by omega) d_D_moved_13 ?_
    refine lv_goto (tgt := 18) hx hb d_D_moved_14 (by decide) ?_
    exact k_ret S hr hlocks (by unfold mvS; rw [c1, hdN_nI (by omega), hW k hk]; cases hb : bb0 k <;> rfl) d_D_moved_18
set_option maxHeartbeats 4000000 in
set_option maxRecDepth 100000 in
theorem c_D_reads  : roC l y_D_reads b_D_reads 1 (some .int) { frames := 0, cells := 0, slots := 0, locals := 0 } D (tyS cI cL cZ) [.ref m0] (dW m0 bw bf bb bg br bn ba cI cZ N B T O C R th w f gn fg rt wn fr) (fun r => r = nI R) := by
  refine ro_of (by decide) (Nat.le_of_ble_eq_true rfl) ?_
  intro p e s m args below meth c S hr hlocks hK hP ls hl
  have hx := S.1
  have hb := S.2.1
  have hl : lv_has ls 1 [(0, .ref m0)] := hl
  refine lv_aload_n hx hb d_D_reads_0 rfl (lv_at hl 0 rfl) ?_
  refine k_get S i_D hK hP 0 rfl rfl 6 (by decide) tb_222 rfl rfl d_D_reads_1 ?_
  exact k_ret S hr hlocks (rfl) d_D_reads_4
set_option maxHeartbeats 4000000 in
set_option maxRecDepth 100000 in
theorem c_D_blocks (hN : N ≤ 4000) (hB : 0 < B) (hB2 : B ≤ 64) : roC l y_D_blocks b_D_blocks 1 (some .int) { frames := 0, cells := 0, slots := 0, locals := 0 } D (tyS cI cL cZ) [.ref m0] (dW m0 bw bf bb bg br bn ba cI cZ N B T O C R th w f gn fg rt wn fr) (fun r => r = nI (N / B + 1)) := by
  refine ro_of (by decide) (Nat.le_of_ble_eq_true rfl) ?_
  intro p e s m args below meth c S hr hlocks hK hP ls hl
  have hx := S.1
  have hb := S.2.1
  have hl : lv_has ls 1 [(0, .ref m0)] := hl
  refine lv_aload_n hx hb d_D_blocks_0 rfl (lv_at hl 0 rfl) ?_
  refine k_get S i_D hK hP 0 rfl rfl 1 (by decide) tb_217 rfl rfl d_D_blocks_1 ?_
  refine lv_aload_n hx hb d_D_blocks_4 rfl (lv_at hl 0 rfl) ?_
  refine k_get S i_D hK hP 0 rfl rfl 2 (by decide) tb_218 rfl rfl d_D_blocks_5 ?_
  refine k_div hx hb d_D_blocks_8 (by omega) (by omega) (by omega) ?_
  refine lv_iconst (v := nI 1) hx hb d_D_blocks_9 (by decide) ?_
  refine k_add hx hb d_D_blocks_10 ?_
  exact k_ret S hr hlocks (rfl) d_D_blocks_11
set_option maxHeartbeats 4000000 in
set_option maxRecDepth 100000 in
theorem c_D_offset (i : Int32) (hN : N ≤ 4000) (hB : 0 < B) (hB2 : B ≤ 64) (hW : Wn N bb0 wn) : roC l y_D_offset b_D_offset 4 (some .int) { frames := 1, cells := 0, slots := 0, locals := 22 } D (tyS cI cL cZ) [.ref m0, .int i] (dW m0 bw bf bb bg br bn ba cI cZ N B T O C R th w f gn fg rt wn fr) (fun r => r = ofS N B bb0 i) := by
  refine ro_of (by decide) (Nat.le_of_ble_eq_true rfl) ?_
  intro p e s m args below meth c S hr hlocks hK hP ls hl
  have hx := S.1
  have hb := S.2.1
  have hl : lv_has ls 4 [(0, .ref m0), (1, .int i)] := hl
  have hq : N / B ≤ N := Nat.div_le_self N B
  refine lv_iload_n hx hb d_D_offset_0 rfl (lv_at hl 1 rfl) ?_
  refine lv_iconst (v := nI 0) hx hb d_D_offset_1 (by decide) ?_
  refine lv_aload_n hx hb d_D_offset_2 rfl (lv_at hl 0 rfl) ?_
  refine k_roV (np := 0) (As := []) (rest := [.int (nI 0), .int i]) S (c_D_blocks hN hB hB2) (gd_V tb_328 tb_330 tp_D_blocks tb_4 tb_331) hK hP rfl rfl (by decide +kernel) rfl ⟨rfl, rfl⟩ ⟨Nat.le_of_ble_eq_true rfl, Nat.le_of_ble_eq_true rfl⟩ hl.1 rfl (Nat.le_of_ble_eq_true rfl) d_D_offset_3 ⟨Nat.zero_le _, Nat.zero_le _⟩ (fun v1 hv1 => ?_)
  subst hv1
  refine lv_iconst (v := nI 1) hx hb d_D_offset_6 (by decide) ?_
  refine k_sub hx hb d_D_offset_7 (Nat.le_add_left 1 _) ?_
  refine k_top (y := nI (N / B)) (rfl) ?_
  refine k_roS (np := 3) (As := [.int i, .int (nI 0), .int (nI (N / B))]) (rest := []) S (c_D_isIn i (nI 0) (nI (N / B))) (gd_S tb_263 tb_264 tb_4 tb_265) hK (hP.sub [] rfl) (by decide +kernel) rfl ⟨rfl, rfl⟩ ⟨Nat.le_of_ble_eq_true rfl, Nat.le_of_ble_eq_true rfl⟩ hl.1 rfl (Nat.le_of_ble_eq_true rfl) d_D_offset_8 ⟨Nat.zero_le _, Nat.zero_le _⟩ (fun v2 hv2 => ?_)
  subst hv2
  refine k_bne (tgt := 16) hx hb d_D_offset_11 (by decide) (fun c1 => ?_) (fun c1 => ?_)
  · obtain ⟨k, hk, rfl⟩ := inR_nat (by omega) c1
    have hkB : k * B ≤ N := Nat.le_trans (Nat.mul_le_mul_right B hk) (Nat.div_mul_le_self N B)
    have hkN : hdN (nI k) = k := hdN_nI (by omega)
    have loop : ∀ (n j z : Nat), k * B < j + n → j ≤ k * B → z = cnt bb0 0 j → ∀ ls : Array Slot, lv_has ls 4 [(3, .int (nI j)), (2, .int (nI z)), (0, .ref m0), (1, .int (nI k))] → W p l e ({ frames := 1, cells := 0, slots := 0, locals := 22 } : Room) s m args below meth c s.heap [] 0 0 (MQ below (vp_Si (fun r => r = ofS N B bb0 (nI k))) args s 0 0 (fun _ => False)) (F0 m 20 ls []) := by
      intro n
      induction n with
      | zero => intro j z h1 h2; omega
      | succ n ih =>
        intro j z hn hj hz ls hl
        have hcl := cnt_le bb0 0 j
        refine lv_iload_n hx hb d_D_offset_20 rfl (lv_at hl 0 rfl) ?_
        refine lv_iload_n hx hb d_D_offset_21 rfl (lv_at hl 3 rfl) ?_
        refine lv_aload_n hx hb d_D_offset_22 rfl (lv_at hl 2 rfl) ?_
        refine k_get S i_D hK hP 0 rfl rfl 2 (by decide) tb_218 rfl rfl d_D_offset_23 ?_
        refine k_mul hx hb d_D_offset_26 ?_
        refine k_ige (tgt := 53) hx hb d_D_offset_27 (by decide) (by omega) (by omega) (fun c2 => ?_) (fun c2 => ?_)
        · refine lv_iload_n hx hb d_D_offset_53 rfl (lv_at hl 1 rfl) ?_
          exact k_ret S hr hlocks (by unfold ofS; rw [c1, hkN, hz, show j = k * B by omega]; rfl) d_D_offset_54
        · refine lv_aload_n hx hb d_D_offset_30 rfl (lv_at hl 2 rfl) ?_
          refine k_get S i_D hK hP 0 rfl rfl 12 (by decide) tb_228 rfl rfl d_D_offset_31 ?_
          refine lv_iload_n hx hb d_D_offset_34 rfl (lv_at hl 0 rfl) ?_
          refine k_ild hx hb hK hP 6 0 rfl rfl (by omega) (by omega) d_D_offset_35 ?_
          refine k_top (y := nI (if bb0 j then 1 + cnt bb0 0 j else 0)) (hW j (by omega)) ?_
          refine k_zle (tgt := 45) hx hb d_D_offset_36 (by decide) (by split <;> omega) (fun c3 => ?_) (fun c3 => ?_)
          · have hb0 : bb0 j = false := by cases hb : bb0 j <;> simp [hb] at c3 ⊢
            refine lv_iload_n hx hb d_D_offset_45 rfl (lv_at hl 1 rfl) ?_
            refine lv_istore_n (lv' := [(2, .int (nI z)), (3, .int (nI j)), (0, .ref m0), (1, .int (nI k))]) hx hb d_D_offset_46 rfl hl (by decide) rfl (fun ls hl => ?_)
            refine k_iinc (k := 1) (a := j) (lv' := [(3, .int (nI (j + 1))), (2, .int (nI z)), (0, .ref m0), (1, .int (nI k))]) hx hb d_D_offset_47 hl rfl (by decide) rfl (fun ls hl => ?_)
            refine lv_goto (tgt := 20) hx hb d_D_offset_50 (by decide) ?_
            exact ih (j + 1) z (by omega) (by omega) (by rw [hz, cnt_f hb0]) ls (lv_sub hl [0, 1, 2, 3] rfl)
          · have hb0 : bb0 j = true := by cases hb : bb0 j <;> simp [hb] at c3 ⊢
            refine lv_iload_n hx hb d_D_offset_39 rfl (lv_at hl 1 rfl) ?_
            refine lv_iconst (v := nI 1) hx hb d_D_offset_40 (by decide) ?_
            refine k_add hx hb d_D_offset_41 ?_
            refine lv_goto (tgt := 46) hx hb d_D_offset_42 (by decide) ?_
            refine lv_istore_n (lv' := [(2, .int (nI (z + 1))), (3, .int (nI j)), (0, .ref m0), (1, .int (nI k))]) hx hb d_D_offset_46 rfl hl (by decide) rfl (fun ls hl => ?_)
            refine k_iinc (k := 1) (a := j) (lv' := [(3, .int (nI (j + 1))), (2, .int (nI (z + 1))), (0, .ref m0), (1, .int (nI k))]) hx hb d_D_offset_47 hl rfl (by decide) rfl (fun ls hl => ?_)
            refine lv_goto (tgt := 20) hx hb d_D_offset_50 (by decide) ?_
            exact ih (j + 1) (z + 1) (by omega) (by omega) (by rw [hz, cnt_t hb0]) ls (lv_sub hl [0, 1, 2, 3] rfl)
    refine lv_iconst (v := nI 0) hx hb d_D_offset_16 (by decide) ?_
    refine lv_istore_n (lv' := [(2, .int (nI 0)), (0, .ref m0), (1, .int (nI k))]) hx hb d_D_offset_17 rfl hl (by decide) rfl (fun ls hl => ?_)
    refine lv_iconst (v := nI 0) hx hb d_D_offset_18 (by decide) ?_
    refine lv_istore_n (lv' := [(3, .int (nI 0)), (2, .int (nI 0)), (0, .ref m0), (1, .int (nI k))]) hx hb d_D_offset_19 rfl hl (by decide) rfl (fun ls hl => ?_)
    exact loop (k * B + 1) 0 0 (by omega) (by omega) rfl ls (lv_sub hl [0, 1, 2, 3] rfl)
  · refine lv_iconst (v := (-1)) hx hb d_D_offset_14 (by decide) ?_
    exact k_ret S hr hlocks (by unfold ofS; rw [c1]; rfl) d_D_offset_15
set_option maxHeartbeats 4000000 in
set_option maxRecDepth 100000 in
theorem c_D_count (i : Int32) (hN : N ≤ 4000) (hB : 0 < B) (hB2 : B ≤ 64) : roC l y_D_count b_D_count 2 (some .int) { frames := 1, cells := 0, slots := 0, locals := 20 } D (tyS cI cL cZ) [.ref m0, .int i] (dW m0 bw bf bb bg br bn ba cI cZ N B T O C R th w f gn fg rt wn fr) (fun r => r = cntOf i T O C N (N / B + 1)) := by
  refine ro_of (by decide) (Nat.le_of_ble_eq_true rfl) ?_
  intro p e s m args below meth c S hr hlocks hK hP ls hl
  have hx := S.1
  have hb := S.2.1
  have hl : lv_has ls 2 [(0, .ref m0), (1, .int i)] := hl
  refine lv_iload_n hx hb d_D_count_0 rfl (lv_at hl 1 rfl) ?_
  rcases cnt_cases i with rfl | rfl | rfl | rfl | rfl | ⟨h1, h2⟩
  · refine lv_tableIn (off := 35) (tgt := 36) hx hb d_D_count_1 (by decide) (by decide) (by decide) (by decide) ?_
    refine lv_aload_n hx hb d_D_count_36 rfl (lv_at hl 0 rfl) ?_
    refine k_get S i_D hK hP 0 rfl rfl 3 (by decide) tb_219 rfl rfl d_D_count_37 ?_
    exact k_ret S hr hlocks (rfl) d_D_count_40
  · refine lv_tableIn (off := 40) (tgt := 41) hx hb d_D_count_1 (by decide) (by decide) (by decide) (by decide) ?_
    refine lv_aload_n hx hb d_D_count_41 rfl (lv_at hl 0 rfl) ?_
    refine k_get S i_D hK hP 0 rfl rfl 4 (by decide) tb_220 rfl rfl d_D_count_42 ?_
    exact k_ret S hr hlocks (rfl) d_D_count_45
  · refine lv_tableIn (off := 45) (tgt := 46) hx hb d_D_count_1 (by decide) (by decide) (by decide) (by decide) ?_
    refine lv_aload_n hx hb d_D_count_46 rfl (lv_at hl 0 rfl) ?_
    refine k_get S i_D hK hP 0 rfl rfl 5 (by decide) tb_221 rfl rfl d_D_count_47 ?_
    exact k_ret S hr hlocks (rfl) d_D_count_50
  · refine lv_tableIn (off := 50) (tgt := 51) hx hb d_D_count_1 (by decide) (by decide) (by decide) (by decide) ?_
    refine lv_aload_n hx hb d_D_count_51 rfl (lv_at hl 0 rfl) ?_
    refine k_get S i_D hK hP 0 rfl rfl 1 (by decide) tb_217 rfl rfl d_D_count_52 ?_
    exact k_ret S hr hlocks (rfl) d_D_count_55
  · refine lv_tableIn (off := 55) (tgt := 56) hx hb d_D_count_1 (by decide) (by decide) (by decide) (by decide) ?_
    refine lv_aload_n hx hb d_D_count_56 rfl (lv_at hl 0 rfl) ?_
    refine k_roV (np := 0) (As := []) (rest := []) S (c_D_blocks hN hB hB2) (gd_V tb_328 tb_330 tp_D_blocks tb_4 tb_331) hK hP rfl rfl (by decide +kernel) rfl ⟨rfl, rfl⟩ ⟨Nat.le_of_ble_eq_true rfl, Nat.le_of_ble_eq_true rfl⟩ hl.1 rfl (Nat.le_of_ble_eq_true rfl) d_D_count_57 ⟨Nat.zero_le _, Nat.zero_le _⟩ (fun v1 hv1 => ?_)
    subst hv1
    exact k_ret S hr hlocks (rfl) d_D_count_60
  · refine lv_tableOut (tgt := 61) hx hb d_D_count_1 h1 (by decide) ?_
    refine lv_iconst (v := (-1)) hx hb d_D_count_61 (by decide) ?_
    exact k_ret S hr hlocks ((h2 _ _ _ _ _).symm) d_D_count_62
set_option maxHeartbeats 4000000 in
set_option maxRecDepth 100000 in
theorem c_D_make (r q : Int32) (hH : Hp N T w L rt) (hG : Bg N L gn) {sz : Nat} : muC l y_D_make b_D_make 5 (some .int) { frames := 1, cells := 0, slots := 0, locals := 22 } D (tyS cI cL cZ) [.ref m0, .int r, .int q] sz (dW m0 bw bf bb bg br bn ba cI cZ N B T O C R th w f gn fg rt wn fr) (fun u : (Nat × Nat × (Nat → Int32)) × (Nat → Int32) => (dW m0 bw bf bb bg br bn ba cI cZ N B u.1.1 u.1.2.1 C R th u.1.2.2 f u.2 fg rt wn fr)) (fun v u => (v, u.1) = mkS N T O w r q ∧ Bg N (mkL N T L r q) u.2) := by
  refine mu_of (by decide) (Nat.le_of_ble_eq_true rfl) ?_
  intro p e s m args below meth c A S hr hlocks hK hP hD hA hS ls hl
  have hx := S.1
  have hb := S.2.1
  have hl : lv_has ls 5 [(0, .ref m0), (1, .int r), (2, .int q)] := hl
  have hN := hH.N
  have hT := hH.T
  refine lv_iload_n hx hb d_D_make_0 rfl (lv_at hl 1 rfl) ?_
  refine lv_iconst (v := nI 0) hx hb d_D_make_1 (by decide) ?_
  refine lv_bipush (v := nI 15) hx hb d_D_make_2 (by decide) ?_
  refine k_roS (np := 3) (As := [.int r, .int (nI 0), .int (nI 15)]) (rest := []) S (c_D_isIn r (nI 0) (nI 15)) (gd_S tb_263 tb_264 tb_4 tb_265) hK (hP.sub [] rfl) (by decide +kernel) rfl ⟨rfl, rfl⟩ ⟨Nat.le_of_ble_eq_true rfl, Nat.le_of_ble_eq_true rfl⟩ hl.1 rfl (Nat.le_of_ble_eq_true rfl) d_D_make_4 ⟨Nat.zero_le _, Nat.zero_le _⟩ (fun v1 hv1 => ?_)
  subst hv1
  refine k_beq (tgt := 20) hx hb d_D_make_7 (by decide) (fun c1 => ?_) (fun c1 => ?_)
  · refine lv_iconst (v := (-1)) hx hb d_D_make_20 (by decide) ?_
    exact k_mret S hr hlocks ((T, O, w), gn) (⟨by unfold mkS; rw [c1]; rfl, by unfold mkL; rw [c1]; exact hG⟩) hP hD hS d_D_make_21
  · refine lv_iload_n hx hb d_D_make_10 rfl (lv_at hl 2 rfl) ?_
    refine lv_iconst (v := nI 0) hx hb d_D_make_11 (by decide) ?_
    refine lv_bipush (v := nI 100) hx hb d_D_make_12 (by decide) ?_
    refine k_roS (np := 3) (As := [.int q, .int (nI 0), .int (nI 100)]) (rest := []) S (c_D_isIn q (nI 0) (nI 100)) (gd_S tb_263 tb_264 tb_4 tb_265) hK (hP.sub [] rfl) (by decide +kernel) rfl ⟨rfl, rfl⟩ ⟨Nat.le_of_ble_eq_true rfl, Nat.le_of_ble_eq_true rfl⟩ hl.1 rfl (Nat.le_of_ble_eq_true rfl) d_D_make_14 ⟨Nat.zero_le _, Nat.zero_le _⟩ (fun v2 hv2 => ?_)
    subst hv2
    refine k_bne (tgt := 22) hx hb d_D_make_17 (by decide) (fun c2 => ?_) (fun c2 => ?_)
    · obtain ⟨rn, hrn, rfl⟩ := inR_nat (by omega) c1
      obtain ⟨qn, hqn, rfl⟩ := inR_nat (by omega) c2
      have hrN : hdN (nI rn) = rn := hdN_nI (by omega)
      have hqN : hdN (nI qn) = qn := hdN_nI (by omega)
      refine lv_aload_n hx hb d_D_make_22 rfl (lv_at hl 0 rfl) ?_
      refine k_get S i_D hK hP 0 rfl rfl 3 (by decide) tb_219 rfl rfl d_D_make_23 ?_
      refine lv_iload_n hx hb d_D_make_26 rfl (lv_at hl 1 rfl) ?_
      refine k_add hx hb d_D_make_27 ?_
      refine lv_iload_n hx hb d_D_make_28 rfl (lv_at hl 2 rfl) ?_
      refine k_add hx hb d_D_make_29 ?_
      refine lv_aload_n hx hb d_D_make_30 rfl (lv_at hl 0 rfl) ?_
      refine k_get S i_D hK hP 0 rfl rfl 1 (by decide) tb_217 rfl rfl d_D_make_31 ?_
      refine k_ile (tgt := 39) hx hb d_D_make_34 (by decide) (by omega) (by omega) (fun c3 => ?_) (fun c3 => ?_)
      · refine lv_aload_n hx hb d_D_make_39 rfl (lv_at hl 0 rfl) ?_
        refine k_get S i_D hK hP 0 rfl rfl 3 (by decide) tb_219 rfl rfl d_D_make_40 ?_
        refine lv_istore_n (lv' := [(3, .int (nI T)), (0, .ref m0), (1, .int (nI rn)), (2, .int (nI qn))]) hx hb d_D_make_43 rfl hl (by decide) rfl (fun ls hl => ?_)
        refine lv_aload_n hx hb d_D_make_44 rfl (lv_at hl 1 rfl) ?_
        refine k_get S i_D hK hP 0 rfl rfl 7 (by decide) tb_223 rfl rfl d_D_make_45 ?_
        refine lv_iload_n hx hb d_D_make_48 rfl (lv_at hl 0 rfl) ?_
        refine lv_sipush (v := nI 256) hx hb d_D_make_49 (by decide) ?_
        refine lv_iload_n hx hb d_D_make_52 rfl (lv_at hl 3 rfl) ?_
        refine k_mul hx hb d_D_make_53 ?_
        refine lv_bipush (v := nI 16) hx hb d_D_make_54 (by decide) ?_
        refine lv_iload_n hx hb d_D_make_56 rfl (lv_at hl 2 rfl) ?_
        refine k_mul hx hb d_D_make_57 ?_
        refine k_add hx hb d_D_make_58 ?_
        refine k_ist (ws' := (dW m0 bw bf bb bg br bn ba cI cZ N B T O C R th (upd w T (nI ((256 * qn) + (16 * rn)))) f gn fg rt wn fr)) hx hb hK hP hD hS 1 0 rfl rfl (by omega) (by omega) rfl d_D_make_59 (fun H locs hP hD hS => ?_)
        refine lv_iconst (v := nI 1) hx hb d_D_make_60 (by decide) ?_
        refine lv_istore (lv' := [(4, .int (nI 1)), (3, .int (nI T)), (0, .ref m0), (1, .int (nI rn)), (2, .int (nI qn))]) hx hb d_D_make_61 hl (by decide) rfl (fun ls hl => ?_)
        obtain ⟨w1, ew1⟩ : ∃ w1, w1 = upd w T (nI ((256 * qn) + (16 * rn))) := ⟨_, rfl⟩
        rw [← ew1] at hP hD
        have hw1 : ∀ j, T < j → w1 j = 0 := fun j hj => by rw [ew1, pk_un (by omega)]; exact hH.zero j (by omega)
        have loop : ∀ (n k : Nat), rn + qn + 1 < k + n → 1 ≤ k → k ≤ rn + qn + 1 → ∀ (H : Heap) (locs : List Loc), va_P D classes (dW m0 bw bf bb bg br bn ba cI cZ N B T O C R th w1 f gn fg rt wn fr) H → va_D A (dW m0 bw bf bb bg br bn ba cI cZ N B T O C R th w1 f gn fg rt wn fr) → va_S A s.heap H locs → ∀ ls : Array Slot, lv_has ls 5 [(4, .int (nI k)), (3, .int (nI T)), (0, .ref m0), (1, .int (nI rn)), (2, .int (nI qn))] → W p l e ({ frames := 1, cells := 0, slots := 0, locals := 22 } : Room) s m args below meth c H locs 0 0 (MQ below (va_Qi (fun v u => (v, u.1) = mkS N T O w (nI rn) (nI qn) ∧ Bg N (mkL N T L (nI rn) (nI qn)) u.2) (fun (u : (Nat × Nat × (Nat → Int32)) × (Nat → Int32)) t => va_P D classes ((dW m0 bw bf bb bg br bn ba cI cZ N B u.1.1 u.1.2.1 C R th u.1.2.2 f u.2 fg rt wn fr)) t.heap ∧ va_D A ((dW m0 bw bf bb bg br bn ba cI cZ N B u.1.1 u.1.2.1 C R th u.1.2.2 f u.2 fg rt wn fr))) A) args s 0 0 A) (F0 m 63 ls []) := by
          intro n
          induction n with
          | zero => intro k h1 h2 h3; omega
          | succ n ih =>
            intro k hn hk1 hk H locs hP hD hS ls hl
            refine lv_iload hx hb d_D_make_63 (lv_at hl 0 rfl) ?_
            refine lv_iload_n hx hb d_D_make_65 rfl (lv_at hl 3 rfl) ?_
            refine lv_iload_n hx hb d_D_make_66 rfl (lv_at hl 4 rfl) ?_
            refine k_add hx hb d_D_make_67 ?_
            refine k_igt (tgt := 87) hx hb d_D_make_68 (by decide) (by omega) (by omega) (fun c4 => ?_) (fun c4 => ?_)
            · refine lv_aload_n hx hb d_D_make_87 rfl (lv_at hl 2 rfl) ?_
              refine k_get S i_D hK hP 0 rfl rfl 9 (by decide) tb_225 rfl rfl d_D_make_88 ?_
              refine lv_iload_n hx hb d_D_make_91 rfl (lv_at hl 1 rfl) ?_
              refine lv_iconst (v := nI 1) hx hb d_D_make_92 (by decide) ?_
              refine k_zst (ws' := (dW m0 bw bf bb bg br bn ba cI cZ N B T O C R th w1 f (upd gn T (nI 1)) fg rt wn fr)) hx hb hK hP hD hS 3 2 rfl rfl (by omega) (by omega) (rfl) rfl d_D_make_93 (fun H locs hP hD hS => ?_)
              refine lv_aload_n hx hb d_D_make_94 rfl (lv_at hl 2 rfl) ?_
              refine lv_aload_n hx hb d_D_make_95 rfl (lv_at hl 2 rfl) ?_
              refine k_get S i_D hK hP 0 rfl rfl 3 (by decide) tb_219 rfl rfl d_D_make_96 ?_
              refine lv_iconst (v := nI 1) hx hb d_D_make_99 (by decide) ?_
              refine k_add hx hb d_D_make_100 ?_
              refine lv_iload_n hx hb d_D_make_101 rfl (lv_at hl 3 rfl) ?_
              refine k_add hx hb d_D_make_102 ?_
              refine lv_iload_n hx hb d_D_make_103 rfl (lv_at hl 4 rfl) ?_
              refine k_add hx hb d_D_make_104 ?_
              refine k_top (y := nI (T + 1 + rn + qn)) (congrArg nI (by omega)) ?_
              refine k_put (ws' := (dW m0 bw bf bb bg br bn ba cI cZ N B (T + 1 + rn + qn) O C R th w1 f (upd gn T (nI 1)) fg rt wn fr)) S i_D t_D_ok n_D hK hP hD hS 0 rfl rfl 3 (by decide) tb_219 rfl rfl rfl rfl (Nat.le_of_ble_eq_true rfl) rfl d_D_make_105 (fun H locs hP hD hS => ?_)
              refine lv_aload_n hx hb d_D_make_108 rfl (lv_at hl 2 rfl) ?_
              refine lv_dup hx hb d_D_make_109 rfl ?_
              refine k_get S i_D hK hP 0 rfl rfl 4 (by decide) tb_220 rfl rfl d_D_make_110 ?_
              refine lv_iconst (v := nI 1) hx hb d_D_make_113 (by decide) ?_
              refine k_add hx hb d_D_make_114 ?_
              refine k_put (ws' := (dW m0 bw bf bb bg br bn ba cI cZ N B (T + 1 + rn + qn) (O + 1) C R th w1 f (upd gn T (nI 1)) fg rt wn fr)) S i_D t_D_ok n_D hK hP hD hS 0 rfl rfl 4 (by decide) tb_220 rfl rfl rfl rfl (Nat.le_of_ble_eq_true rfl) rfl d_D_make_115 (fun H locs hP hD hS => ?_)
              refine lv_iload_n hx hb d_D_make_118 rfl (lv_at hl 1 rfl) ?_
              exact k_mret S hr hlocks ((T + 1 + rn + qn, O + 1, w1), upd gn T (nI 1)) (⟨by unfold mkS; rw [c1, c2, hrN, hqN, ew1]; show _ = if T + rn + qn ≤ N then _ else _; rw [if_pos (by omega)], by unfold mkL; rw [c1, c2, hrN, hqN, show decide (T + rn + qn ≤ N) = true by simp; omega]; exact Bg_add hG⟩) hP hD hS d_D_make_119
            · refine lv_aload_n hx hb d_D_make_71 rfl (lv_at hl 2 rfl) ?_
              refine k_get S i_D hK hP 0 rfl rfl 7 (by decide) tb_223 rfl rfl d_D_make_72 ?_
              refine lv_iload_n hx hb d_D_make_75 rfl (lv_at hl 1 rfl) ?_
              refine lv_iload hx hb d_D_make_76 (lv_at hl 0 rfl) ?_
              refine k_add hx hb d_D_make_78 ?_
              refine lv_iconst (v := nI 0) hx hb d_D_make_79 (by decide) ?_
              refine k_ist (ws' := (dW m0 bw bf bb bg br bn ba cI cZ N B T O C R th (upd w1 (T + k) (nI 0)) f gn fg rt wn fr)) hx hb hK hP hD hS 1 0 rfl rfl (by omega) (by omega) rfl d_D_make_80 (fun H locs hP hD hS => ?_)
              rw [upd_id (show w1 (T + k) = nI 0 from hw1 (T + k) (by omega))] at hP hD
              refine k_iinc (k := 0) (a := k) (lv' := [(4, .int (nI (k + 1))), (3, .int (nI T)), (0, .ref m0), (1, .int (nI rn)), (2, .int (nI qn))]) hx hb d_D_make_81 hl rfl (by decide) rfl (fun ls hl => ?_)
              refine lv_goto (tgt := 63) hx hb d_D_make_84 (by decide) ?_
              exact ih (k + 1) (by omega) (by omega) (by omega) H locs hP hD hS ls (lv_sub hl [0, 1, 2, 3, 4] rfl)
        exact loop (rn + qn + 1) 1 (by omega) (by omega) (by omega) H locs hP hD hS ls (lv_sub hl [0, 1, 2, 3, 4] rfl)
      · refine lv_iconst (v := nI 0) hx hb d_D_make_37 (by decide) ?_
        exact k_mret S hr hlocks ((T, O, w), gn) (⟨by unfold mkS; rw [c1, c2, hrN, hqN]; show _ = if T + rn + qn ≤ N then _ else _; rw [if_neg (by omega)]; rfl, by unfold mkL; rw [c1, c2, hrN, hqN, show decide (T + rn + qn ≤ N) = false by simp; omega]; exact hG⟩) hP hD hS d_D_make_38
    · refine lv_iconst (v := (-1)) hx hb d_D_make_20 (by decide) ?_
      exact k_mret S hr hlocks ((T, O, w), gn) (⟨by unfold mkS; rw [c1, c2]; rfl, by unfold mkL; rw [c1, c2]; exact hG⟩) hP hD hS d_D_make_21
set_option maxHeartbeats 4000000 in
set_option maxRecDepth 100000 in
theorem c_D_refer (o k v : Int32) (hH : Hp N T w L rt) (hG : Bg N L gn) {sz : Nat} : muC l y_D_refer b_D_refer 4 (some .boolean) { frames := 3, cells := 0, slots := 0, locals := 64 } D (tyS cI cL cZ) [.ref m0, .int o, .int k, .int v] sz (dW m0 bw bf bb bg br bn ba cI cZ N B T O C R th w f gn fg rt wn fr) (fun u : Nat → Int32 => (dW m0 bw bf bb bg br bn ba cI cZ N B T O C R th u f gn fg rt wn fr)) (fun r u => r = b2i (rfS w L o k v) ∧ u = rfW w L o k v) := by
  refine mu_of (by decide) (Nat.le_of_ble_eq_true rfl) ?_
  intro p e s m args below meth c A S hr hlocks hK hP hD hA hS ls hl
  have hx := S.1
  have hb := S.2.1
  have hl : lv_has ls 4 [(0, .ref m0), (1, .int o), (2, .int k), (3, .int v)] := hl
  have hN := hH.N
  have hT := hH.T
  refine lv_aload_n hx hb d_D_refer_0 rfl (lv_at hl 0 rfl) ?_
  refine lv_iload_n hx hb d_D_refer_1 rfl (lv_at hl 1 rfl) ?_
  refine k_roV (np := 1) (As := [.int o]) (rest := []) S (c_D_isObject hH hG o) (gd_V tb_274 tb_267 tb_268 tb_4 tb_269) hK hP rfl rfl (by decide +kernel) rfl ⟨rfl, rfl⟩ ⟨Nat.le_of_ble_eq_true rfl, Nat.le_of_ble_eq_true rfl⟩ hl.1 rfl (Nat.le_of_ble_eq_true rfl) d_D_refer_2 ⟨Nat.zero_le _, Nat.zero_le _⟩ (fun v1 hv1 => ?_)
  subst hv1
  refine k_beq (tgt := 31) hx hb d_D_refer_5 (by decide) (fun c1 => ?_) (fun c1 => ?_)
  · refine lv_iconst (v := nI 0) hx hb d_D_refer_31 (by decide) ?_
    refine k_top (y := 0) (rfl) ?_
    exact k_mretz S hr hlocks (by decide) w (⟨by rw [show rfS w L o k v = false by simp [rfS, c1]]; rfl, by unfold rfW; rw [show rfS w L o k v = false by simp [rfS, c1]]; rfl⟩) hP hD hS d_D_refer_32
  · refine lv_aload_n hx hb d_D_refer_8 rfl (lv_at hl 0 rfl) ?_
    refine lv_iload_n hx hb d_D_refer_9 rfl (lv_at hl 3 rfl) ?_
    refine k_roV (np := 1) (As := [.int v]) (rest := []) S (c_D_isLead hH hG v) (gd_V tb_275 tb_277 tp_D_isLead tb_4 tb_278) hK hP rfl rfl (by decide +kernel) rfl ⟨rfl, rfl⟩ ⟨Nat.le_of_ble_eq_true rfl, Nat.le_of_ble_eq_true rfl⟩ hl.1 rfl (Nat.le_of_ble_eq_true rfl) d_D_refer_10 ⟨Nat.zero_le _, Nat.zero_le _⟩ (fun v2 hv2 => ?_)
    subst hv2
    refine k_beq (tgt := 31) hx hb d_D_refer_13 (by decide) (fun c3 => ?_) (fun c3 => ?_)
    · refine lv_iconst (v := nI 0) hx hb d_D_refer_31 (by decide) ?_
      refine k_top (y := 0) (rfl) ?_
      exact k_mretz S hr hlocks (by decide) w (⟨by rw [show rfS w L o k v = false by simp [rfS, c3]]; rfl, by unfold rfW; rw [show rfS w L o k v = false by simp [rfS, c3]]; rfl⟩) hP hD hS d_D_refer_32
    · obtain ⟨t, htL, rfl, htN, ht1, ht2⟩ := isO_nat hH c1
      have hob := hH.obj htL
      have hsz : szN (w t) = 1 + rfN (w t) + plN (w t) := rfl
      refine lv_iload_n hx hb d_D_refer_16 rfl (lv_at hl 2 rfl) ?_
      refine lv_iconst (v := nI 0) hx hb d_D_refer_17 (by decide) ?_
      refine lv_aload_n hx hb d_D_refer_18 rfl (lv_at hl 0 rfl) ?_
      refine lv_iload_n hx hb d_D_refer_19 rfl (lv_at hl 1 rfl) ?_
      refine k_roV (np := 1) (As := [.int (nI t)]) (rest := [.int (nI 0), .int k]) S (c_D_references t hN.2 ht2 hob.2.2.1) (gd_V tb_279 tb_281 tp_D_references tb_4 tb_282) hK hP rfl rfl (by decide +kernel) rfl ⟨rfl, rfl⟩ ⟨Nat.le_of_ble_eq_true rfl, Nat.le_of_ble_eq_true rfl⟩ hl.1 rfl (Nat.le_of_ble_eq_true rfl) d_D_refer_20 ⟨Nat.zero_le _, Nat.zero_le _⟩ (fun v3 hv3 => ?_)
      subst hv3
      refine lv_iconst (v := nI 1) hx hb d_D_refer_23 (by decide) ?_
      refine lv_isub hx hb d_D_refer_24 ?_
      refine k_roS (np := 3) (As := [.int k, .int (nI 0), .int ((nI (rfN (w t))) - (nI 1))]) (rest := []) S (c_D_isIn k (nI 0) (nI (rfN (w t)) - nI 1)) (gd_S tb_263 tb_264 tb_4 tb_265) hK (hP.sub [] rfl) (by decide +kernel) rfl ⟨rfl, rfl⟩ ⟨Nat.le_of_ble_eq_true rfl, Nat.le_of_ble_eq_true rfl⟩ hl.1 rfl (Nat.le_of_ble_eq_true rfl) d_D_refer_25 ⟨Nat.zero_le _, Nat.zero_le _⟩ (fun v4 hv4 => ?_)
      subst hv4
      refine k_bne (tgt := 33) hx hb d_D_refer_28 (by decide) (fun c2 => ?_) (fun c2 => ?_)
      · have hr16 := rfN_lt (w t)
        obtain ⟨kn, hkn, rfl⟩ := inR_m1 (by omega) c2
        have hkN : hdN (nI kn) = kn := hdN_nI (by omega)
        refine lv_aload_n hx hb d_D_refer_33 rfl (lv_at hl 0 rfl) ?_
        refine k_get S i_D hK hP 0 rfl rfl 7 (by decide) tb_223 rfl rfl d_D_refer_34 ?_
        refine lv_iload_n hx hb d_D_refer_37 rfl (lv_at hl 1 rfl) ?_
        refine lv_iconst (v := nI 1) hx hb d_D_refer_38 (by decide) ?_
        refine k_add hx hb d_D_refer_39 ?_
        refine lv_iload_n hx hb d_D_refer_40 rfl (lv_at hl 2 rfl) ?_
        refine k_add hx hb d_D_refer_41 ?_
        refine lv_iload_n hx hb d_D_refer_42 rfl (lv_at hl 3 rfl) ?_
        refine k_ist (ws' := (dW m0 bw bf bb bg br bn ba cI cZ N B T O C R th (upd w ((t + 1) + kn) v) f gn fg rt wn fr)) hx hb hK hP hD hS 1 0 rfl rfl (by omega) (by omega) rfl d_D_refer_43 (fun H locs hP hD hS => ?_)
        refine lv_iconst (v := nI 1) hx hb d_D_refer_44 (by decide) ?_
        refine k_top (y := 1) (rfl) ?_
        exact k_mretz S hr hlocks (by decide) (upd w (t + 1 + kn) v) (⟨by rw [show rfS w L (nI t) (nI kn) v = true by simp [rfS, c1, htN, c2, c3]]; rfl, by unfold rfW; rw [show rfS w L (nI t) (nI kn) v = true by simp [rfS, c1, htN, c2, c3], htN, hkN]; rfl⟩) hP hD hS d_D_refer_45
      · refine lv_iconst (v := nI 0) hx hb d_D_refer_31 (by decide) ?_
        refine k_top (y := 0) (rfl) ?_
        exact k_mretz S hr hlocks (by decide) w (⟨by rw [show rfS w L (nI t) k v = false by simp [rfS, htN, c2]]; rfl, by unfold rfW; rw [show rfS w L (nI t) k v = false by simp [rfS, htN, c2]]; rfl⟩) hP hD hS d_D_refer_32
set_option maxHeartbeats 4000000 in
set_option maxRecDepth 100000 in
theorem c_D_set (o k v : Int32) (hH : Hp N T w L rt) (hG : Bg N L gn) {sz : Nat} : muC l y_D_set b_D_set 4 (some .boolean) { frames := 2, cells := 0, slots := 0, locals := 43 } D (tyS cI cL cZ) [.ref m0, .int o, .int k, .int v] sz (dW m0 bw bf bb bg br bn ba cI cZ N B T O C R th w f gn fg rt wn fr) (fun u : Nat → Int32 => (dW m0 bw bf bb bg br bn ba cI cZ N B T O C R th u f gn fg rt wn fr)) (fun r u => r = b2i (stS w L o k) ∧ u = stW w L o k v) := by
  refine mu_of (by decide) (Nat.le_of_ble_eq_true rfl) ?_
  intro p e s m args below meth c A S hr hlocks hK hP hD hA hS ls hl
  have hx := S.1
  have hb := S.2.1
  have hl : lv_has ls 4 [(0, .ref m0), (1, .int o), (2, .int k), (3, .int v)] := hl
  have hN := hH.N
  have hT := hH.T
  refine lv_aload_n hx hb d_D_set_0 rfl (lv_at hl 0 rfl) ?_
  refine lv_iload_n hx hb d_D_set_1 rfl (lv_at hl 1 rfl) ?_
  refine k_roV (np := 1) (As := [.int o]) (rest := []) S (c_D_isObject hH hG o) (gd_V tb_274 tb_267 tb_268 tb_4 tb_269) hK hP rfl rfl (by decide +kernel) rfl ⟨rfl, rfl⟩ ⟨Nat.le_of_ble_eq_true rfl, Nat.le_of_ble_eq_true rfl⟩ hl.1 rfl (Nat.le_of_ble_eq_true rfl) d_D_set_2 ⟨Nat.zero_le _, Nat.zero_le _⟩ (fun v1 hv1 => ?_)
  subst hv1
  refine k_beq (tgt := 23) hx hb d_D_set_5 (by decide) (fun c1 => ?_) (fun c1 => ?_)
  · refine lv_iconst (v := nI 0) hx hb d_D_set_23 (by decide) ?_
    refine k_top (y := 0) (rfl) ?_
    exact k_mretz S hr hlocks (by decide) w (⟨by rw [show stS w L o k = false by simp [stS, c1]]; rfl, by unfold stW; rw [show stS w L o k = false by simp [stS, c1]]; rfl⟩) hP hD hS d_D_set_24
  · obtain ⟨t, htL, rfl, htN, ht1, ht2⟩ := isO_nat hH c1
    have hob := hH.obj htL
    have hsz : szN (w t) = 1 + rfN (w t) + plN (w t) := rfl
    refine lv_iload_n hx hb d_D_set_8 rfl (lv_at hl 2 rfl) ?_
    refine lv_iconst (v := nI 0) hx hb d_D_set_9 (by decide) ?_
    refine lv_aload_n hx hb d_D_set_10 rfl (lv_at hl 0 rfl) ?_
    refine lv_iload_n hx hb d_D_set_11 rfl (lv_at hl 1 rfl) ?_
    refine k_roV (np := 1) (As := [.int (nI t)]) (rest := [.int (nI 0), .int k]) S (c_D_plain t hN.2 ht2 hob.2.2.1) (gd_V tb_287 tb_289 tp_D_plain tb_4 tb_290) hK hP rfl rfl (by decide +kernel) rfl ⟨rfl, rfl⟩ ⟨Nat.le_of_ble_eq_true rfl, Nat.le_of_ble_eq_true rfl⟩ hl.1 rfl (Nat.le_of_ble_eq_true rfl) d_D_set_12 ⟨Nat.zero_le _, Nat.zero_le _⟩ (fun v2 hv2 => ?_)
    subst hv2
    refine lv_iconst (v := nI 1) hx hb d_D_set_15 (by decide) ?_
    refine lv_isub hx hb d_D_set_16 ?_
    refine k_roS (np := 3) (As := [.int k, .int (nI 0), .int ((nI (plN (w t))) - (nI 1))]) (rest := []) S (c_D_isIn k (nI 0) (nI (plN (w t)) - nI 1)) (gd_S tb_263 tb_264 tb_4 tb_265) hK (hP.sub [] rfl) (by decide +kernel) rfl ⟨rfl, rfl⟩ ⟨Nat.le_of_ble_eq_true rfl, Nat.le_of_ble_eq_true rfl⟩ hl.1 rfl (Nat.le_of_ble_eq_true rfl) d_D_set_17 ⟨Nat.zero_le _, Nat.zero_le _⟩ (fun v3 hv3 => ?_)
    subst hv3
    refine k_bne (tgt := 25) hx hb d_D_set_20 (by decide) (fun c2 => ?_) (fun c2 => ?_)
    · obtain ⟨kn, hkn, rfl⟩ := inR_m1 (by omega) c2
      have hkN : hdN (nI kn) = kn := hdN_nI (by omega)
      refine lv_aload_n hx hb d_D_set_25 rfl (lv_at hl 0 rfl) ?_
      refine k_get S i_D hK hP 0 rfl rfl 7 (by decide) tb_223 rfl rfl d_D_set_26 ?_
      refine lv_iload_n hx hb d_D_set_29 rfl (lv_at hl 1 rfl) ?_
      refine lv_iconst (v := nI 1) hx hb d_D_set_30 (by decide) ?_
      refine k_add hx hb d_D_set_31 ?_
      refine lv_aload_n hx hb d_D_set_32 rfl (lv_at hl 0 rfl) ?_
      refine lv_iload_n hx hb d_D_set_33 rfl (lv_at hl 1 rfl) ?_
      refine k_roV (np := 1) (As := [.int (nI t)]) (rest := [.int (nI (t + 1)), .ref bw]) S (c_D_references t hN.2 ht2 hob.2.2.1) (gd_V tb_279 tb_281 tp_D_references tb_4 tb_282) hK hP rfl rfl (by decide +kernel) rfl ⟨rfl, rfl⟩ ⟨Nat.le_of_ble_eq_true rfl, Nat.le_of_ble_eq_true rfl⟩ hl.1 rfl (Nat.le_of_ble_eq_true rfl) d_D_set_34 ⟨Nat.zero_le _, Nat.zero_le _⟩ (fun v4 hv4 => ?_)
      subst hv4
      refine k_add hx hb d_D_set_37 ?_
      refine lv_iload_n hx hb d_D_set_38 rfl (lv_at hl 2 rfl) ?_
      refine k_add hx hb d_D_set_39 ?_
      refine lv_iload_n hx hb d_D_set_40 rfl (lv_at hl 3 rfl) ?_
      refine k_ist (ws' := (dW m0 bw bf bb bg br bn ba cI cZ N B T O C R th (upd w (((t + 1) + (rfN (w t))) + kn) v) f gn fg rt wn fr)) hx hb hK hP hD hS 1 0 rfl rfl (by omega) (by omega) rfl d_D_set_41 (fun H locs hP hD hS => ?_)
      refine lv_iconst (v := nI 1) hx hb d_D_set_42 (by decide) ?_
      refine k_top (y := 1) (rfl) ?_
      exact k_mretz S hr hlocks (by decide) (upd w (t + 1 + rfN (w t) + kn) v) (⟨by rw [show stS w L (nI t) (nI kn) = true by simp [stS, c1, htN, c2]]; rfl, by unfold stW; rw [show stS w L (nI t) (nI kn) = true by simp [stS, c1, htN, c2], htN, hkN]; rfl⟩) hP hD hS d_D_set_43
    · refine lv_iconst (v := nI 0) hx hb d_D_set_23 (by decide) ?_
      refine k_top (y := 0) (rfl) ?_
      exact k_mretz S hr hlocks (by decide) w (⟨by rw [show stS w L (nI t) k = false by simp [stS, htN, c2]]; rfl, by unfold stW; rw [show stS w L (nI t) k = false by simp [stS, htN, c2]]; rfl⟩) hP hD hS d_D_set_24
set_option maxHeartbeats 4000000 in
set_option maxRecDepth 100000 in
theorem c_D_root (k o : Int32) (hH : Hp N T w L rt) (hG : Bg N L gn) {sz : Nat} : muC l y_D_root b_D_root 3 (some .boolean) { frames := 3, cells := 0, slots := 0, locals := 64 } D (tyS cI cL cZ) [.ref m0, .int k, .int o] sz (dW m0 bw bf bb bg br bn ba cI cZ N B T O C R th w f gn fg rt wn fr) (fun u : Nat → Int32 => (dW m0 bw bf bb bg br bn ba cI cZ N B T O C R th w f gn fg u wn fr)) (fun r u => r = b2i (roS L k o) ∧ u = roW rt L k o) := by
  refine mu_of (by decide) (Nat.le_of_ble_eq_true rfl) ?_
  intro p e s m args below meth c A S hr hlocks hK hP hD hA hS ls hl
  have hx := S.1
  have hb := S.2.1
  have hl : lv_has ls 3 [(0, .ref m0), (1, .int k), (2, .int o)] := hl
  refine lv_iload_n hx hb d_D_root_0 rfl (lv_at hl 1 rfl) ?_
  refine lv_iconst (v := nI 0) hx hb d_D_root_1 (by decide) ?_
  refine lv_bipush (v := nI 7) hx hb d_D_root_2 (by decide) ?_
  refine k_roS (np := 3) (As := [.int k, .int (nI 0), .int (nI 7)]) (rest := []) S (c_D_isIn k (nI 0) (nI 7)) (gd_S tb_263 tb_264 tb_4 tb_265) hK (hP.sub [] rfl) (by decide +kernel) rfl ⟨rfl, rfl⟩ ⟨Nat.le_of_ble_eq_true rfl, Nat.le_of_ble_eq_true rfl⟩ hl.1 rfl (Nat.le_of_ble_eq_true rfl) d_D_root_4 ⟨Nat.zero_le _, Nat.zero_le _⟩ (fun v1 hv1 => ?_)
  subst hv1
  refine k_beq (tgt := 18) hx hb d_D_root_7 (by decide) (fun c1 => ?_) (fun c1 => ?_)
  · refine lv_iconst (v := nI 0) hx hb d_D_root_18 (by decide) ?_
    refine k_top (y := 0) (rfl) ?_
    exact k_mretz S hr hlocks (by decide) rt (⟨by rw [show roS L k o = false by simp [roS, c1]]; rfl, by unfold roW; rw [show roS L k o = false by simp [roS, c1]]; rfl⟩) hP hD hS d_D_root_19
  · obtain ⟨kn, hkn, rfl⟩ := inR_nat (by omega) c1
    have hkN : hdN (nI kn) = kn := hdN_nI (by omega)
    refine lv_aload_n hx hb d_D_root_10 rfl (lv_at hl 0 rfl) ?_
    refine lv_iload_n hx hb d_D_root_11 rfl (lv_at hl 2 rfl) ?_
    refine k_roV (np := 1) (As := [.int o]) (rest := []) S (c_D_isLead hH hG o) (gd_V tb_275 tb_277 tp_D_isLead tb_4 tb_278) hK hP rfl rfl (by decide +kernel) rfl ⟨rfl, rfl⟩ ⟨Nat.le_of_ble_eq_true rfl, Nat.le_of_ble_eq_true rfl⟩ hl.1 rfl (Nat.le_of_ble_eq_true rfl) d_D_root_12 ⟨Nat.zero_le _, Nat.zero_le _⟩ (fun v2 hv2 => ?_)
    subst hv2
    refine k_bne (tgt := 20) hx hb d_D_root_15 (by decide) (fun c3 => ?_) (fun c3 => ?_)
    · refine lv_aload_n hx hb d_D_root_20 rfl (lv_at hl 0 rfl) ?_
      refine k_get S i_D hK hP 0 rfl rfl 11 (by decide) tb_227 rfl rfl d_D_root_21 ?_
      refine lv_iload_n hx hb d_D_root_24 rfl (lv_at hl 1 rfl) ?_
      refine lv_iload_n hx hb d_D_root_25 rfl (lv_at hl 2 rfl) ?_
      refine k_ist (ws' := (dW m0 bw bf bb bg br bn ba cI cZ N B T O C R th w f gn fg (upd rt kn o) wn fr)) hx hb hK hP hD hS 5 0 rfl rfl (by omega) (by omega) rfl d_D_root_26 (fun H locs hP hD hS => ?_)
      refine lv_iconst (v := nI 1) hx hb d_D_root_27 (by decide) ?_
      refine k_top (y := 1) (rfl) ?_
      exact k_mretz S hr hlocks (by decide) (upd rt kn o) (⟨by rw [show roS L (nI kn) o = true by simp [roS, c1, c3]]; rfl, by unfold roW; rw [show roS L (nI kn) o = true by simp [roS, c1, c3], hkN]; rfl⟩) hP hD hS d_D_root_28
    · refine lv_iconst (v := nI 0) hx hb d_D_root_18 (by decide) ?_
      refine k_top (y := 0) (rfl) ?_
      exact k_mretz S hr hlocks (by decide) rt (⟨by rw [show roS L (nI kn) o = false by simp [roS, c3]]; rfl, by unfold roW; rw [show roS L (nI kn) o = false by simp [roS, c3]]; rfl⟩) hP hD hS d_D_root_19
end D1
end
section
/-! THE PLAIN LAW of 'measure': distances that fall until nothing falls -/
def FV (N : Nat) (fr : Nat → Int32) (fv : Nat → Nat) : Prop := ∀ a, a ≤ N → fr a = nI (fv a) ∧ fv a ≤ 1000000
theorem FV.set {N : Nat} {fr : Nat → Int32} {fv : Nat → Nat} (h : FV N fr fv) {t v : Nat} (hv : v ≤ 1000000) : FV N (upd fr t (nI v)) (va_up fv t v) := fun a ha => by
  unfold va_up
  by_cases e : a = t
  · rw [e, pk_us, if_pos rfl]; exact ⟨rfl, hv⟩
  · rw [pk_un e, if_neg e]; exact h a ha
def sm (fv : Nat → Nat) (L : List Nat) : Nat := (L.map fv).sum
theorem sm_le {fv gv : Nat → Nat} : ∀ {L : List Nat}, (∀ a, gv a ≤ fv a) → sm gv L ≤ sm fv L
  | [], _ => Nat.le_refl _
  | a :: l, h => by
    have h1 := sm_le (L := l) h
    have h2 := h a
    unfold sm at *
    simp only [List.map_cons, List.sum_cons]
    omega
theorem sm_lt {fv : Nat → Nat} {t v : Nat} (hv : v < fv t) : ∀ {L : List Nat}, t ∈ L → sm (va_up fv t v) L < sm fv L
  | [], h => by cases h
  | a :: l, h => by
    have hle : ∀ x, va_up fv t v x ≤ fv x := fun x => by
      unfold va_up
      by_cases e : x = t
      · rw [if_pos e, e]; omega
      · rw [if_neg e]; exact Nat.le_refl _
    by_cases e : a = t
    · have h1 := sm_le (L := l) hle
      have h2 : va_up fv t v a = v := by unfold va_up; rw [if_pos e]
      unfold sm at *
      simp only [List.map_cons, List.sum_cons]
      rw [h2, e]
      omega
    · have h1 : t ∈ l := by
        rcases List.mem_cons.mp h with q | q
        · exact absurd q.symm e
        · exact q
      have h2 := sm_lt hv h1
      have h3 := hle a
      unfold sm at *
      simp only [List.map_cons, List.sum_cons]
      omega
/-- no distance is too small; those of the roots are 0 -/
def Snd (w rt : Nat → Int32) (L : List Nat) (fv : Nat → Nat) : Prop := (∀ a ∈ L, fv a < 1000000 → Rch w rt L (fv a) a) ∧ (∀ a, Rch w rt L 0 a → fv a = 0)
/-- the first k references of o tell nothing new -/
def Stb (w : Nat → Int32) (L : List Nat) (fv : Nat → Nat) (o k : Nat) : Prop := ∀ j t, j < k → t ∈ L → w (o + 1 + j) = nI t → fv t ≤ fv o + 1
theorem Snd.step {N T : Nat} {w rt : Nat → Int32} {L : List Nat} (hH : Hp N T w L rt) {fv : Nat → Nat} (h : Snd w rt L fv) {o k t : Nat} (ho : o ∈ L) (ht : t ∈ L) (hk : k < rfN (w o)) (e : w (o + 1 + k) = nI t) (hlt : fv o + 1 < fv t) (hb : fv t ≤ 1000000) : Snd w rt L (va_up fv t (fv o + 1)) := by
  refine ⟨fun a ha hl => ?_, fun a ha => ?_⟩
  · unfold va_up at hl ⊢
    by_cases q : a = t
    · rw [if_pos q] at hl ⊢
      subst q
      exact Or.inr ⟨ha, o, k, h.1 o ho (by omega), hk, e⟩
    · rw [if_neg q] at hl ⊢
      exact h.1 a ha hl
  · unfold va_up
    by_cases q : a = t
    · subst q
      have := h.2 a ha
      omega
    · rw [if_neg q]; exact h.2 a ha
theorem Stb.more {N T : Nat} {w rt : Nat → Int32} {L : List Nat} (hH : Hp N T w L rt) {fv : Nat → Nat} {o k t : Nat} (h : Stb w L fv o k) (e : w (o + 1 + k) = nI t) (ht : t ≤ N) (hs : t = 0 ∨ fv t ≤ fv o + 1) : Stb w L fv o (k + 1) := fun j t' h1 h2 h3 => by
  by_cases q : j = k
  · rw [q, e] at h3
    have := nI_inj hH h2 ht h3
    subst this
    rcases hs with hs | hs
    · have := hH.obj h2; omega
    · exact hs
  · exact h j t' (by omega) h2 h3
theorem far_le {w rt : Nat → Int32} {L : List Nat} {fv : Nat → Nat} (h : Snd w rt L fv) (hs : ∀ a ∈ L, Stb w L fv a (rfN (w a))) : ∀ (d a : Nat), Rch w rt L d a → fv a ≤ d
  | 0, a, ha => by rw [h.2 a ha]; exact Nat.le_refl _
  | d + 1, a, ha => by
    rcases ha with ha | ⟨h1, b, k, h2, h3, h4⟩
    · have := far_le h hs d a ha; omega
    · have h5 := far_le h hs d b h2
      have h6 := hs b h2.mem k a h3 h1 h4
      omega
/-- the distances are right -/
def Far (w rt : Nat → Int32) (L : List Nat) (fv : Nat → Nat) : Prop := ∀ a ∈ L, ∀ d, d < 1000000 → (fv a ≤ d ↔ Rch w rt L d a)
theorem far_ok {w rt : Nat → Int32} {L : List Nat} {fv : Nat → Nat} (h : Snd w rt L fv) (hs : ∀ a ∈ L, Stb w L fv a (rfN (w a))) : Far w rt L fv := fun a ha d hd => ⟨fun q => (h.1 a ha (by omega)).mono q, fun q => far_le h hs d a q⟩
/-- after the roots -/
def Rt0 (w rt : Nat → Int32) (L : List Nat) (fv : Nat → Nat) (k : Nat) : Prop := (∀ a ∈ L, fv a = 1000000 ∨ (fv a = 0 ∧ Rch w rt L 0 a)) ∧ (∀ j a, j < k → a ∈ L → rt j = nI a → fv a = 0)
theorem Rt0.skip {N T : Nat} {w rt : Nat → Int32} {L : List Nat} (hH : Hp N T w L rt) {fv : Nat → Nat} {k : Nat} (h : Rt0 w rt L fv k) (e : rt k = nI 0) : Rt0 w rt L fv (k + 1) := ⟨h.1, fun j a h1 h2 h3 => by
  by_cases q : j = k
  · rw [q, e] at h3
    have := nI_inj hH h2 (by have := hH.N; omega) h3
    have := hH.obj h2
    omega
  · exact h.2 j a (by omega) h2 h3⟩
theorem Rt0.set {N T : Nat} {w rt : Nat → Int32} {L : List Nat} (hH : Hp N T w L rt) {fv : Nat → Nat} {k t : Nat} (hk : k < 8) (h : Rt0 w rt L fv k) (e : rt k = nI t) (ht : t ∈ L) : Rt0 w rt L (va_up fv t 0) (k + 1) := by
  refine ⟨fun a ha => ?_, fun j a h1 h2 h3 => ?_⟩
  · unfold va_up
    by_cases q : a = t
    · rw [if_pos q, q]; exact Or.inr ⟨rfl, ht, k, hk, e⟩
    · rw [if_neg q]; exact h.1 a ha
  · unfold va_up
    by_cases q : a = t
    · rw [if_pos q]
    · rw [if_neg q]
      by_cases q2 : j = k
      · rw [q2, e] at h3
        exact absurd (nI_inj hH h2 (hH.obj ht).2.2.2 h3).symm q
      · exact h.2 j a (by omega) h2 h3
theorem Rt0.snd {w rt : Nat → Int32} {L : List Nat} {fv : Nat → Nat} (h : Rt0 w rt L fv 8) : Snd w rt L fv := ⟨fun a ha hl => by
  rcases h.1 a ha with q | ⟨q, r⟩
  · omega
  · rw [q]; exact r, fun a ⟨h1, k, h2, h3⟩ => h.2 k a h2 h1 h3⟩
/-- one pass: nothing changed so far and all that was gone over is still; or something fell -/
def PS (w : Nat → Int32) (L : List Nat) (fv0 fv : Nat → Nat) (mo t o k : Nat) : Prop := (mo = 0 ∧ fv = fv0 ∧ (∀ a ∈ L, a < t → Stb w L fv a (rfN (w a))) ∧ Stb w L fv o k) ∨ (mo = 1 ∧ sm fv L < sm fv0 L)
theorem PS.mo {w : Nat → Int32} {L : List Nat} {fv0 fv : Nat → Nat} {mo t o k : Nat} (h : PS w L fv0 fv mo t o k) : mo ≤ 1 := by rcases h with h | h <;> omega
theorem PS.skip {N T : Nat} {w rt : Nat → Int32} {L : List Nat} (hH : Hp N T w L rt) {fv0 fv : Nat → Nat} {mo o k t : Nat} (h : PS w L fv0 fv mo o o k) (e : w (o + 1 + k) = nI t) (ht : t ≤ N) (hs : t = 0 ∨ fv t ≤ fv o + 1) : PS w L fv0 fv mo o o (k + 1) := by
  rcases h with ⟨h1, h2, h3, h4⟩ | h
  · exact Or.inl ⟨h1, h2, h3, h4.more hH e ht hs⟩
  · exact Or.inr h
theorem PS.fall {w : Nat → Int32} {L : List Nat} {fv0 fv : Nat → Nat} {mo o k k' t v : Nat} (h : PS w L fv0 fv mo o o k) (ht : t ∈ L) (hv : v < fv t) : PS w L fv0 (va_up fv t v) 1 o o k' := by
  have h1 := sm_lt hv ht
  rcases h with ⟨-, h2, -, -⟩ | ⟨-, h2⟩
  · subst h2
    exact Or.inr ⟨rfl, h1⟩
  · exact Or.inr ⟨rfl, by omega⟩
theorem PS.next {N T : Nat} {w rt : Nat → Int32} {L : List Nat} (hH : Hp N T w L rt) {fv0 fv : Nat → Nat} {mo o o' : Nat} (ho : o ∈ L) (h : PS w L fv0 fv mo o o (rfN (w o))) : PS w L fv0 fv mo (o + szN (w o)) o' 0 := by
  rcases h with ⟨h1, h2, h3, h4⟩ | h
  · refine Or.inl ⟨h1, h2, fun a ha hl => ?_, fun j t q => by omega⟩
    rcases Nat.lt_trichotomy a o with q | q | q
    · exact h3 a ha q
    · rw [q]; exact h4
    · have := hH.ch.apart ho ha q
      omega
  · exact Or.inr h
theorem PS.begin {w : Nat → Int32} {L : List Nat} {fv : Nat → Nat} {o : Nat} (h : ∀ a ∈ L, 1 ≤ a) : PS w L fv fv 0 1 o 0 := Or.inl ⟨rfl, rfl, fun a ha q => by have := h a ha; omega, fun j t q => by omega⟩
theorem PS.at {w : Nat → Int32} {L : List Nat} {fv0 fv : Nat → Nat} {mo t o : Nat} (h : PS w L fv0 fv mo t o 0) (o' : Nat) : PS w L fv0 fv mo t o' 0 := by
  rcases h with ⟨h1, h2, h3, h4⟩ | h
  · exact Or.inl ⟨h1, h2, h3, fun j t q => by omega⟩
  · exact Or.inr h
theorem rchB_far {w rt : Nat → Int32} {L : List Nat} {fv : Nat → Nat} (h : Far w rt L fv) {a d : Nat} (ha : a ∈ L) (hd : d < 1000000) : rchB w rt L d a = decide (fv a ≤ d) := by
  by_cases q : fv a ≤ d
  · rw [rchB_iff.mpr ((h a ha d hd).mp q)]; simp [q]
  · rw [show decide (fv a ≤ d) = false by simp; omega]
    exact Bool.eq_false_iff.mpr fun r => q ((h a ha d hd).mpr (rchB_iff.mp r))
end
section
/-! THE MODEL: measure, near, sound -/
section D2
variable {l : Launch} {D : va_G} {m0 bw bf bb bg br bn ba : Nat} {cI cL cZ : ClassId} {N B T O C R : Nat} {th : Int32} {w f gn fg rt wn fr : Nat → Int32}
variable {L : List Nat}
set_option maxHeartbeats 4000000 in
set_option maxRecDepth 100000 in
/-- how far each object is -/
theorem c_D_measure (hH : Hp N T w L rt) {sz : Nat} : mvC l y_D_measure b_D_measure 5 { frames := 2, cells := 0, slots := 0, locals := 42 } D (tyS cI cL cZ) [.ref m0] sz (dW m0 bw bf bb bg br bn ba cI cZ N B T O C R th w f gn fg rt wn fr) (fun u : (Nat → Int32) × (Nat → Nat) => (dW m0 bw bf bb bg br bn ba cI cZ N B T O C R th w f gn fg rt wn u.1)) (fun u => FV N u.1 u.2 ∧ Far w rt L u.2) := by
  refine mv_of (by decide) (Nat.le_of_ble_eq_true rfl) ?_
  intro p e s m args below meth c A S hr hlocks hK hP hD hA hS ls hl
  have hx := S.1
  have hb := S.2.1
  have hl : lv_has ls 5 [(0, .ref m0)] := hl
  have hN := hH.N
  have hT := hH.T
  have loop3 : ∀ (n mo : Nat) (fv : Nat → Nat) (fr1 : Nat → Int32), 0 < n → FV N fr1 fv → Snd w rt L fv → ((mo = 0 ∧ ∀ a ∈ L, Stb w L fv a (rfN (w a))) ∨ (mo = 1 ∧ sm fv L + 1 < n)) → ∀ (H : Heap) (locs : List Loc), va_P D classes (dW m0 bw bf bb bg br bn ba cI cZ N B T O C R th w f gn fg rt wn fr1) H → va_D A (dW m0 bw bf bb bg br bn ba cI cZ N B T O C R th w f gn fg rt wn fr1) → va_S A s.heap H locs → ∀ ls : Array Slot, lv_has ls 5 [(1, .int (nI mo)), (0, .ref m0)] → W p l e ({ frames := 2, cells := 0, slots := 0, locals := 42 } : Room) s m args below meth c H locs 0 0 (MQ below (va_Qv (fun u => FV N u.1 u.2 ∧ Far w rt L u.2) (fun (u : (Nat → Int32) × (Nat → Nat)) t => va_P D classes ((dW m0 bw bf bb bg br bn ba cI cZ N B T O C R th w f gn fg rt wn u.1)) t.heap ∧ va_D A ((dW m0 bw bf bb bg br bn ba cI cZ N B T O C R th w f gn fg rt wn u.1))) A) args s 0 0 A) (F0 m 61 ls []) := by
    intro n
    induction n with
    | zero => intro mo fv fr1 h1; omega
    | succ n ih3 =>
      intro mo fv0 fr1 hn hF0 hS0 hmo H locs hP hD hS ls hl
      refine lv_iload_n hx hb d_D_measure_61 rfl (lv_at hl 0 rfl) ?_
      refine k_zeq (tgt := 160) hx hb d_D_measure_62 (by decide) (by omega) (fun c1 => ?_) (fun c1 => ?_)
      · exact k_mretv S hr hlocks (fr1, fv0) (⟨hF0, far_ok hS0 (by rcases hmo with q | q; exact q.2; omega)⟩) hP hD hS d_D_measure_160
      · have hsm : sm fv0 L + 1 < n + 1 := by rcases hmo with q | q <;> omega
        refine lv_iconst (v := nI 0) hx hb d_D_measure_65 (by decide) ?_
        refine lv_istore_n (lv' := [(1, .int (nI 0)), (0, .ref m0)]) hx hb d_D_measure_66 rfl hl (by decide) rfl (fun ls hl => ?_)
        refine lv_iconst (v := nI 1) hx hb d_D_measure_67 (by decide) ?_
        refine lv_istore_n (lv' := [(2, .int (nI 1)), (1, .int (nI 0)), (0, .ref m0)]) hx hb d_D_measure_68 rfl hl (by decide) rfl (fun ls hl => ?_)
        have loop4 : ∀ (n4 : Nat) (ol : List Nat) (t mo : Nat) (fv : Nat → Nat) (fr1 : Nat → Int32), T < t + n4 → Chn w ol t T → 1 ≤ t → (∀ a ∈ ol, a ∈ L) → FV N fr1 fv → Snd w rt L fv → PS w L fv0 fv mo t t 0 → ∀ (H : Heap) (locs : List Loc), va_P D classes (dW m0 bw bf bb bg br bn ba cI cZ N B T O C R th w f gn fg rt wn fr1) H → va_D A (dW m0 bw bf bb bg br bn ba cI cZ N B T O C R th w f gn fg rt wn fr1) → va_S A s.heap H locs → ∀ ls : Array Slot, lv_has ls 5 [(2, .int (nI t)), (1, .int (nI mo)), (0, .ref m0)] → W p l e ({ frames := 2, cells := 0, slots := 0, locals := 42 } : Room) s m args below meth c H locs 0 0 (MQ below (va_Qv (fun u => FV N u.1 u.2 ∧ Far w rt L u.2) (fun (u : (Nat → Int32) × (Nat → Nat)) t => va_P D classes ((dW m0 bw bf bb bg br bn ba cI cZ N B T O C R th w f gn fg rt wn u.1)) t.heap ∧ va_D A ((dW m0 bw bf bb bg br bn ba cI cZ N B T O C R th w f gn fg rt wn u.1))) A) args s 0 0 A) (F0 m 69 ls []) := by
          intro n4
          induction n4 with
          | zero =>
            intro ol t mo fv fr1 h1 hC
            have := hC.le
            omega
          | succ n4 ih4 =>
            intro ol t mo fv fr1 hn4 hC ht hO hF hSn hPS H locs hP hD hS ls hl
            have hle := hC.le
            refine lv_iload_n hx hb d_D_measure_69 rfl (lv_at hl 0 rfl) ?_
            refine lv_aload_n hx hb d_D_measure_70 rfl (lv_at hl 2 rfl) ?_
            refine k_get S i_D hK hP 0 rfl rfl 3 (by decide) tb_219 rfl rfl d_D_measure_71 ?_
            refine k_ige (tgt := 157) hx hb d_D_measure_74 (by decide) (by omega) (by omega) (fun c2 => ?_) (fun c2 => ?_)
            · refine lv_goto (tgt := 61) hx hb d_D_measure_157 (by decide) ?_
              exact ih3 mo fv fr1 (by omega) hF hSn (by rcases hPS with ⟨q1, q2, q3, q4⟩ | ⟨q1, q2⟩; exact Or.inl ⟨q1, fun a ha => q3 a ha (by have := hH.obj ha; have := szN_pos (w a); omega)⟩; exact Or.inr ⟨q1, by omega⟩) H locs hP hD hS ls (lv_sub hl [1, 2] rfl)
            · obtain ⟨ol2, rfl, h0, hC2⟩ := hC.step c2
              have htL := hO t List.mem_cons_self
              have hob := hH.obj htL
              have hsz : szN (w t) = 1 + rfN (w t) + plN (w t) := rfl
              have hr16 := rfN_lt (w t)
              refine lv_iconst (v := nI 0) hx hb d_D_measure_77 (by decide) ?_
              refine lv_istore_n (lv' := [(3, .int (nI 0)), (2, .int (nI t)), (1, .int (nI mo)), (0, .ref m0)]) hx hb d_D_measure_78 rfl hl (by decide) rfl (fun ls hl => ?_)
              have loop5 : ∀ (n5 k mo : Nat) (fv : Nat → Nat) (fr1 : Nat → Int32), rfN (w t) < k + n5 → k ≤ rfN (w t) → FV N fr1 fv → Snd w rt L fv → PS w L fv0 fv mo t t k → ∀ (H : Heap) (locs : List Loc), va_P D classes (dW m0 bw bf bb bg br bn ba cI cZ N B T O C R th w f gn fg rt wn fr1) H → va_D A (dW m0 bw bf bb bg br bn ba cI cZ N B T O C R th w f gn fg rt wn fr1) → va_S A s.heap H locs → ∀ ls : Array Slot, lv_has ls 5 [(3, .int (nI k)), (2, .int (nI t)), (1, .int (nI mo)), (0, .ref m0)] → W p l e ({ frames := 2, cells := 0, slots := 0, locals := 42 } : Room) s m args below meth c H locs 0 0 (MQ below (va_Qv (fun u => FV N u.1 u.2 ∧ Far w rt L u.2) (fun (u : (Nat → Int32) × (Nat → Nat)) t => va_P D classes ((dW m0 bw bf bb bg br bn ba cI cZ N B T O C R th w f gn fg rt wn u.1)) t.heap ∧ va_D A ((dW m0 bw bf bb bg br bn ba cI cZ N B T O C R th w f gn fg rt wn u.1))) A) args s 0 0 A) (F0 m 79 ls []) := by
                intro n5
                induction n5 with
                | zero => intro k mo fv fr1 h1 h2; omega
                | succ n5 ih5 =>
                  intro k mo fv fr1 hn5 hk hF hSn hPS H locs hP hD hS ls hl
                  have hft := hF t hob.2.2.2
                  refine lv_iload_n hx hb d_D_measure_79 rfl (lv_at hl 0 rfl) ?_
                  refine lv_aload_n hx hb d_D_measure_80 rfl (lv_at hl 3 rfl) ?_
                  refine lv_iload_n hx hb d_D_measure_81 rfl (lv_at hl 1 rfl) ?_
                  refine k_roV (np := 1) (As := [.int (nI t)]) (rest := [.int (nI k)]) S (c_D_references t hN.2 (by omega) h0) (gd_V tb_279 tb_281 tp_D_references tb_4 tb_282) hK hP rfl rfl (by decide +kernel) rfl ⟨rfl, rfl⟩ ⟨Nat.le_of_ble_eq_true rfl, Nat.le_of_ble_eq_true rfl⟩ hl.1 rfl (Nat.le_of_ble_eq_true rfl) d_D_measure_82 ⟨Nat.zero_le _, Nat.zero_le _⟩ (fun v1 hv1 => ?_)
                  subst hv1
                  refine k_ige (tgt := 146) hx hb d_D_measure_85 (by decide) (by omega) (by omega) (fun c3 => ?_) (fun c3 => ?_)
                  · refine lv_iload_n hx hb d_D_measure_146 rfl (lv_at hl 1 rfl) ?_
                    refine lv_aload_n hx hb d_D_measure_147 rfl (lv_at hl 3 rfl) ?_
                    refine lv_iload_n hx hb d_D_measure_148 rfl (lv_at hl 1 rfl) ?_
                    refine k_roV (np := 1) (As := [.int (nI t)]) (rest := [.int (nI t)]) S (c_D_length t hN.2 (by omega) h0) (gd_V tb_304 tb_306 tp_D_length tb_4 tb_307) hK hP rfl rfl (by decide +kernel) rfl ⟨rfl, rfl⟩ ⟨Nat.le_of_ble_eq_true rfl, Nat.le_of_ble_eq_true rfl⟩ hl.1 rfl (Nat.le_of_ble_eq_true rfl) d_D_measure_149 ⟨Nat.zero_le _, Nat.zero_le _⟩ (fun v2 hv2 => ?_)
                    subst hv2
                    refine k_add hx hb d_D_measure_152 ?_
                    refine lv_istore_n (lv' := [(2, .int (nI (t + (szN (w t))))), (3, .int (nI k)), (1, .int (nI mo)), (0, .ref m0)]) hx hb d_D_measure_153 rfl hl (by decide) rfl (fun ls hl => ?_)
                    refine lv_goto (tgt := 69) hx hb d_D_measure_154 (by decide) ?_
                    have hkr : k = rfN (w t) := by omega
                    subst hkr
                    exact ih4 ol2 (t + szN (w t)) mo fv fr1 (by omega) hC2 (by omega) (fun a ha => hO a (List.mem_cons_of_mem _ ha)) hF hSn (hPS.next hH htL) H locs hP hD hS ls (lv_sub hl [0, 2, 3] rfl)
                  · obtain ⟨tt, ett, htt, htL2⟩ := hH.ld (hH.rf t htL k c3)
                    have hfo := hF tt htt
                    refine lv_aload_n hx hb d_D_measure_88 rfl (lv_at hl 3 rfl) ?_
                    refine k_get S i_D hK hP 0 rfl rfl 7 (by decide) tb_223 rfl rfl d_D_measure_89 ?_
                    refine lv_iload_n hx hb d_D_measure_92 rfl (lv_at hl 1 rfl) ?_
                    refine lv_iconst (v := nI 1) hx hb d_D_measure_93 (by decide) ?_
                    refine k_add hx hb d_D_measure_94 ?_
                    refine lv_iload_n hx hb d_D_measure_95 rfl (lv_at hl 0 rfl) ?_
                    refine k_add hx hb d_D_measure_96 ?_
                    refine k_ild hx hb hK hP 1 0 rfl rfl (by omega) (by omega) d_D_measure_97 ?_
                    refine k_top (y := nI tt) (ett) ?_
                    refine lv_istore (lv' := [(4, .int (nI tt)), (3, .int (nI k)), (2, .int (nI t)), (1, .int (nI mo)), (0, .ref m0)]) hx hb d_D_measure_98 hl (by decide) rfl (fun ls hl => ?_)
                    refine lv_iload hx hb d_D_measure_100 (lv_at hl 0 rfl) ?_
                    refine k_zle (tgt := 140) hx hb d_D_measure_102 (by decide) (by omega) (fun c4 => ?_) (fun c4 => ?_)
                    · refine k_iinc (k := 1) (a := k) (lv' := [(3, .int (nI (k + 1))), (4, .int (nI tt)), (2, .int (nI t)), (1, .int (nI mo)), (0, .ref m0)]) hx hb d_D_measure_140 hl rfl (by decide) rfl (fun ls hl => ?_)
                      refine lv_goto (tgt := 79) hx hb d_D_measure_143 (by decide) ?_
                      exact ih5 (k + 1) mo fv fr1 (by omega) (by omega) hF hSn (hPS.skip hH ett htt (Or.inl c4)) H locs hP hD hS ls (lv_sub hl [0, 2, 3, 4] rfl)
                    · have htL3 : tt ∈ L := by rcases htL2 with q | q; omega; exact q
                      refine lv_aload_n hx hb d_D_measure_105 rfl (lv_at hl 4 rfl) ?_
                      refine k_get S i_D hK hP 0 rfl rfl 13 (by decide) tb_229 rfl rfl d_D_measure_106 ?_
                      refine lv_iload_n hx hb d_D_measure_109 rfl (lv_at hl 2 rfl) ?_
                      refine k_ild hx hb hK hP 7 0 rfl rfl (by omega) (by omega) d_D_measure_110 ?_
                      refine k_top (y := nI (fv t)) (hft.1) ?_
                      refine lv_iconst (v := nI 1) hx hb d_D_measure_111 (by decide) ?_
                      refine k_add hx hb d_D_measure_112 ?_
                      refine lv_aload_n hx hb d_D_measure_113 rfl (lv_at hl 4 rfl) ?_
                      refine k_get S i_D hK hP 0 rfl rfl 13 (by decide) tb_229 rfl rfl d_D_measure_114 ?_
                      refine lv_iload hx hb d_D_measure_117 (lv_at hl 0 rfl) ?_
                      refine k_ild hx hb hK hP 7 0 rfl rfl (by omega) (by omega) d_D_measure_119 ?_
                      refine k_top (y := nI (fv tt)) (hfo.1) ?_
                      refine k_ige (tgt := 140) hx hb d_D_measure_120 (by decide) (by omega) (by omega) (fun c5 => ?_) (fun c5 => ?_)
                      · refine k_iinc (k := 1) (a := k) (lv' := [(3, .int (nI (k + 1))), (4, .int (nI tt)), (2, .int (nI t)), (1, .int (nI mo)), (0, .ref m0)]) hx hb d_D_measure_140 hl rfl (by decide) rfl (fun ls hl => ?_)
                        refine lv_goto (tgt := 79) hx hb d_D_measure_143 (by decide) ?_
                        exact ih5 (k + 1) mo fv fr1 (by omega) (by omega) hF hSn (hPS.skip hH ett htt (Or.inr c5)) H locs hP hD hS ls (lv_sub hl [0, 2, 3, 4] rfl)
                      · refine lv_aload_n hx hb d_D_measure_123 rfl (lv_at hl 4 rfl) ?_
                        refine k_get S i_D hK hP 0 rfl rfl 13 (by decide) tb_229 rfl rfl d_D_measure_124 ?_
                        refine lv_iload hx hb d_D_measure_127 (lv_at hl 0 rfl) ?_
                        refine lv_aload_n hx hb d_D_measure_129 rfl (lv_at hl 4 rfl) ?_
                        refine k_get S i_D hK hP 0 rfl rfl 13 (by decide) tb_229 rfl rfl d_D_measure_130 ?_
                        refine lv_iload_n hx hb d_D_measure_133 rfl (lv_at hl 2 rfl) ?_
                        refine k_ild hx hb hK hP 7 0 rfl rfl (by omega) (by omega) d_D_measure_134 ?_
                        refine k_top (y := nI (fv t)) (hft.1) ?_
                        refine lv_iconst (v := nI 1) hx hb d_D_measure_135 (by decide) ?_
                        refine k_add hx hb d_D_measure_136 ?_
                        refine k_ist (ws' := (dW m0 bw bf bb bg br bn ba cI cZ N B T O C R th w f gn fg rt wn (upd fr1 tt (nI ((fv t) + 1))))) hx hb hK hP hD hS 7 0 rfl rfl (by omega) (by omega) rfl d_D_measure_137 (fun H locs hP hD hS => ?_)
                        refine lv_iconst (v := nI 1) hx hb d_D_measure_138 (by decide) ?_
                        refine lv_istore_n (lv' := [(1, .int (nI 1)), (4, .int (nI tt)), (3, .int (nI k)), (2, .int (nI t)), (0, .ref m0)]) hx hb d_D_measure_139 rfl hl (by decide) rfl (fun ls hl => ?_)
                        refine k_iinc (k := 2) (a := k) (lv' := [(3, .int (nI (k + 1))), (1, .int (nI 1)), (4, .int (nI tt)), (2, .int (nI t)), (0, .ref m0)]) hx hb d_D_measure_140 hl rfl (by decide) rfl (fun ls hl => ?_)
                        refine lv_goto (tgt := 79) hx hb d_D_measure_143 (by decide) ?_
                        exact ih5 (k + 1) 1 (va_up fv tt (fv t + 1)) (upd fr1 tt (nI (fv t + 1))) (by omega) (by omega) (hF.set (by omega)) (hSn.step hH htL htL3 c3 ett c5 hfo.2) (hPS.fall htL3 c5) H locs hP hD hS ls (lv_sub hl [0, 3, 1, 4] rfl)
              exact loop5 (rfN (w t) + 1) 0 mo fv fr1 (by omega) (by omega) hF hSn (hPS.at t) H locs hP hD hS ls (lv_sub hl [0, 1, 2, 3] rfl)
        exact loop4 (T + 1) L 1 0 fv0 fr1 (by omega) hH.ch (Nat.le_refl 1) (fun a ha => ha) hF0 hS0 (PS.begin (fun a ha => (hH.obj ha).1)) H locs hP hD hS ls (lv_sub hl [0, 1, 2] rfl)
  have loop2 : ∀ (n k : Nat) (fv : Nat → Nat) (fr1 : Nat → Int32), 8 < k + n → k ≤ 8 → FV N fr1 fv → Rt0 w rt L fv k → ∀ (H : Heap) (locs : List Loc), va_P D classes (dW m0 bw bf bb bg br bn ba cI cZ N B T O C R th w f gn fg rt wn fr1) H → va_D A (dW m0 bw bf bb bg br bn ba cI cZ N B T O C R th w f gn fg rt wn fr1) → va_S A s.heap H locs → ∀ ls : Array Slot, lv_has ls 5 [(1, .int (nI k)), (0, .ref m0)] → W p l e ({ frames := 2, cells := 0, slots := 0, locals := 42 } : Room) s m args below meth c H locs 0 0 (MQ below (va_Qv (fun u => FV N u.1 u.2 ∧ Far w rt L u.2) (fun (u : (Nat → Int32) × (Nat → Nat)) t => va_P D classes ((dW m0 bw bf bb bg br bn ba cI cZ N B T O C R th w f gn fg rt wn u.1)) t.heap ∧ va_D A ((dW m0 bw bf bb bg br bn ba cI cZ N B T O C R th w f gn fg rt wn u.1))) A) args s 0 0 A) (F0 m 26 ls []) := by
    intro n
    induction n with
    | zero => intro k fv fr1 h1 h2; omega
    | succ n ih =>
      intro k fv fr1 hn hk hF hR H locs hP hD hS ls hl
      refine lv_iload_n hx hb d_D_measure_26 rfl (lv_at hl 0 rfl) ?_
      refine lv_bipush (v := nI 8) hx hb d_D_measure_27 (by decide) ?_
      refine k_ige (tgt := 59) hx hb d_D_measure_29 (by decide) (by omega) (by omega) (fun c1 => ?_) (fun c1 => ?_)
      · have hk8 : k = 8 := by omega
        subst hk8
        refine lv_iconst (v := nI 1) hx hb d_D_measure_59 (by decide) ?_
        refine lv_istore_n (lv' := [(1, .int (nI 1)), (0, .ref m0)]) hx hb d_D_measure_60 rfl hl (by decide) rfl (fun ls hl => ?_)
        exact loop3 (sm fv L + 2) 1 fv fr1 (by omega) hF hR.snd (Or.inr ⟨rfl, by omega⟩) H locs hP hD hS ls (lv_sub hl [0, 1] rfl)
      · obtain ⟨tt, ett, htt, htL⟩ := hH.ld (hH.rt k c1)
        refine lv_aload_n hx hb d_D_measure_32 rfl (lv_at hl 1 rfl) ?_
        refine k_get S i_D hK hP 0 rfl rfl 11 (by decide) tb_227 rfl rfl d_D_measure_33 ?_
        refine lv_iload_n hx hb d_D_measure_36 rfl (lv_at hl 0 rfl) ?_
        refine k_ild hx hb hK hP 5 0 rfl rfl (by omega) (by omega) d_D_measure_37 ?_
        refine k_top (y := nI tt) (ett) ?_
        refine k_zle (tgt := 53) hx hb d_D_measure_38 (by decide) (by omega) (fun c2 => ?_) (fun c2 => ?_)
        · subst c2
          refine k_iinc (k := 0) (a := k) (lv' := [(1, .int (nI (k + 1))), (0, .ref m0)]) hx hb d_D_measure_53 hl rfl (by decide) rfl (fun ls hl => ?_)
          refine lv_goto (tgt := 26) hx hb d_D_measure_56 (by decide) ?_
          exact ih (k + 1) fv fr1 (by omega) (by omega) hF (hR.skip hH ett) H locs hP hD hS ls (lv_sub hl [0, 1] rfl)
        · have htL3 : tt ∈ L := by rcases htL with q | q; omega; exact q
          refine lv_aload_n hx hb d_D_measure_41 rfl (lv_at hl 1 rfl) ?_
          refine k_get S i_D hK hP 0 rfl rfl 13 (by decide) tb_229 rfl rfl d_D_measure_42 ?_
          refine lv_aload_n hx hb d_D_measure_45 rfl (lv_at hl 1 rfl) ?_
          refine k_get S i_D hK hP 0 rfl rfl 11 (by decide) tb_227 rfl rfl d_D_measure_46 ?_
          refine lv_iload_n hx hb d_D_measure_49 rfl (lv_at hl 0 rfl) ?_
          refine k_ild hx hb hK hP 5 0 rfl rfl (by omega) (by omega) d_D_measure_50 ?_
          refine k_top (y := nI tt) (ett) ?_
          refine lv_iconst (v := nI 0) hx hb d_D_measure_51 (by decide) ?_
          refine k_ist (ws' := (dW m0 bw bf bb bg br bn ba cI cZ N B T O C R th w f gn fg rt wn (upd fr1 tt (nI 0)))) hx hb hK hP hD hS 7 0 rfl rfl (by omega) (by omega) rfl d_D_measure_52 (fun H locs hP hD hS => ?_)
          refine k_iinc (k := 0) (a := k) (lv' := [(1, .int (nI (k + 1))), (0, .ref m0)]) hx hb d_D_measure_53 hl rfl (by decide) rfl (fun ls hl => ?_)
          refine lv_goto (tgt := 26) hx hb d_D_measure_56 (by decide) ?_
          exact ih (k + 1) (va_up fv tt 0) (upd fr1 tt (nI 0)) (by omega) (by omega) (hF.set (by omega)) (hR.set hH c1 ett htL3) H locs hP hD hS ls (lv_sub hl [0, 1] rfl)
  refine lv_iconst (v := nI 0) hx hb d_D_measure_0 (by decide) ?_
  refine lv_istore_n (lv' := [(1, .int (nI 0)), (0, .ref m0)]) hx hb d_D_measure_1 rfl hl (by decide) rfl (fun ls hl => ?_)
  have loop1 : ∀ (n i : Nat) (fr1 : Nat → Int32), N + 1 < i + n → i ≤ N + 1 → (∀ j, j < i → fr1 j = nI 1000000) → ∀ (H : Heap) (locs : List Loc), va_P D classes (dW m0 bw bf bb bg br bn ba cI cZ N B T O C R th w f gn fg rt wn fr1) H → va_D A (dW m0 bw bf bb bg br bn ba cI cZ N B T O C R th w f gn fg rt wn fr1) → va_S A s.heap H locs → ∀ ls : Array Slot, lv_has ls 5 [(1, .int (nI i)), (0, .ref m0)] → W p l e ({ frames := 2, cells := 0, slots := 0, locals := 42 } : Room) s m args below meth c H locs 0 0 (MQ below (va_Qv (fun u => FV N u.1 u.2 ∧ Far w rt L u.2) (fun (u : (Nat → Int32) × (Nat → Nat)) t => va_P D classes ((dW m0 bw bf bb bg br bn ba cI cZ N B T O C R th w f gn fg rt wn u.1)) t.heap ∧ va_D A ((dW m0 bw bf bb bg br bn ba cI cZ N B T O C R th w f gn fg rt wn u.1))) A) args s 0 0 A) (F0 m 2 ls []) := by
    intro n
    induction n with
    | zero => intro i fr1 h1 h2; omega
    | succ n ih =>
      intro i fr1 hn hi hz H locs hP hD hS ls hl
      refine lv_iload_n hx hb d_D_measure_2 rfl (lv_at hl 0 rfl) ?_
      refine lv_aload_n hx hb d_D_measure_3 rfl (lv_at hl 1 rfl) ?_
      refine k_get S i_D hK hP 0 rfl rfl 1 (by decide) tb_217 rfl rfl d_D_measure_4 ?_
      refine k_igt (tgt := 24) hx hb d_D_measure_7 (by decide) (by omega) (by omega) (fun c1 => ?_) (fun c1 => ?_)
      · refine lv_iconst (v := nI 0) hx hb d_D_measure_24 (by decide) ?_
        refine lv_istore_n (lv' := [(1, .int (nI 0)), (0, .ref m0)]) hx hb d_D_measure_25 rfl hl (by decide) rfl (fun ls hl => ?_)
        exact loop2 9 0 (fun _ => 1000000) fr1 (by omega) (by omega) (fun a ha => ⟨hz a (by omega), Nat.le_refl _⟩) ⟨fun a ha => Or.inl rfl, fun j a h1 => by omega⟩ H locs hP hD hS ls (lv_sub hl [0, 1] rfl)
      · refine lv_aload_n hx hb d_D_measure_10 rfl (lv_at hl 1 rfl) ?_
        refine k_get S i_D hK hP 0 rfl rfl 13 (by decide) tb_229 rfl rfl d_D_measure_11 ?_
        refine lv_iload_n hx hb d_D_measure_14 rfl (lv_at hl 0 rfl) ?_
        refine lv_ldc (v := 1000000) hx hb S.2.2.2.1 (S.2.2.2.2 _ (List.mem_cons_of_mem _ tb_303)) d_D_measure_15 ?_
        refine k_ist (ws' := (dW m0 bw bf bb bg br bn ba cI cZ N B T O C R th w f gn fg rt wn (upd fr1 i 1000000))) hx hb hK hP hD hS 7 0 rfl rfl (by omega) (by omega) rfl d_D_measure_17 (fun H locs hP hD hS => ?_)
        refine k_iinc (k := 0) (a := i) (lv' := [(1, .int (nI (i + 1))), (0, .ref m0)]) hx hb d_D_measure_18 hl rfl (by decide) rfl (fun ls hl => ?_)
        refine lv_goto (tgt := 2) hx hb d_D_measure_21 (by decide) ?_
        exact ih (i + 1) (upd fr1 i 1000000) (by omega) (by omega) (fill_I (g := fun _ => nI 1000000) hz rfl) H locs hP hD hS ls (lv_sub hl [0, 1] rfl)
  exact loop1 (N + 2) 0 fr (by omega) (by omega) (fun j hj => by omega) _ _ hP hD hS ls (lv_sub hl [0, 1] rfl)
set_option maxHeartbeats 4000000 in
set_option maxRecDepth 100000 in
/-- how many are near -/
theorem c_D_near (k : Int32) (hH : Hp N T w L rt) {sz : Nat} : muC l y_D_near b_D_near 4 (some .int) { frames := 3, cells := 0, slots := 0, locals := 66 } D (tyS cI cL cZ) [.ref m0, .int k] sz (dW m0 bw bf bb bg br bn ba cI cZ N B T O C R th w f gn fg rt wn fr) (fun u : Nat → Int32 => (dW m0 bw bf bb bg br bn ba cI cZ N B T O C R th w f gn fg rt wn u)) (fun v _ => v = nrS w rt L k) := by
  refine mu_of (by decide) (Nat.le_of_ble_eq_true rfl) ?_
  intro p e s m args below meth c A S hr hlocks hK hP hD hA hS ls hl
  have hx := S.1
  have hb := S.2.1
  have hl : lv_has ls 4 [(0, .ref m0), (1, .int k)] := hl
  have hN := hH.N
  have hT := hH.T
  refine lv_iload_n hx hb d_D_near_0 rfl (lv_at hl 1 rfl) ?_
  refine lv_iconst (v := nI 0) hx hb d_D_near_1 (by decide) ?_
  refine lv_bipush (v := nI 100) hx hb d_D_near_2 (by decide) ?_
  refine k_roS (np := 3) (As := [.int k, .int (nI 0), .int (nI 100)]) (rest := []) S (c_D_isIn k (nI 0) (nI 100)) (gd_S tb_263 tb_264 tb_4 tb_265) hK (hP.sub [] rfl) (by decide +kernel) rfl ⟨rfl, rfl⟩ ⟨Nat.le_of_ble_eq_true rfl, Nat.le_of_ble_eq_true rfl⟩ hl.1 rfl (Nat.le_of_ble_eq_true rfl) d_D_near_4 ⟨Nat.zero_le _, Nat.zero_le _⟩ (fun v1 hv1 => ?_)
  subst hv1
  refine k_bne (tgt := 12) hx hb d_D_near_7 (by decide) (fun c1 => ?_) (fun c1 => ?_)
  · obtain ⟨kn, hkn, rfl⟩ := inR_nat (by omega) c1
    have hkN : hdN (nI kn) = kn := hdN_nI (by omega)
    refine lv_aload_n hx hb d_D_near_12 rfl (lv_at hl 0 rfl) ?_
    refine k_mvV (np := 0) (wr := []) (As := []) (rest := []) S (c_D_measure hH) (gd_V tb_299 tb_301 tp_D_measure tb_4 tb_302) hK hP hD hS hA [0, 1, 2, 3, 4, 5, 6, 7] [] rfl rfl rfl (by decide) (by decide) (by decide) rfl rfl (by decide +kernel) rfl ⟨rfl, rfl⟩ ⟨Nat.le_of_ble_eq_true rfl, Nat.le_of_ble_eq_true rfl⟩ hl.1 rfl (Nat.le_of_ble_eq_true rfl) d_D_near_13 ⟨Nat.zero_le _, Nat.zero_le _⟩ (fun u H locs hw hP hD hS => ?_)
    obtain ⟨fr4, fv⟩ := u
    obtain ⟨hF, hFar⟩ := hw
    dsimp only at hF hFar
    have hP : va_P D classes (dW m0 bw bf bb bg br bn ba cI cZ N B T O C R th w f gn fg rt wn fr4) H := hP
    have hD : va_D A (dW m0 bw bf bb bg br bn ba cI cZ N B T O C R th w f gn fg rt wn fr4) := hD
    refine lv_iconst (v := nI 0) hx hb d_D_near_16 (by decide) ?_
    refine lv_istore_n (lv' := [(2, .int (nI 0)), (0, .ref m0), (1, .int (nI kn))]) hx hb d_D_near_17 rfl hl (by decide) rfl (fun ls hl => ?_)
    refine lv_iconst (v := nI 1) hx hb d_D_near_18 (by decide) ?_
    refine lv_istore_n (lv' := [(3, .int (nI 1)), (2, .int (nI 0)), (0, .ref m0), (1, .int (nI kn))]) hx hb d_D_near_19 rfl hl (by decide) rfl (fun ls hl => ?_)
    have loop : ∀ (n : Nat) (ol : List Nat) (t z : Nat), T < t + n → Chn w ol t T → 1 ≤ t → (∀ a ∈ ol, a ∈ L) → z + (ol.filter (fun a => rchB w rt L kn a)).length = rchN w rt L kn → ∀ (H : Heap) (locs : List Loc), va_P D classes (dW m0 bw bf bb bg br bn ba cI cZ N B T O C R th w f gn fg rt wn fr4) H → va_D A (dW m0 bw bf bb bg br bn ba cI cZ N B T O C R th w f gn fg rt wn fr4) → va_S A s.heap H locs → ∀ ls : Array Slot, lv_has ls 4 [(3, .int (nI t)), (2, .int (nI z)), (0, .ref m0), (1, .int (nI kn))] → W p l e ({ frames := 3, cells := 0, slots := 0, locals := 66 } : Room) s m args below meth c H locs 0 0 (MQ below (va_Qi (fun v _ => v = nrS w rt L (nI kn)) (fun (u : Nat → Int32) t => va_P D classes ((dW m0 bw bf bb bg br bn ba cI cZ N B T O C R th w f gn fg rt wn u)) t.heap ∧ va_D A ((dW m0 bw bf bb bg br bn ba cI cZ N B T O C R th w f gn fg rt wn u))) A) args s 0 0 A) (F0 m 20 ls []) := by
      intro n
      induction n with
      | zero =>
        intro ol t z h1 hC
        have := hC.le
        omega
      | succ n ih =>
        intro ol t z hn hC ht hO hz H locs hP hD hS ls hl
        have hle := hC.le
        refine lv_iload_n hx hb d_D_near_20 rfl (lv_at hl 0 rfl) ?_
        refine lv_aload_n hx hb d_D_near_21 rfl (lv_at hl 2 rfl) ?_
        refine k_get S i_D hK hP 0 rfl rfl 3 (by decide) tb_219 rfl rfl d_D_near_22 ?_
        refine k_ige (tgt := 57) hx hb d_D_near_25 (by decide) (by omega) (by omega) (fun c2 => ?_) (fun c2 => ?_)
        · obtain ⟨hnil, _⟩ := hC.end c2
          subst hnil
          refine lv_iload_n hx hb d_D_near_57 rfl (lv_at hl 1 rfl) ?_
          exact k_mret S hr hlocks fr4 (by unfold nrS; rw [c1, hkN, ← hz]; rfl) hP hD hS d_D_near_58
        · obtain ⟨ol2, rfl, h0, hC2⟩ := hC.step c2
          have htL := hO t List.mem_cons_self
          have hob := hH.obj htL
          have hft := hF t hob.2.2.2
          have hp := szN_pos (w t)
          rw [List.filter_cons, rchB_far hFar htL (show kn < 1000000 by omega)] at hz
          refine lv_aload_n hx hb d_D_near_28 rfl (lv_at hl 2 rfl) ?_
          refine k_get S i_D hK hP 0 rfl rfl 13 (by decide) tb_229 rfl rfl d_D_near_29 ?_
          refine lv_iload_n hx hb d_D_near_32 rfl (lv_at hl 0 rfl) ?_
          refine k_ild hx hb hK hP 7 0 rfl rfl (by omega) (by omega) d_D_near_33 ?_
          refine k_top (y := nI (fv t)) (hft.1) ?_
          refine lv_iload_n hx hb d_D_near_34 rfl (lv_at hl 3 rfl) ?_
          refine k_igt (tgt := 44) hx hb d_D_near_35 (by decide) (by omega) (by omega) (fun c3 => ?_) (fun c3 => ?_)
          · refine lv_iload_n hx hb d_D_near_44 rfl (lv_at hl 1 rfl) ?_
            refine lv_istore_n (lv' := [(2, .int (nI z)), (3, .int (nI t)), (0, .ref m0), (1, .int (nI kn))]) hx hb d_D_near_45 rfl hl (by decide) rfl (fun ls hl => ?_)
            refine lv_iload_n hx hb d_D_near_46 rfl (lv_at hl 1 rfl) ?_
            refine lv_aload_n hx hb d_D_near_47 rfl (lv_at hl 2 rfl) ?_
            refine lv_iload_n hx hb d_D_near_48 rfl (lv_at hl 1 rfl) ?_
            refine k_roV (np := 1) (As := [.int (nI t)]) (rest := [.int (nI t)]) S (c_D_length t hN.2 (by omega) h0) (gd_V tb_304 tb_306 tp_D_length tb_4 tb_307) hK hP rfl rfl (by decide +kernel) rfl ⟨rfl, rfl⟩ ⟨Nat.le_of_ble_eq_true rfl, Nat.le_of_ble_eq_true rfl⟩ hl.1 rfl (Nat.le_of_ble_eq_true rfl) d_D_near_49 ⟨Nat.zero_le _, Nat.zero_le _⟩ (fun v3 hv3 => ?_)
            subst hv3
            refine k_add hx hb d_D_near_52 ?_
            refine lv_istore_n (lv' := [(3, .int (nI (t + (szN (w t))))), (2, .int (nI z)), (0, .ref m0), (1, .int (nI kn))]) hx hb d_D_near_53 rfl hl (by decide) rfl (fun ls hl => ?_)
            refine lv_goto (tgt := 20) hx hb d_D_near_54 (by decide) ?_
            exact ih ol2 (t + szN (w t)) (z) (by omega) hC2 (by omega) (fun a ha => hO a (List.mem_cons_of_mem _ ha)) (by rw [show decide (fv t ≤ kn) = false by simp; omega] at hz; exact hz) H locs hP hD hS ls (lv_sub hl [0, 1, 2, 3] rfl)
          · refine lv_iload_n hx hb d_D_near_38 rfl (lv_at hl 1 rfl) ?_
            refine lv_iconst (v := nI 1) hx hb d_D_near_39 (by decide) ?_
            refine k_add hx hb d_D_near_40 ?_
            refine lv_goto (tgt := 45) hx hb d_D_near_41 (by decide) ?_
            refine lv_istore_n (lv' := [(2, .int (nI (z + 1))), (3, .int (nI t)), (0, .ref m0), (1, .int (nI kn))]) hx hb d_D_near_45 rfl hl (by decide) rfl (fun ls hl => ?_)
            refine lv_iload_n hx hb d_D_near_46 rfl (lv_at hl 1 rfl) ?_
            refine lv_aload_n hx hb d_D_near_47 rfl (lv_at hl 2 rfl) ?_
            refine lv_iload_n hx hb d_D_near_48 rfl (lv_at hl 1 rfl) ?_
            refine k_roV (np := 1) (As := [.int (nI t)]) (rest := [.int (nI t)]) S (c_D_length t hN.2 (by omega) h0) (gd_V tb_304 tb_306 tp_D_length tb_4 tb_307) hK hP rfl rfl (by decide +kernel) rfl ⟨rfl, rfl⟩ ⟨Nat.le_of_ble_eq_true rfl, Nat.le_of_ble_eq_true rfl⟩ hl.1 rfl (Nat.le_of_ble_eq_true rfl) d_D_near_49 ⟨Nat.zero_le _, Nat.zero_le _⟩ (fun v4 hv4 => ?_)
            subst hv4
            refine k_add hx hb d_D_near_52 ?_
            refine lv_istore_n (lv' := [(3, .int (nI (t + (szN (w t))))), (2, .int (nI (z + 1))), (0, .ref m0), (1, .int (nI kn))]) hx hb d_D_near_53 rfl hl (by decide) rfl (fun ls hl => ?_)
            refine lv_goto (tgt := 20) hx hb d_D_near_54 (by decide) ?_
            exact ih ol2 (t + szN (w t)) (z + 1) (by omega) hC2 (by omega) (fun a ha => hO a (List.mem_cons_of_mem _ ha)) (by rw [show decide (fv t ≤ kn) = true by simp; omega] at hz; simp only [if_true, List.length_cons] at hz; omega) H locs hP hD hS ls (lv_sub hl [0, 1, 2, 3] rfl)
    exact loop (T + 1) L 1 0 (by omega) hH.ch (Nat.le_refl 1) (fun a ha => ha) (by rw [Nat.zero_add]; rfl) H locs hP hD hS ls (lv_sub hl [0, 1, 2, 3] rfl)
  · refine lv_iconst (v := (-1)) hx hb d_D_near_10 (by decide) ?_
    exact k_mret S hr hlocks fr (by unfold nrS; rw [c1]; rfl) hP hD hS d_D_near_11
set_option maxHeartbeats 4000000 in
set_option maxRecDepth 100000 in
/-- it is sound -/
theorem c_D_sound (hH : Hp N T w L rt) (hG : Bg N L gn) (hO : O = L.length) : roC l y_D_sound b_D_sound 5 (some .boolean) { frames := 3, cells := 0, slots := 0, locals := 64 } D (tyS cI cL cZ) [.ref m0] (dW m0 bw bf bb bg br bn ba cI cZ N B T O C R th w f gn fg rt wn fr) (fun r => r = b2i true) := by
  refine ro_of (by decide) (Nat.le_of_ble_eq_true rfl) ?_
  intro p e s m args below meth c S hr hlocks hK hP ls hl
  have hx := S.1
  have hb := S.2.1
  have hl : lv_has ls 5 [(0, .ref m0)] := hl
  have hN := hH.N
  have hT := hH.T
  have hLn := hH.len
  have loopC : ∀ (n k : Nat), 8 < k + n → k ≤ 8 → ∀ ls : Array Slot, lv_has ls 5 [(3, .int (nI k)), (1, .int (nI 1)), (2, .int (nI L.length)), (0, .ref m0)] → W p l e ({ frames := 3, cells := 0, slots := 0, locals := 64 } : Room) s m args below meth c s.heap [] 0 0 (MQ below (vp_Si (fun r => r = b2i true)) args s 0 0 (fun _ => False)) (F0 m 96 ls []) := by
    intro n
    induction n with
    | zero => intro k h1 h2; omega
    | succ n ih =>
      intro k hn hk ls hl
      refine lv_iload_n hx hb d_D_sound_96 rfl (lv_at hl 0 rfl) ?_
      refine lv_bipush (v := nI 8) hx hb d_D_sound_97 (by decide) ?_
      refine k_ige (tgt := 131) hx hb d_D_sound_99 (by decide) (by omega) (by omega) (fun c1 => ?_) (fun c1 => ?_)
      · refine lv_iload_n hx hb d_D_sound_131 rfl (lv_at hl 1 rfl) ?_
        refine k_zeq (tgt := 147) hx hb d_D_sound_132 (by decide) (by omega) (fun c2 => ?_) (fun c2 => ?_)
        · omega
        · refine lv_iload_n hx hb d_D_sound_135 rfl (lv_at hl 2 rfl) ?_
          refine lv_aload_n hx hb d_D_sound_136 rfl (lv_at hl 3 rfl) ?_
          refine k_get S i_D hK hP 0 rfl rfl 4 (by decide) tb_220 rfl rfl d_D_sound_137 ?_
          refine k_ine (tgt := 147) hx hb d_D_sound_140 (by decide) (by omega) (by omega) (fun c3 => ?_) (fun c3 => ?_)
          · omega
          · refine lv_iconst (v := nI 1) hx hb d_D_sound_143 (by decide) ?_
            refine lv_goto (tgt := 148) hx hb d_D_sound_144 (by decide) ?_
            exact k_retz S hr hlocks (by decide) (rfl) d_D_sound_148
      · refine lv_iload_n hx hb d_D_sound_102 rfl (lv_at hl 1 rfl) ?_
        refine k_zeq (tgt := 123) hx hb d_D_sound_103 (by decide) (by omega) (fun c2 => ?_) (fun c2 => ?_)
        · omega
        · refine lv_aload_n hx hb d_D_sound_106 rfl (lv_at hl 3 rfl) ?_
          refine lv_aload_n hx hb d_D_sound_107 rfl (lv_at hl 3 rfl) ?_
          refine k_get S i_D hK hP 0 rfl rfl 11 (by decide) tb_227 rfl rfl d_D_sound_108 ?_
          refine lv_iload_n hx hb d_D_sound_111 rfl (lv_at hl 0 rfl) ?_
          refine k_ild hx hb hK hP 5 0 rfl rfl (by omega) (by omega) d_D_sound_112 ?_
          refine k_roV (np := 1) (As := [.int (rt k)]) (rest := []) S (c_D_isLead hH hG (rt k)) (gd_V tb_275 tb_277 tp_D_isLead tb_4 tb_278) hK hP rfl rfl (by decide +kernel) rfl ⟨rfl, rfl⟩ ⟨Nat.le_of_ble_eq_true rfl, Nat.le_of_ble_eq_true rfl⟩ hl.1 rfl (Nat.le_of_ble_eq_true rfl) d_D_sound_113 ⟨Nat.zero_le _, Nat.zero_le _⟩ (fun v1 hv1 => ?_)
          subst hv1
          refine k_beq (tgt := 123) hx hb d_D_sound_116 (by decide) (fun c3 => ?_) (fun c3 => ?_)
          · rw [isLd_iff.mpr (hH.rt k c1)] at c3
            cases c3
          · refine lv_iconst (v := nI 1) hx hb d_D_sound_119 (by decide) ?_
            refine lv_goto (tgt := 124) hx hb d_D_sound_120 (by decide) ?_
            refine lv_istore_n (lv' := [(1, .int (nI 1)), (3, .int (nI k)), (2, .int (nI L.length)), (0, .ref m0)]) hx hb d_D_sound_124 rfl hl (by decide) rfl (fun ls hl => ?_)
            refine k_iinc (k := 1) (a := k) (lv' := [(3, .int (nI (k + 1))), (1, .int (nI 1)), (2, .int (nI L.length)), (0, .ref m0)]) hx hb d_D_sound_125 hl rfl (by decide) rfl (fun ls hl => ?_)
            refine lv_goto (tgt := 96) hx hb d_D_sound_128 (by decide) ?_
            exact ih (k + 1) (by omega) (by omega) ls (lv_sub hl [0, 1, 2, 3] rfl)
  have loopA : ∀ (n : Nat) (ol : List Nat) (t z : Nat), T < t + n → Chn w ol t T → 1 ≤ t → (∀ a ∈ ol, a ∈ L) → z + ol.length = L.length → ∀ ls : Array Slot, lv_has ls 5 [(3, .int (nI t)), (2, .int (nI z)), (1, .int (nI 1)), (0, .ref m0)] → W p l e ({ frames := 3, cells := 0, slots := 0, locals := 64 } : Room) s m args below meth c s.heap [] 0 0 (MQ below (vp_Si (fun r => r = b2i true)) args s 0 0 (fun _ => False)) (F0 m 6 ls []) := by
    intro n
    induction n with
    | zero =>
      intro ol t z h1 hC
      have := hC.le
      omega
    | succ n ih =>
      intro ol t z hn hC ht hO2 hz ls hl
      have hle := hC.le
      refine lv_iload_n hx hb d_D_sound_6 rfl (lv_at hl 0 rfl) ?_
      refine lv_aload_n hx hb d_D_sound_7 rfl (lv_at hl 3 rfl) ?_
      refine k_get S i_D hK hP 0 rfl rfl 3 (by decide) tb_219 rfl rfl d_D_sound_8 ?_
      refine k_ige (tgt := 94) hx hb d_D_sound_11 (by decide) (by omega) (by omega) (fun c1 => ?_) (fun c1 => ?_)
      · obtain ⟨hnil, _⟩ := hC.end c1
        subst hnil
        have hzz : z = L.length := by simpa using hz
        subst hzz
        refine lv_iconst (v := nI 0) hx hb d_D_sound_94 (by decide) ?_
        refine lv_istore_n (lv' := [(3, .int (nI 0)), (2, .int (nI L.length)), (1, .int (nI 1)), (0, .ref m0)]) hx hb d_D_sound_95 rfl hl (by decide) rfl (fun ls hl => ?_)
        exact loopC 9 0 (by omega) (by omega) ls (lv_sub hl [0, 2, 1, 3] rfl)
      · obtain ⟨ol2, rfl, h0, hC2⟩ := hC.step c1
        have htL := hO2 t List.mem_cons_self
        have hob := hH.obj htL
        have hsz : szN (w t) = 1 + rfN (w t) + plN (w t) := rfl
        have hr16 := rfN_lt (w t)
        refine lv_iload_n hx hb d_D_sound_14 rfl (lv_at hl 2 rfl) ?_
        refine k_zeq (tgt := 31) hx hb d_D_sound_15 (by decide) (by omega) (fun c2 => ?_) (fun c2 => ?_)
        · omega
        · refine lv_aload_n hx hb d_D_sound_18 rfl (lv_at hl 3 rfl) ?_
          refine k_get S i_D hK hP 0 rfl rfl 9 (by decide) tb_225 rfl rfl d_D_sound_19 ?_
          refine lv_iload_n hx hb d_D_sound_22 rfl (lv_at hl 0 rfl) ?_
          refine k_zld hx hb hK hP 3 2 rfl rfl (by omega) (by omega) d_D_sound_23 ?_
          refine k_top (y := b2i true) (by rw [hG t hob.2.2.2]; simp [htL]) ?_
          refine k_beq (tgt := 31) hx hb d_D_sound_24 (by decide) (fun c3 => ?_) (fun c3 => ?_)
          · cases c3
          · refine lv_iconst (v := nI 1) hx hb d_D_sound_27 (by decide) ?_
            refine lv_goto (tgt := 32) hx hb d_D_sound_28 (by decide) ?_
            refine lv_istore_n (lv' := [(1, .int (nI 1)), (3, .int (nI t)), (2, .int (nI z)), (0, .ref m0)]) hx hb d_D_sound_32 rfl hl (by decide) rfl (fun ls hl => ?_)
            refine k_iinc (k := 2) (a := z) (lv' := [(2, .int (nI (z + 1))), (1, .int (nI 1)), (3, .int (nI t)), (0, .ref m0)]) hx hb d_D_sound_33 hl rfl (by decide) rfl (fun ls hl => ?_)
            refine lv_iconst (v := nI 0) hx hb d_D_sound_36 (by decide) ?_
            refine lv_istore (lv' := [(4, .int (nI 0)), (2, .int (nI (z + 1))), (1, .int (nI 1)), (3, .int (nI t)), (0, .ref m0)]) hx hb d_D_sound_37 hl (by decide) rfl (fun ls hl => ?_)
            have loopB : ∀ (n2 k : Nat), rfN (w t) < k + n2 → k ≤ rfN (w t) → ∀ ls : Array Slot, lv_has ls 5 [(4, .int (nI k)), (3, .int (nI t)), (2, .int (nI (z + 1))), (1, .int (nI 1)), (0, .ref m0)] → W p l e ({ frames := 3, cells := 0, slots := 0, locals := 64 } : Room) s m args below meth c s.heap [] 0 0 (MQ below (vp_Si (fun r => r = b2i true)) args s 0 0 (fun _ => False)) (F0 m 39 ls []) := by
              intro n2
              induction n2 with
              | zero => intro k h1 h2; omega
              | succ n2 ih2 =>
                intro k hn2 hk ls hl
                refine lv_iload hx hb d_D_sound_39 (lv_at hl 0 rfl) ?_
                refine lv_aload_n hx hb d_D_sound_41 rfl (lv_at hl 4 rfl) ?_
                refine lv_iload_n hx hb d_D_sound_42 rfl (lv_at hl 1 rfl) ?_
                refine k_roV (np := 1) (As := [.int (nI t)]) (rest := [.int (nI k)]) S (c_D_references t hN.2 (by omega) h0) (gd_V tb_279 tb_281 tp_D_references tb_4 tb_282) hK hP rfl rfl (by decide +kernel) rfl ⟨rfl, rfl⟩ ⟨Nat.le_of_ble_eq_true rfl, Nat.le_of_ble_eq_true rfl⟩ hl.1 rfl (Nat.le_of_ble_eq_true rfl) d_D_sound_43 ⟨Nat.zero_le _, Nat.zero_le _⟩ (fun v2 hv2 => ?_)
                subst hv2
                refine k_ige (tgt := 83) hx hb d_D_sound_46 (by decide) (by omega) (by omega) (fun c4 => ?_) (fun c4 => ?_)
                · refine lv_iload_n hx hb d_D_sound_83 rfl (lv_at hl 1 rfl) ?_
                  refine lv_aload_n hx hb d_D_sound_84 rfl (lv_at hl 4 rfl) ?_
                  refine lv_iload_n hx hb d_D_sound_85 rfl (lv_at hl 1 rfl) ?_
                  refine k_roV (np := 1) (As := [.int (nI t)]) (rest := [.int (nI t)]) S (c_D_length t hN.2 (by omega) h0) (gd_V tb_304 tb_306 tp_D_length tb_4 tb_307) hK hP rfl rfl (by decide +kernel) rfl ⟨rfl, rfl⟩ ⟨Nat.le_of_ble_eq_true rfl, Nat.le_of_ble_eq_true rfl⟩ hl.1 rfl (Nat.le_of_ble_eq_true rfl) d_D_sound_86 ⟨Nat.zero_le _, Nat.zero_le _⟩ (fun v3 hv3 => ?_)
                  subst hv3
                  refine k_add hx hb d_D_sound_89 ?_
                  refine lv_istore_n (lv' := [(3, .int (nI (t + (szN (w t))))), (4, .int (nI k)), (2, .int (nI (z + 1))), (1, .int (nI 1)), (0, .ref m0)]) hx hb d_D_sound_90 rfl hl (by decide) rfl (fun ls hl => ?_)
                  refine lv_goto (tgt := 6) hx hb d_D_sound_91 (by decide) ?_
                  exact ih ol2 (t + szN (w t)) (z + 1) (by omega) hC2 (by omega) (fun a ha => hO2 a (List.mem_cons_of_mem _ ha)) (by simp only [List.length_cons] at hz; omega) ls (lv_sub hl [0, 2, 3, 4] rfl)
                · refine lv_iload_n hx hb d_D_sound_49 rfl (lv_at hl 3 rfl) ?_
                  refine k_zeq (tgt := 75) hx hb d_D_sound_50 (by decide) (by omega) (fun c5 => ?_) (fun c5 => ?_)
                  · omega
                  · refine lv_aload_n hx hb d_D_sound_53 rfl (lv_at hl 4 rfl) ?_
                    refine lv_aload_n hx hb d_D_sound_54 rfl (lv_at hl 4 rfl) ?_
                    refine k_get S i_D hK hP 0 rfl rfl 7 (by decide) tb_223 rfl rfl d_D_sound_55 ?_
                    refine lv_iload_n hx hb d_D_sound_58 rfl (lv_at hl 1 rfl) ?_
                    refine lv_iconst (v := nI 1) hx hb d_D_sound_59 (by decide) ?_
                    refine k_add hx hb d_D_sound_60 ?_
                    refine lv_iload hx hb d_D_sound_61 (lv_at hl 0 rfl) ?_
                    refine k_add hx hb d_D_sound_63 ?_
                    refine k_ild hx hb hK hP 1 0 rfl rfl (by omega) (by omega) d_D_sound_64 ?_
                    refine k_roV (np := 1) (As := [.int (w ((t + 1) + k))]) (rest := []) S (c_D_isLead hH hG (w (t + 1 + k))) (gd_V tb_275 tb_277 tp_D_isLead tb_4 tb_278) hK hP rfl rfl (by decide +kernel) rfl ⟨rfl, rfl⟩ ⟨Nat.le_of_ble_eq_true rfl, Nat.le_of_ble_eq_true rfl⟩ hl.1 rfl (Nat.le_of_ble_eq_true rfl) d_D_sound_65 ⟨Nat.zero_le _, Nat.zero_le _⟩ (fun v4 hv4 => ?_)
                    subst hv4
                    refine k_beq (tgt := 75) hx hb d_D_sound_68 (by decide) (fun c6 => ?_) (fun c6 => ?_)
                    · rw [isLd_iff.mpr (hH.rf t htL k c4)] at c6
                      cases c6
                    · refine lv_iconst (v := nI 1) hx hb d_D_sound_71 (by decide) ?_
                      refine lv_goto (tgt := 76) hx hb d_D_sound_72 (by decide) ?_
                      refine lv_istore_n (lv' := [(1, .int (nI 1)), (4, .int (nI k)), (3, .int (nI t)), (2, .int (nI (z + 1))), (0, .ref m0)]) hx hb d_D_sound_76 rfl hl (by decide) rfl (fun ls hl => ?_)
                      refine k_iinc (k := 1) (a := k) (lv' := [(4, .int (nI (k + 1))), (1, .int (nI 1)), (3, .int (nI t)), (2, .int (nI (z + 1))), (0, .ref m0)]) hx hb d_D_sound_77 hl rfl (by decide) rfl (fun ls hl => ?_)
                      refine lv_goto (tgt := 39) hx hb d_D_sound_80 (by decide) ?_
                      exact ih2 (k + 1) (by omega) (by omega) ls (lv_sub hl [0, 2, 3, 1, 4] rfl)
            exact loopB (rfN (w t) + 1) 0 (by omega) (by omega) ls (lv_sub hl [0, 3, 1, 2, 4] rfl)
  refine lv_iconst (v := nI 1) hx hb d_D_sound_0 (by decide) ?_
  refine lv_istore_n (lv' := [(1, .int (nI 1)), (0, .ref m0)]) hx hb d_D_sound_1 rfl hl (by decide) rfl (fun ls hl => ?_)
  refine lv_iconst (v := nI 0) hx hb d_D_sound_2 (by decide) ?_
  refine lv_istore_n (lv' := [(2, .int (nI 0)), (1, .int (nI 1)), (0, .ref m0)]) hx hb d_D_sound_3 rfl hl (by decide) rfl (fun ls hl => ?_)
  refine lv_iconst (v := nI 1) hx hb d_D_sound_4 (by decide) ?_
  refine lv_istore_n (lv' := [(3, .int (nI 1)), (2, .int (nI 0)), (1, .int (nI 1)), (0, .ref m0)]) hx hb d_D_sound_5 rfl hl (by decide) rfl (fun ls hl => ?_)
  exact loopA (T + 1) L 1 0 (by omega) hH.ch (Nat.le_refl 1) (fun a ha => ha) (by omega) ls (lv_sub hl [0, 1, 2, 3] rfl)
end D2
end
section
/-! THE PLAIN LAW of 'collect': what lives, where it goes, what the words become -/
theorem arrV_eq {cA : ClassId} {n : Nat} {f g : Nat → Value} (h : ∀ j, j < n → f j = g j) : arrV cA n f = arrV cA n g := by
  unfold arrV
  congr 1
  congr 1
  funext j
  exact h j.val j.isLt
theorem va_P.eqI {D : va_G} {ws : va_W} {A : Nat → Prop} {H : Heap} (h : va_P D classes ws H) (hD : va_D A ws) {q a n : Nat} {cA : ClassId} {f g : Nat → Int32} (hq : ws[q]? = some (a, .inl (cA, n, .inl f))) (he : ∀ j, j < n → f j = g j) {ws' : va_W} (hws : ws.set q (a, .inl (cA, n, .inl g)) = ws') : va_P D classes ws' H ∧ va_D A ws' := by
  subst hws
  refine ⟨h.set hD hq ?_ (fun _ _ => rfl), hD.set hq⟩
  have h1 : H[a]? = some (vp_cell cA (n, .inl f)) := h q _ hq
  show H[a]? = some (vp_cell cA (n, .inl g))
  rw [h1, vp_cell_i, vp_cell_i, arrV_eq (fun j hj => by rw [he j hj])]
/-- the living words -/
noncomputable def lvB (w rt : Nat → Int32) (L : List Nat) (N i : Nat) : Bool := L.any (fun a => rchB w rt L N a && (decide (a ≤ i) && decide (i < a + szN (w a))))
theorem lvB_iff {w rt : Nat → Int32} {L : List Nat} {N i : Nat} : lvB w rt L N i = true ↔ ∃ a, a ∈ L ∧ Rch w rt L N a ∧ a ≤ i ∧ i < a + szN (w a) := by
  unfold lvB
  rw [List.any_eq_true]
  constructor
  · rintro ⟨a, ha, h⟩
    simp only [Bool.and_eq_true, decide_eq_true_eq] at h
    exact ⟨a, ha, rchB_iff.mp h.1, h.2.1, h.2.2⟩
  · rintro ⟨a, ha, h1, h2, h3⟩
    refine ⟨a, ha, ?_⟩
    simp only [Bool.and_eq_true, decide_eq_true_eq]
    exact ⟨rchB_iff.mpr h1, h2, h3⟩
theorem Hp.one {N T : Nat} {w rt : Nat → Int32} {L : List Nat} (hH : Hp N T w L rt) {a t i : Nat} (ha : a ∈ L) (ht : t ∈ L) (h1 : a ≤ i) (h2 : i < a + szN (w a)) (h3 : t ≤ i) (h4 : i < t + szN (w t)) : a = t := by
  rcases Nat.lt_trichotomy a t with q | q | q
  · have := hH.ch.apart ha ht q; omega
  · exact q
  · have := hH.ch.apart ht ha q; omega
theorem lvB_in {N T : Nat} {w rt : Nat → Int32} {L : List Nat} (hH : Hp N T w L rt) {t k : Nat} (ht : t ∈ L) (hk : k < szN (w t)) : lvB w rt L N (t + k) = rchB w rt L N t := by
  by_cases h : Rch w rt L N t
  · rw [rchB_iff.mpr h]
    exact lvB_iff.mpr ⟨t, ht, h, by omega, by omega⟩
  · rw [show rchB w rt L N t = false from Bool.eq_false_iff.mpr fun q => h (rchB_iff.mp q)]
    refine Bool.eq_false_iff.mpr fun q => ?_
    obtain ⟨a, ha, h1, h2, h3⟩ := lvB_iff.mp q
    have e := hH.one ha ht h2 h3 (by omega) (by omega)
    subst e
    exact h h1
theorem lvB_0 {N T : Nat} {w rt : Nat → Int32} {L : List Nat} (hH : Hp N T w L rt) : lvB w rt L N 0 = false := by
  refine Bool.eq_false_iff.mpr fun q => ?_
  obtain ⟨a, ha, h1, h2, h3⟩ := lvB_iff.mp q
  have := hH.obj ha
  omega
/-- is it a reference's place -/
def isR (w : Nat → Int32) (L : List Nat) (i : Nat) : Bool := L.any (fun a => decide (a < i) && decide (i ≤ a + rfN (w a)))
theorem isR_in {N T : Nat} {w rt : Nat → Int32} {L : List Nat} (hH : Hp N T w L rt) {t k : Nat} (ht : t ∈ L) (hk : k < szN (w t)) : isR w L (t + k) = (decide (0 < k) && decide (k ≤ rfN (w t))) := by
  have hs : ∀ a, szN (w a) = 1 + rfN (w a) + plN (w a) := fun _ => rfl
  have hi : isR w L (t + k) = true ↔ (0 < k ∧ k ≤ rfN (w t)) := by
    unfold isR
    rw [List.any_eq_true]
    constructor
    · rintro ⟨a, ha, h⟩
      simp only [Bool.and_eq_true, decide_eq_true_eq] at h
      have := hs a
      have e := hH.one ha ht (i := t + k) (by omega) (by omega) (by omega) (by omega)
      subst e
      omega
    · rintro ⟨h1, h2⟩
      exact ⟨t, ht, by simp only [Bool.and_eq_true, decide_eq_true_eq]; omega⟩
  cases h : isR w L (t + k)
  · symm
    refine Bool.eq_false_iff.mpr fun q => ?_
    simp only [Bool.and_eq_true, decide_eq_true_eq] at q
    rw [hi.mpr q] at h
    cases h
  · symm
    simp only [Bool.and_eq_true, decide_eq_true_eq]
    exact hi.mp h
/-- where a lead goes -/
def gOf (b : Nat → Bool) (v : Int32) : Int32 := if v = 0 then 0 else nI (1 + cnt b 0 (hdN v))
theorem gOf_nI (b : Nat → Bool) {t : Nat} (h : t < 2 ^ 31) : gOf b (nI t) = if t = 0 then nI 0 else nI (1 + cnt b 0 t) := by
  unfold gOf
  rw [hdN_nI h]
  by_cases q : t = 0
  · subst q; rfl
  · rw [if_neg q, if_neg (fun e => q ((nI_eq h (by decide)).mp (e.trans nI_0.symm)))]
def valOf (w : Nat → Int32) (L : List Nat) (b : Nat → Bool) (i : Nat) : Int32 := if isR w L i then gOf b (w i) else w i
/-- the new words, when those before n are copied -/
def frs (w : Nat → Int32) (L : List Nat) (b : Nat → Bool) : Nat → Nat → Int32
  | 0 => fun _ => 0
  | n + 1 => if b n then upd (frs w L b n) (1 + cnt b 0 n) (valOf w L b n) else frs w L b n
theorem frs_t {w : Nat → Int32} {L : List Nat} {b : Nat → Bool} {n : Nat} (h : b n = true) : frs w L b (n + 1) = upd (frs w L b n) (1 + cnt b 0 n) (valOf w L b n) := by
  show (if b n then _ else _) = _
  rw [h]; rfl
theorem frs_f {w : Nat → Int32} {L : List Nat} {b : Nat → Bool} {n : Nat} (h : b n = false) : frs w L b (n + 1) = frs w L b n := by
  show (if b n then _ else _) = _
  rw [h]; rfl
theorem frs_dead {w : Nat → Int32} {L : List Nat} {b : Nat → Bool} {t : Nat} : ∀ {k : Nat}, (∀ j, j < k → b (t + j) = false) → frs w L b (t + k) = frs w L b t
  | 0, _ => rfl
  | k + 1, h => by
    rw [show t + (k + 1) = (t + k) + 1 from rfl, frs_f (h k (by omega))]
    exact frs_dead (fun j hj => h j (by omega))
theorem frs_zero {w : Nat → Int32} {L : List Nat} {b : Nat → Bool} : ∀ {n m : Nat}, (m = 0 ∨ 1 + cnt b 0 n ≤ m) → frs w L b n m = 0
  | 0, _, _ => rfl
  | n + 1, m, h => by
    cases hb : b n
    · rw [frs_f hb]
      rw [cnt_f hb] at h
      exact frs_zero h
    · rw [frs_t hb, pk_un (by rw [cnt_t hb] at h; omega)]
      rw [cnt_t hb] at h
      exact frs_zero (by omega)
theorem frs_at {w : Nat → Int32} {L : List Nat} {b : Nat → Bool} {i : Nat} (hi : b i = true) : ∀ {n : Nat}, i < n → frs w L b n (1 + cnt b 0 i) = valOf w L b i
  | 0, h => by omega
  | n + 1, h => by
    by_cases e : i = n
    · subst e
      rw [frs_t hi, pk_us]
    · have hl : i < n := by omega
      cases hb : b n
      · rw [frs_f hb]; exact frs_at hi hl
      · have h1 := cnt_mono b 0 (show i + 1 ≤ n by omega)
        rw [cnt_t hi] at h1
        rw [frs_t hb, pk_un (by omega)]
        exact frs_at hi hl
theorem cnt_b0 {b : Nat → Bool} (h : b 0 = false) : ∀ {n : Nat}, 0 < n → 1 + cnt b 0 n ≤ n
  | 0, q => by omega
  | n + 1, _ => by
    have h1 := cnt_add b 0 1 n
    have h2 : cnt b 0 1 = 0 := by show 0 + (b (0 + 0)).toNat = 0; rw [h]; rfl
    have h3 := cnt_le b (0 + 1) n
    rw [show n + 1 = 1 + n by omega]
    omega
theorem cnt_live {N T : Nat} {w rt : Nat → Int32} {L : List Nat} (hH : Hp N T w L rt) {t k : Nat} (ht : t ∈ L) (hk : k ≤ szN (w t)) (hl : rchB w rt L N t = true) : cnt (lvB w rt L N) 0 (t + k) = cnt (lvB w rt L N) 0 t + k := by
  rw [cnt_add, cnt_all (n := k) (f := 0 + t) (fun j hj => by rw [show 0 + t + j = t + j by omega, lvB_in hH ht (by omega), hl])]
theorem cnt_dead {N T : Nat} {w rt : Nat → Int32} {L : List Nat} (hH : Hp N T w L rt) {t k : Nat} (ht : t ∈ L) (hk : k ≤ szN (w t)) (hl : rchB w rt L N t = false) : cnt (lvB w rt L N) 0 (t + k) = cnt (lvB w rt L N) 0 t := by
  rw [cnt_add, cnt_none (n := k) (f := 0 + t) (fun j hj => by rw [show 0 + t + j = t + j by omega, lvB_in hH ht (by omega), hl])]
  rfl
/-- the heap behind a collecting -/
noncomputable def cW (w rt : Nat → Int32) (L : List Nat) (N T : Nat) : Nat → Int32 := frs w L (lvB w rt L N) T
noncomputable def cAd (w rt : Nat → Int32) (L : List Nat) (N i : Nat) : Nat := 1 + cnt (lvB w rt L N) 0 i
noncomputable def cLs (w rt : Nat → Int32) (L : List Nat) (N : Nat) (ol : List Nat) : List Nat := (ol.filter (fun a => rchB w rt L N a)).map (cAd w rt L N)
noncomputable def cR (w rt : Nat → Int32) (L : List Nat) (N : Nat) : Nat → Int32 := fun k => if k < 8 then gOf (lvB w rt L N) (rt k) else rt k
theorem cW_at {N T : Nat} {w rt : Nat → Int32} {L : List Nat} (hH : Hp N T w L rt) {t k : Nat} (ht : t ∈ L) (hk : k < szN (w t)) (hl : rchB w rt L N t = true) : cW w rt L N T (cAd w rt L N t + k) = valOf w L (lvB w rt L N) (t + k) := by
  have h1 := cnt_live hH ht (Nat.le_of_lt hk) hl
  have h2 : cAd w rt L N t + k = 1 + cnt (lvB w rt L N) 0 (t + k) := by unfold cAd; omega
  have h3 := hH.obj ht
  unfold cW
  rw [h2, frs_at (by rw [lvB_in hH ht hk, hl]) (by omega)]
theorem cW_hd {N T : Nat} {w rt : Nat → Int32} {L : List Nat} (hH : Hp N T w L rt) {t : Nat} (ht : t ∈ L) (hl : rchB w rt L N t = true) : cW w rt L N T (cAd w rt L N t) = w t := by
  have h := cW_at hH ht (szN_pos (w t)) hl
  have h2 := isR_in hH ht (szN_pos (w t))
  simp only [Nat.add_zero] at h h2
  rw [h]
  unfold valOf
  rw [h2]
  rfl
theorem cW_ch {N T : Nat} {w rt : Nat → Int32} {L : List Nat} (hH : Hp N T w L rt) : ∀ {ol : List Nat} {t : Nat}, Chn w ol t T → (∀ a ∈ ol, a ∈ L) → Chn (cW w rt L N T) (cLs w rt L N ol) (cAd w rt L N t) (cAd w rt L N T)
  | [], t, h, _ => by
    have h : t = T := h
    subst h
    rfl
  | a :: ol, t, ⟨h1, h2, h3⟩, hO => by
    subst h1
    have ha := hO a List.mem_cons_self
    have ih := cW_ch hH h3 (fun x hx => hO x (List.mem_cons_of_mem _ hx))
    cases hl : rchB w rt L N a
    · have e : cAd w rt L N (a + szN (w a)) = cAd w rt L N a := by unfold cAd; rw [cnt_dead hH ha (Nat.le_refl _) hl]
      rw [e] at ih
      unfold cLs at ih ⊢
      rw [List.filter_cons, hl]
      exact ih
    · have e : cAd w rt L N (a + szN (w a)) = cAd w rt L N a + szN (w a) := by unfold cAd; rw [cnt_live hH ha (Nat.le_refl _) hl]; omega
      rw [e] at ih
      unfold cLs at ih ⊢
      rw [List.filter_cons, hl]
      have hw := cW_hd hH ha hl
      exact ⟨rfl, by rw [hw]; exact h2, by rw [hw]; exact ih⟩
theorem cLs_mem {N : Nat} {w rt : Nat → Int32} {L ol : List Nat} {x : Nat} : x ∈ cLs w rt L N ol ↔ ∃ a, a ∈ ol ∧ rchB w rt L N a = true ∧ x = cAd w rt L N a := by
  unfold cLs
  rw [List.mem_map]
  constructor
  · rintro ⟨a, h1, h2⟩
    exact ⟨a, (List.mem_filter.mp h1).1, (List.mem_filter.mp h1).2, h2.symm⟩
  · rintro ⟨a, h1, h2, h3⟩
    exact ⟨a, List.mem_filter.mpr ⟨h1, h2⟩, h3.symm⟩
theorem gOf_ld {N : Nat} {w rt : Nat → Int32} {L : List Nat} {v : Int32} {t : Nat} (ht : t < 2 ^ 31) (e : v = nI t) (h : t = 0 ∨ (t ∈ L ∧ rchB w rt L N t = true)) : Ld (cLs w rt L N L) (gOf (lvB w rt L N) v) := by
  rw [e, gOf_nI _ ht]
  by_cases q : t = 0
  · rw [if_pos q]; exact ⟨0, rfl, Or.inl rfl⟩
  · rw [if_neg q]
    rcases h with h | h
    · exact absurd h q
    · exact ⟨_, rfl, Or.inr (cLs_mem.mpr ⟨t, h.1, h.2, rfl⟩)⟩
/-- behind a collecting the heap is in shape -/
theorem Hp.collect {N T : Nat} {w rt : Nat → Int32} {L : List Nat} (hH : Hp N T w L rt) : Hp N (cAd w rt L N T) (cW w rt L N T) (cLs w rt L N L) (cR w rt L N) := by
  have hT := hH.T
  have hN := hH.N
  have h0 := lvB_0 hH
  refine ⟨hN, ?_, ?_, fun j hj => frs_zero (Or.inr hj), frs_zero (Or.inl rfl), fun a ha k hk => ?_, fun k hk => ?_⟩
  · have := cnt_b0 h0 (show 0 < T by omega)
    unfold cAd; omega
  · have h1 := cW_ch hH hH.ch (fun a ha => ha)
    have e : cAd w rt L N 1 = 1 := by
      unfold cAd
      show 1 + (0 + (lvB w rt L N (0 + 0)).toNat) = 1
      rw [h0]; rfl
    rw [e] at h1
    exact h1
  · obtain ⟨t, ht, hl, rfl⟩ := cLs_mem.mp ha
    rw [cW_hd hH ht hl] at hk
    have hs : szN (w t) = 1 + rfN (w t) + plN (w t) := rfl
    rw [show cAd w rt L N t + 1 + k = cAd w rt L N t + (1 + k) by omega, cW_at hH ht (by omega) hl]
    unfold valOf
    rw [isR_in hH ht (by omega), show decide (0 < 1 + k) = true by simp; omega, show decide (1 + k ≤ rfN (w t)) = true by simp; omega]
    rw [show t + (1 + k) = t + 1 + k by omega]
    obtain ⟨t2, e2, h2, h3⟩ := hH.ld (hH.rf t ht k hk)
    refine gOf_ld (by omega) e2 ?_
    rcases h3 with h3 | h3
    · exact Or.inl h3
    · refine Or.inr ⟨h3, rchB_iff.mpr (Rch.stab hH.ch.nodup hH.len (d := N + 1) (Or.inr ⟨h3, t, k, rchB_iff.mp hl, hk, e2⟩))⟩
  · unfold cR
    rw [if_pos hk]
    obtain ⟨t2, e2, h2, h3⟩ := hH.ld (hH.rt k hk)
    refine gOf_ld (by omega) e2 ?_
    rcases h3 with h3 | h3
    · exact Or.inl h3
    · exact Or.inr ⟨h3, rchB_iff.mpr (Rch.mono (d := 0) ⟨h3, k, hk, e2⟩ (Nat.zero_le _))⟩
theorem cLs_len {N : Nat} {w rt : Nat → Int32} {L : List Nat} : (cLs w rt L N L).length = rchN w rt L N := by
  unfold cLs rchN
  rw [List.length_map]
/-- the class's way over the words: where it stands in its object -/
def CS (w rt : Nat → Int32) (L : List Nat) (N T i lf z : Nat) : Prop := ∃ (ol : List Nat) (t k : Nat), Chn w ol t T ∧ (∀ a ∈ ol, a ∈ L) ∧ i = t + k ∧ ((k = 0 ∧ lf = 0) ∨ (t ∈ ol ∧ k < szN (w t) ∧ rchB w rt L N t = false ∧ lf = 0) ∨ (t ∈ ol ∧ 0 < k ∧ k < szN (w t) ∧ rchB w rt L N t = true ∧ lf + k = szN (w t) ∧ z = rfN (w t) + 1 - k))
theorem Chn.hd {w : Nat → Int32} {ol : List Nat} {t T : Nat} (h : Chn w ol t T) (ht : t ∈ ol) : ∃ l, ol = t :: l ∧ ¬ w t < 0 ∧ Chn w l (t + szN (w t)) T := h.step (by have := (h.mem ht).2.1; have := szN_pos (w t); omega)
/-- at a border of the objects, or in a dead object: one on -/
theorem CS_next {N T : Nat} {w rt : Nat → Int32} {L : List Nat} {ol : List Nat} {t k z : Nat} (hC : Chn w ol t T) (hO : ∀ a ∈ ol, a ∈ L) (ht : t ∈ ol) (hk : k < szN (w t)) (hd : rchB w rt L N t = false) : CS w rt L N T (t + k + 1) 0 z := by
  obtain ⟨l, rfl, h0, hC2⟩ := hC.hd ht
  by_cases q : k + 1 < szN (w t)
  · exact ⟨t :: l, t, k + 1, hC, hO, by omega, Or.inr (Or.inl ⟨ht, q, hd, rfl⟩)⟩
  · exact ⟨l, t + szN (w t), 0, hC2, fun a ha => hO a (List.mem_cons_of_mem _ ha), by omega, Or.inl ⟨rfl, rfl⟩⟩
theorem CS_live {N T : Nat} {w rt : Nat → Int32} {L : List Nat} {ol : List Nat} {t k z lf : Nat} (hC : Chn w ol t T) (hO : ∀ a ∈ ol, a ∈ L) (ht : t ∈ ol) (hk : k < szN (w t)) (hd : rchB w rt L N t = true) (hlf : lf + (k + 1) = szN (w t)) (hz : z = rfN (w t) + 1 - (k + 1)) : CS w rt L N T (t + k + 1) lf z := by
  obtain ⟨l, rfl, h0, hC2⟩ := hC.hd ht
  by_cases q : k + 1 < szN (w t)
  · exact ⟨t :: l, t, k + 1, hC, hO, by omega, Or.inr (Or.inr ⟨ht, by omega, q, hd, hlf, hz⟩)⟩
  · exact ⟨l, t + szN (w t), 0, hC2, fun a ha => hO a (List.mem_cons_of_mem _ ha), by omega, Or.inl ⟨rfl, by omega⟩⟩
theorem CS_dead {N T : Nat} {w rt : Nat → Int32} {L : List Nat} (hH : Hp N T w L rt) {i lf z : Nat} (hi : i < T) (h : CS w rt L N T i lf z) (hb : lvB w rt L N i = false) : CS w rt L N T (i + 1) lf z := by
  obtain ⟨ol, t, k, hC, hO, rfl, h⟩ := h
  rcases h with ⟨rfl, rfl⟩ | ⟨h1, h2, h3, rfl⟩ | ⟨h1, h2, h3, h4, h5, h6⟩
  · obtain ⟨l, rfl, h0, hC2⟩ := hC.step hi
    have htL := hO t List.mem_cons_self
    rw [lvB_in hH htL (szN_pos (w t))] at hb
    exact CS_next hC hO List.mem_cons_self (szN_pos (w t)) hb
  · exact CS_next hC hO h1 h2 h3
  · rw [lvB_in hH (hO t h1) h3, h4] at hb
    cases hb
theorem CS_head {N T : Nat} {w rt : Nat → Int32} {L : List Nat} (hH : Hp N T w L rt) {i z : Nat} (hi : i < T) (h : CS w rt L N T i 0 z) (hb : lvB w rt L N i = true) : ¬ w i < 0 ∧ isR w L i = false ∧ CS w rt L N T (i + 1) (rfN (w i) + plN (w i)) (rfN (w i)) := by
  obtain ⟨ol, t, k, hC, hO, rfl, h⟩ := h
  have hs : szN (w t) = 1 + rfN (w t) + plN (w t) := rfl
  rcases h with ⟨rfl, -⟩ | ⟨h1, h2, h3, -⟩ | ⟨h1, h2, h3, h4, h5, h6⟩
  · obtain ⟨l, rfl, h0, hC2⟩ := hC.step hi
    have htL := hO t List.mem_cons_self
    rw [lvB_in hH htL (szN_pos (w t))] at hb
    refine ⟨h0, ?_, CS_live (k := 0) (lf := rfN (w t) + plN (w t)) (z := rfN (w t)) hC hO List.mem_cons_self (szN_pos (w t)) hb (by omega) (by omega)⟩
    rw [isR_in hH htL (szN_pos (w t))]
    rfl
  · rw [lvB_in hH (hO t h1) h2, h3] at hb
    cases hb
  · omega
theorem CS_in {N T : Nat} {w rt : Nat → Int32} {L : List Nat} (hH : Hp N T w L rt) {i lf z : Nat} (hi : i < T) (hl : 0 < lf) (h : CS w rt L N T i lf z) (hb : lvB w rt L N i = true) : isR w L i = decide (0 < z) ∧ (0 < z → Ld L (w i)) ∧ CS w rt L N T (i + 1) (lf - 1) (z - 1) := by
  obtain ⟨ol, t, k, hC, hO, rfl, h⟩ := h
  rcases h with ⟨rfl, h2⟩ | ⟨h1, h2, h3, h4⟩ | ⟨h1, h2, h3, h4, h5, h6⟩
  · omega
  · omega
  · have htL := hO t h1
    refine ⟨?_, fun hz => ?_, CS_live hC hO h1 h3 h4 (by omega) (by omega)⟩
    · rw [isR_in hH htL h3, show decide (0 < k) = true by simp; omega, Bool.true_and]
      congr 1
      exact propext ⟨fun q => by omega, fun q => by omega⟩
    · have := hH.rf t htL (k - 1) (by omega)
      rw [show t + 1 + (k - 1) = t + k by omega] at this
      exact this
theorem CS_0 {N T : Nat} {w rt : Nat → Int32} {L : List Nat} (hH : Hp N T w L rt) {z : Nat} : CS w rt L N T 1 0 z := ⟨L, 1, 0, hH.ch, fun a ha => ha, rfl, Or.inl ⟨rfl, rfl⟩⟩
/-- marks of the first k of a row -/
def runB (w : Nat → Int32) (O : List Nat) : Nat → Nat → Bool
  | 0, _ => false
  | k + 1, j => runB w O k j || (decide (O.getD k 0 ≤ j) && decide (j < O.getD k 0 + szN (w (O.getD k 0))))
theorem runB_iff {w : Nat → Int32} {O : List Nat} {j : Nat} : ∀ {k : Nat}, runB w O k j = true ↔ ∃ i, i < k ∧ O.getD i 0 ≤ j ∧ j < O.getD i 0 + szN (w (O.getD i 0))
  | 0 => by
    constructor
    · intro h; cases h
    · rintro ⟨i, h, -⟩; omega
  | k + 1 => by
    show (runB w O k j || _) = true ↔ _
    rw [Bool.or_eq_true, runB_iff, Bool.and_eq_true, decide_eq_true_eq, decide_eq_true_eq]
    constructor
    · rintro (⟨i, h1, h2⟩ | h)
      · exact ⟨i, by omega, h2⟩
      · exact ⟨k, by omega, h⟩
    · rintro ⟨i, h1, h2⟩
      by_cases e : i = k
      · subst e; exact Or.inr h2
      · exact Or.inl ⟨i, by omega, h2⟩
theorem runB_all {w rt : Nat → Int32} {L O : List Nat} {N j : Nat} (h : ∀ a, a ∈ O ↔ Rch w rt L N a) : runB w O O.length j = lvB w rt L N j := by
  have hi : runB w O O.length j = true ↔ lvB w rt L N j = true := by
    rw [runB_iff, lvB_iff]
    constructor
    · rintro ⟨i, h1, h2, h3⟩
      have := (h _).mp (getD_mem h1)
      exact ⟨_, this.mem, this, h2, h3⟩
    · rintro ⟨a, ha, h1, h2, h3⟩
      obtain ⟨i, hi, e⟩ := mem_getD ((h a).mpr h1)
      exact ⟨i, hi, by rw [e]; exact ⟨h2, h3⟩⟩
  cases h1 : lvB w rt L N j
  · exact Bool.eq_false_iff.mpr fun q => by rw [hi.mp q] at h1; cases h1
  · exact hi.mpr h1
theorem max_dec {z : Nat} (h : z < 2 ^ 31) : (if nI 0 < nI z - nI 1 then nI z - nI 1 else nI 0) = nI (z - 1) := by
  rcases Nat.eq_zero_or_pos z with rfl | q
  · decide
  · rw [pk_sub q]
    by_cases e : z = 1
    · subst e; decide
    · rw [if_pos (nI_lt (by omega) (by omega))]
end
section
/-! THE CLASS: copying and collecting -/
theorem upd_ag {N : Nat} {f g : Nat → Int32} (h : ∀ j, j ≤ N → f j = g j) (k : Nat) (v : Int32) : ∀ j, j ≤ N → upd f k v j = upd g k v j := fun j hj => by
  by_cases e : j = k
  · rw [e, pk_us, pk_us]
  · rw [pk_un e, pk_un e]; exact h j hj
section H6
variable {l : Launch} {D : va_G} {x aw af am ab ao ar ap az : Nat} {cI cL cZ : ClassId} {N B T O C R : Nat} {rf : Int32} {w f : Nat → Int32} {bs : Nat → Int64} {os rt op sn : Nat → Int32}
variable {L : List Nat}
set_option maxHeartbeats 4000000 in
set_option maxRecDepth 100000 in
/-- all words whose bits are set go to their new addresses -/
theorem c_H_copy (hH : Hp N T w L rt) (hbit : ∀ j, j ≤ N → bitAt bs j = lvB w rt L N j) (hM : Mp N B bs os) (hB : Bk B) (hf : ∀ j, j ≤ N → f j = 0) {sz : Nat} : muC l y_H_copy b_H_copy 7 (some .int) { frames := 4, cells := 0, slots := 0, locals := 90 } D (tyS cI cL cZ) [.ref x] sz (xW x aw af am ab ao ar ap az cI cL cZ N B T O C R (nI 0) w f bs os rt op sn) (fun u : (Nat → Int32) × Int32 => (xW x aw af am ab ao ar ap az cI cL cZ N B T O C R u.2 w u.1 bs os rt op sn)) (fun v u => v = nI (cnt (lvB w rt L N) 0 T) ∧ ∀ j, j ≤ N → u.1 j = cW w rt L N T j) := by
  refine mu_of (by decide) (Nat.le_of_ble_eq_true rfl) ?_
  intro p e s m args below meth c A S hr hlocks hK hP hD hA hS ls hl
  have hx := S.1
  have hb := S.2.1
  have hl : lv_has ls 7 [(0, .ref x)] := hl
  have hN := hH.N
  have hT := hH.T
  have hb0 := lvB_0 hH
  have hcnt : ∀ i, i ≤ N + 1 → cnt (bitAt bs) 0 i = cnt (lvB w rt L N) 0 i := fun i hi => cnt_congr (fun j hj => by rw [Nat.zero_add]; exact hbit j (by omega))
  refine lv_iconst (v := nI 0) hx hb d_H_copy_0 (by decide) ?_
  refine lv_istore_n (lv' := [(1, .int (nI 0)), (0, .ref x)]) hx hb d_H_copy_1 rfl hl (by decide) rfl (fun ls hl => ?_)
  refine lv_iconst (v := nI 0) hx hb d_H_copy_2 (by decide) ?_
  refine lv_istore_n (lv' := [(2, .int (nI 0)), (1, .int (nI 0)), (0, .ref x)]) hx hb d_H_copy_3 rfl hl (by decide) rfl (fun ls hl => ?_)
  refine lv_iconst (v := nI 0) hx hb d_H_copy_4 (by decide) ?_
  refine lv_istore_n (lv' := [(3, .int (nI 0)), (2, .int (nI 0)), (1, .int (nI 0)), (0, .ref x)]) hx hb d_H_copy_5 rfl hl (by decide) rfl (fun ls hl => ?_)
  have loop : ∀ (n i lf z rd : Nat) (f1 : Nat → Int32), T < i + n → i ≤ T → ((i = 0 ∧ lf = 0) ∨ (1 ≤ i ∧ CS w rt L N T i lf z)) → lf < 2 ^ 24 → z ≤ 15 → rd = cnt (lvB w rt L N) 0 i → (∀ j, j ≤ N → f1 j = frs w L (lvB w rt L N) i j) → ∀ (H : Heap) (locs : List Loc), va_P D classes (xW x aw af am ab ao ar ap az cI cL cZ N B T O C R (nI z) w f1 bs os rt op sn) H → va_D A (xW x aw af am ab ao ar ap az cI cL cZ N B T O C R (nI z) w f1 bs os rt op sn) → va_S A s.heap H locs → ∀ ls : Array Slot, lv_has ls 7 [(3, .int (nI i)), (2, .int (nI lf)), (1, .int (nI rd)), (0, .ref x)] → W p l e ({ frames := 4, cells := 0, slots := 0, locals := 90 } : Room) s m args below meth c H locs 0 0 (MQ below (va_Qi (fun v u => v = nI (cnt (lvB w rt L N) 0 T) ∧ ∀ j, j ≤ N → u.1 j = cW w rt L N T j) (fun (u : (Nat → Int32) × Int32) t => va_P D classes ((xW x aw af am ab ao ar ap az cI cL cZ N B T O C R u.2 w u.1 bs os rt op sn)) t.heap ∧ va_D A ((xW x aw af am ab ao ar ap az cI cL cZ N B T O C R u.2 w u.1 bs os rt op sn))) A) args s 0 0 A) (F0 m 6 ls []) := by
    intro n
    induction n with
    | zero => intro i lf z rd f1 h1 h2; omega
    | succ n ih =>
      intro i lf z rd f1 hn hi hCS hlf hz hrd hfr H locs hP hD hS ls hl
      have hcl := cnt_le (lvB w rt L N) 0 i
      refine lv_iload_n hx hb d_H_copy_6 rfl (lv_at hl 0 rfl) ?_
      refine lv_aload_n hx hb d_H_copy_7 rfl (lv_at hl 3 rfl) ?_
      refine k_get S i_H hK hP 0 rfl rfl 8 (by decide) tb_48 rfl rfl d_H_copy_8 ?_
      refine k_ige (tgt := 155) hx hb d_H_copy_11 (by decide) (by omega) (by omega) (fun c1 => ?_) (fun c1 => ?_)
      · have hiT : i = T := by omega
        subst hiT
        refine lv_iload_n hx hb d_H_copy_155 rfl (lv_at hl 2 rfl) ?_
        exact k_mret S hr hlocks (f1, nI z) (⟨by rw [hrd], hfr⟩) hP hD hS d_H_copy_156
      · refine lv_aload_n hx hb d_H_copy_14 rfl (lv_at hl 3 rfl) ?_
        refine k_get S i_H hK hP 0 rfl rfl 4 (by decide) tb_44 rfl rfl d_H_copy_15 ?_
        refine lv_iload_n hx hb d_H_copy_18 rfl (lv_at hl 0 rfl) ?_
        refine k_roV (np := 1) (As := [.int (nI i)]) (rest := []) S (c_M_has i (by omega) hN.2) (gd_V tb_156 tb_157 tb_158 tb_3 tb_159) hK (hP.sub [3, 4, 5] rfl) rfl rfl (by decide +kernel) rfl ⟨rfl, rfl⟩ ⟨Nat.le_of_ble_eq_true rfl, Nat.le_of_ble_eq_true rfl⟩ hl.1 rfl (Nat.le_of_ble_eq_true rfl) d_H_copy_19 ⟨Nat.zero_le _, Nat.zero_le _⟩ (fun v1 hv1 => ?_)
        subst hv1
        refine k_top (y := b2i (lvB w rt L N i)) (by rw [hbit i (by omega)]) ?_
        refine k_beq (tgt := 149) hx hb d_H_copy_22 (by decide) (fun c2 => ?_) (fun c2 => ?_)
        · refine k_iinc (k := 0) (a := i) (lv' := [(3, .int (nI (i + 1))), (2, .int (nI lf)), (1, .int (nI rd)), (0, .ref x)]) hx hb d_H_copy_149 hl rfl (by decide) rfl (fun ls hl => ?_)
          refine lv_goto (tgt := 6) hx hb d_H_copy_152 (by decide) ?_
          exact ih (i + 1) lf z rd f1 (by omega) (by omega) (Or.inr ⟨by omega, by rcases hCS with ⟨q1, q2⟩ | ⟨q1, q2⟩; subst q1; subst q2; exact CS_0 hH; exact CS_dead hH c1 q2 c2⟩) hlf hz (by rw [hrd, cnt_f c2]) (by rw [frs_f c2]; exact hfr) H locs hP hD hS ls (lv_sub hl [0, 1, 2, 3] rfl)
        · have hi1 : 1 ≤ i := by rcases Nat.eq_zero_or_pos i with q | q; rw [q, hb0] at c2; cases c2; exact q
          have hC : CS w rt L N T i lf z := by rcases hCS with q | q; omega; exact q.2
          have had := cnt_b0 hb0 hi1
          have hfr2 : frs w L (lvB w rt L N) (i + 1) = _ := frs_t c2
          have hrd2 : rd + 1 = cnt (lvB w rt L N) 0 (i + 1) := by rw [hrd, cnt_t c2]
          refine lv_aload_n hx hb d_H_copy_25 rfl (lv_at hl 3 rfl) ?_
          refine k_get S i_H hK hP 0 rfl rfl 2 (by decide) tb_42 rfl rfl d_H_copy_26 ?_
          refine lv_iload_n hx hb d_H_copy_29 rfl (lv_at hl 0 rfl) ?_
          refine k_ild hx hb hK hP 1 0 rfl rfl (by omega) (by omega) d_H_copy_30 ?_
          refine lv_istore (lv' := [(4, .int (w i)), (3, .int (nI i)), (2, .int (nI lf)), (1, .int (nI rd)), (0, .ref x)]) hx hb d_H_copy_31 hl (by decide) rfl (fun ls hl => ?_)
          refine k_iinc (k := 3) (a := rd) (lv' := [(1, .int (nI (rd + 1))), (4, .int (w i)), (3, .int (nI i)), (2, .int (nI lf)), (0, .ref x)]) hx hb d_H_copy_33 hl rfl (by decide) rfl (fun ls hl => ?_)
          refine lv_iload_n hx hb d_H_copy_36 rfl (lv_at hl 3 rfl) ?_
          refine k_zne (tgt := 44) hx hb d_H_copy_37 (by decide) (by omega) (fun c3 => ?_) (fun c3 => ?_)
          · obtain ⟨k1, k2, k3⟩ := CS_in hH c1 c3 hC c2
            refine lv_iconst (v := nI 0) hx hb d_H_copy_44 (by decide) ?_
            refine lv_istore (lv' := [(5, .int (nI 0)), (1, .int (nI (rd + 1))), (4, .int (w i)), (3, .int (nI i)), (2, .int (nI lf)), (0, .ref x)]) hx hb d_H_copy_45 hl (by decide) rfl (fun ls hl => ?_)
            refine lv_iload hx hb d_H_copy_47 (lv_at hl 0 rfl) ?_
            refine k_zeq (tgt := 68) hx hb d_H_copy_49 (by decide) (by omega) (fun c4 => ?_) (fun c4 => ?_)
            · refine lv_iload_n hx hb d_H_copy_68 rfl (lv_at hl 4 rfl) ?_
              refine lv_iconst (v := nI 1) hx hb d_H_copy_69 (by decide) ?_
              refine k_sub hx hb d_H_copy_70 (by omega) ?_
              refine lv_istore_n (lv' := [(2, .int (nI (lf - 1))), (5, .int (nI 0)), (1, .int (nI (rd + 1))), (4, .int (w i)), (3, .int (nI i)), (0, .ref x)]) hx hb d_H_copy_71 rfl hl (by decide) rfl (fun ls hl => ?_)
              refine lv_iload hx hb d_H_copy_72 (lv_at hl 1 rfl) ?_
              refine k_zne (tgt := 88) hx hb d_H_copy_74 (by decide) (by omega) (fun c5 => ?_) (fun c5 => ?_)
              · omega
              · refine lv_aload_n hx hb d_H_copy_77 rfl (lv_at hl 5 rfl) ?_
                refine k_get S i_H hK hP 0 rfl rfl 12 (by decide) tb_52 rfl rfl d_H_copy_78 ?_
                refine k_top (y := nI z) (rfl) ?_
                refine k_zle (tgt := 88) hx hb d_H_copy_81 (by decide) (by omega) (fun c6 => ?_) (fun c6 => ?_)
                · refine lv_iconst (v := nI 0) hx hb d_H_copy_88 (by decide) ?_
                  refine lv_istore (lv' := [(6, .int (nI 0)), (2, .int (nI (lf - 1))), (5, .int (nI 0)), (1, .int (nI (rd + 1))), (4, .int (w i)), (3, .int (nI i)), (0, .ref x)]) hx hb d_H_copy_89 hl (by decide) rfl (fun ls hl => ?_)
                  refine lv_aload_n hx hb d_H_copy_91 rfl (lv_at hl 6 rfl) ?_
                  refine lv_iload hx hb d_H_copy_92 (lv_at hl 2 rfl) ?_
                  refine k_zeq (tgt := 107) hx hb d_H_copy_94 (by decide) (by omega) (fun c7 => ?_) (fun c7 => ?_)
                  · refine lv_iconst (v := nI 0) hx hb d_H_copy_107 (by decide) ?_
                    refine lv_aload_n hx hb d_H_copy_108 rfl (lv_at hl 6 rfl) ?_
                    refine k_get S i_H hK hP 0 rfl rfl 12 (by decide) tb_52 rfl rfl d_H_copy_109 ?_
                    refine k_top (y := nI z) (rfl) ?_
                    refine lv_iconst (v := nI 1) hx hb d_H_copy_112 (by decide) ?_
                    refine lv_isub hx hb d_H_copy_113 ?_
                    refine k_max (rest := [.ref x]) S tb_17 hl.1 ⟨Nat.le_of_ble_eq_true rfl, Nat.le_of_ble_eq_true rfl⟩ (Nat.le_of_ble_eq_true rfl) ⟨Nat.zero_le _, Nat.zero_le _⟩ d_H_copy_114 ?_
                    refine k_top (y := nI (z - 1)) (max_dec (by omega)) ?_
                    refine k_put (ws' := (xW x aw af am ab ao ar ap az cI cL cZ N B T O C R (nI (z - 1)) w f1 bs os rt op sn)) S i_H t_H_ok n_H hK hP hD hS 0 rfl rfl 12 (by decide) tb_52 rfl rfl rfl rfl (Nat.le_of_ble_eq_true rfl) rfl d_H_copy_117 (fun H locs hP hD hS => ?_)
                    refine lv_aload_n hx hb d_H_copy_120 rfl (lv_at hl 6 rfl) ?_
                    refine k_get S i_H hK hP 0 rfl rfl 3 (by decide) tb_43 rfl rfl d_H_copy_121 ?_
                    refine lv_aload_n hx hb d_H_copy_124 rfl (lv_at hl 6 rfl) ?_
                    refine k_get S i_H hK hP 0 rfl rfl 4 (by decide) tb_44 rfl rfl d_H_copy_125 ?_
                    refine lv_iload_n hx hb d_H_copy_128 rfl (lv_at hl 5 rfl) ?_
                    refine k_roV (np := 1) (As := [.int (nI i)]) (rest := [.ref af]) S (c_M_address i (by omega) hM hB hN.2) (gd_V tb_160 tb_161 tb_162 tb_3 tb_163) hK (hP.sub [3, 4, 5] rfl) rfl rfl (by decide +kernel) rfl ⟨rfl, rfl⟩ ⟨Nat.le_of_ble_eq_true rfl, Nat.le_of_ble_eq_true rfl⟩ hl.1 rfl (Nat.le_of_ble_eq_true rfl) d_H_copy_129 ⟨Nat.zero_le _, Nat.zero_le _⟩ (fun v2 hv2 => ?_)
                    subst hv2
                    refine k_top (y := nI (1 + cnt (lvB w rt L N) 0 i)) (by rw [hcnt i (by omega)]) ?_
                    refine lv_iload hx hb d_H_copy_132 (lv_at hl 0 rfl) ?_
                    refine k_zeq (tgt := 146) hx hb d_H_copy_134 (by decide) (by omega) (fun c8 => ?_) (fun c8 => ?_)
                    · refine lv_iload hx hb d_H_copy_146 (lv_at hl 4 rfl) ?_
                      refine k_ist (ws' := (xW x aw af am ab ao ar ap az cI cL cZ N B T O C R (nI (z - 1)) w (upd f1 (1 + cnt (lvB w rt L N) 0 i) (w i)) bs os rt op sn)) hx hb hK hP hD hS 2 0 rfl rfl (by omega) (by omega) rfl d_H_copy_148 (fun H locs hP hD hS => ?_)
                      refine k_iinc (k := 5) (a := i) (lv' := [(3, .int (nI (i + 1))), (6, .int (nI 0)), (2, .int (nI (lf - 1))), (5, .int (nI 0)), (1, .int (nI (rd + 1))), (4, .int (w i)), (0, .ref x)]) hx hb d_H_copy_149 hl rfl (by decide) rfl (fun ls hl => ?_)
                      refine lv_goto (tgt := 6) hx hb d_H_copy_152 (by decide) ?_
                      exact ih (i + 1) (lf - 1) (z - 1) (rd + 1) (upd f1 (1 + cnt (lvB w rt L N) 0 i) (w i)) (by omega) (by omega) (Or.inr ⟨by omega, k3⟩) (by omega) (by omega) hrd2 (by rw [hfr2]; unfold valOf; rw [k1, show decide (0 < z) = false by simp; omega]; exact upd_ag hfr _ _) H locs hP hD hS ls (lv_sub hl [0, 2, 4, 6] rfl)
                    · omega
                  · omega
                · refine lv_iconst (v := nI 1) hx hb d_H_copy_84 (by decide) ?_
                  refine lv_goto (tgt := 89) hx hb d_H_copy_85 (by decide) ?_
                  refine lv_istore (lv' := [(6, .int (nI 1)), (2, .int (nI (lf - 1))), (5, .int (nI 0)), (1, .int (nI (rd + 1))), (4, .int (w i)), (3, .int (nI i)), (0, .ref x)]) hx hb d_H_copy_89 hl (by decide) rfl (fun ls hl => ?_)
                  refine lv_aload_n hx hb d_H_copy_91 rfl (lv_at hl 6 rfl) ?_
                  refine lv_iload hx hb d_H_copy_92 (lv_at hl 2 rfl) ?_
                  refine k_zeq (tgt := 107) hx hb d_H_copy_94 (by decide) (by omega) (fun c7 => ?_) (fun c7 => ?_)
                  · refine lv_iconst (v := nI 0) hx hb d_H_copy_107 (by decide) ?_
                    refine lv_aload_n hx hb d_H_copy_108 rfl (lv_at hl 6 rfl) ?_
                    refine k_get S i_H hK hP 0 rfl rfl 12 (by decide) tb_52 rfl rfl d_H_copy_109 ?_
                    refine k_top (y := nI z) (rfl) ?_
                    refine lv_iconst (v := nI 1) hx hb d_H_copy_112 (by decide) ?_
                    refine lv_isub hx hb d_H_copy_113 ?_
                    refine k_max (rest := [.ref x]) S tb_17 hl.1 ⟨Nat.le_of_ble_eq_true rfl, Nat.le_of_ble_eq_true rfl⟩ (Nat.le_of_ble_eq_true rfl) ⟨Nat.zero_le _, Nat.zero_le _⟩ d_H_copy_114 ?_
                    refine k_top (y := nI (z - 1)) (max_dec (by omega)) ?_
                    refine k_put (ws' := (xW x aw af am ab ao ar ap az cI cL cZ N B T O C R (nI (z - 1)) w f1 bs os rt op sn)) S i_H t_H_ok n_H hK hP hD hS 0 rfl rfl 12 (by decide) tb_52 rfl rfl rfl rfl (Nat.le_of_ble_eq_true rfl) rfl d_H_copy_117 (fun H locs hP hD hS => ?_)
                    refine lv_aload_n hx hb d_H_copy_120 rfl (lv_at hl 6 rfl) ?_
                    refine k_get S i_H hK hP 0 rfl rfl 3 (by decide) tb_43 rfl rfl d_H_copy_121 ?_
                    refine lv_aload_n hx hb d_H_copy_124 rfl (lv_at hl 6 rfl) ?_
                    refine k_get S i_H hK hP 0 rfl rfl 4 (by decide) tb_44 rfl rfl d_H_copy_125 ?_
                    refine lv_iload_n hx hb d_H_copy_128 rfl (lv_at hl 5 rfl) ?_
                    refine k_roV (np := 1) (As := [.int (nI i)]) (rest := [.ref af]) S (c_M_address i (by omega) hM hB hN.2) (gd_V tb_160 tb_161 tb_162 tb_3 tb_163) hK (hP.sub [3, 4, 5] rfl) rfl rfl (by decide +kernel) rfl ⟨rfl, rfl⟩ ⟨Nat.le_of_ble_eq_true rfl, Nat.le_of_ble_eq_true rfl⟩ hl.1 rfl (Nat.le_of_ble_eq_true rfl) d_H_copy_129 ⟨Nat.zero_le _, Nat.zero_le _⟩ (fun v3 hv3 => ?_)
                    subst hv3
                    refine k_top (y := nI (1 + cnt (lvB w rt L N) 0 i)) (by rw [hcnt i (by omega)]) ?_
                    refine lv_iload hx hb d_H_copy_132 (lv_at hl 0 rfl) ?_
                    refine k_zeq (tgt := 146) hx hb d_H_copy_134 (by decide) (by omega) (fun c8 => ?_) (fun c8 => ?_)
                    · omega
                    · obtain ⟨tt, ett, htt, htL⟩ := hH.ld (k2 c6)
                      refine lv_aload_n hx hb d_H_copy_137 rfl (lv_at hl 6 rfl) ?_
                      refine lv_iload hx hb d_H_copy_138 (lv_at hl 4 rfl) ?_
                      refine k_top (y := nI tt) (ett) ?_
                      refine k_roV (np := 1) (As := [.int (nI tt)]) (rest := [.int (nI (1 + cnt (lvB w rt L N) 0 i)), .ref af]) S (c_H_goes tt htt hM hB hN.2) (gd_V tb_164 tb_166 tp_H_goes tb_1 tb_167) hK hP rfl rfl (by decide +kernel) rfl ⟨rfl, rfl⟩ ⟨Nat.le_of_ble_eq_true rfl, Nat.le_of_ble_eq_true rfl⟩ hl.1 rfl (Nat.le_of_ble_eq_true rfl) d_H_copy_140 ⟨Nat.zero_le _, Nat.zero_le _⟩ (fun v4 hv4 => ?_)
                      subst hv4
                      refine k_top (y := gOf (lvB w rt L N) (w i)) (by rw [hcnt tt (by omega), ett, gOf_nI _ (by omega)]) ?_
                      refine lv_goto (tgt := 148) hx hb d_H_copy_143 (by decide) ?_
                      refine k_ist (ws' := (xW x aw af am ab ao ar ap az cI cL cZ N B T O C R (nI (z - 1)) w (upd f1 (1 + cnt (lvB w rt L N) 0 i) (gOf (lvB w rt L N) (w i))) bs os rt op sn)) hx hb hK hP hD hS 2 0 rfl rfl (by omega) (by omega) rfl d_H_copy_148 (fun H locs hP hD hS => ?_)
                      refine k_iinc (k := 5) (a := i) (lv' := [(3, .int (nI (i + 1))), (6, .int (nI 1)), (2, .int (nI (lf - 1))), (5, .int (nI 0)), (1, .int (nI (rd + 1))), (4, .int (w i)), (0, .ref x)]) hx hb d_H_copy_149 hl rfl (by decide) rfl (fun ls hl => ?_)
                      refine lv_goto (tgt := 6) hx hb d_H_copy_152 (by decide) ?_
                      exact ih (i + 1) (lf - 1) (z - 1) (rd + 1) (upd f1 (1 + cnt (lvB w rt L N) 0 i) (gOf (lvB w rt L N) (w i))) (by omega) (by omega) (Or.inr ⟨by omega, k3⟩) (by omega) (by omega) hrd2 (by rw [hfr2]; unfold valOf; rw [k1, show decide (0 < z) = true by simp; omega]; exact upd_ag hfr _ _) H locs hP hD hS ls (lv_sub hl [0, 2, 4, 6] rfl)
                  · omega
            · omega
          · subst c3
            obtain ⟨k1, k2, k3⟩ := CS_head hH c1 hC c2
            have hr16 := rfN_lt (w i)
            have hpl := plN_lt (w i)
            refine lv_iconst (v := nI 1) hx hb d_H_copy_40 (by decide) ?_
            refine lv_goto (tgt := 45) hx hb d_H_copy_41 (by decide) ?_
            refine lv_istore (lv' := [(5, .int (nI 1)), (1, .int (nI (rd + 1))), (4, .int (w i)), (3, .int (nI i)), (2, .int (nI 0)), (0, .ref x)]) hx hb d_H_copy_45 hl (by decide) rfl (fun ls hl => ?_)
            refine lv_iload hx hb d_H_copy_47 (lv_at hl 0 rfl) ?_
            refine k_zeq (tgt := 68) hx hb d_H_copy_49 (by decide) (by omega) (fun c4 => ?_) (fun c4 => ?_)
            · omega
            · refine lv_iload hx hb d_H_copy_52 (lv_at hl 2 rfl) ?_
              refine lv_iconst (v := nI 4) hx hb d_H_copy_54 (by decide) ?_
              refine lv_ishr hx hb d_H_copy_55 ?_
              refine lv_bipush (v := nI 15) hx hb d_H_copy_56 (by decide) ?_
              refine lv_iand hx hb d_H_copy_58 ?_
              refine k_top (y := nI (rfN (w i))) (rf_sh k1) ?_
              refine lv_iload hx hb d_H_copy_59 (lv_at hl 2 rfl) ?_
              refine lv_bipush (v := nI 8) hx hb d_H_copy_61 (by decide) ?_
              refine lv_ishr hx hb d_H_copy_63 ?_
              refine k_top (y := nI (plN (w i))) (pl_sh k1) ?_
              refine k_add hx hb d_H_copy_64 ?_
              refine lv_goto (tgt := 71) hx hb d_H_copy_65 (by decide) ?_
              refine lv_istore_n (lv' := [(2, .int (nI ((rfN (w i)) + (plN (w i))))), (5, .int (nI 1)), (1, .int (nI (rd + 1))), (4, .int (w i)), (3, .int (nI i)), (0, .ref x)]) hx hb d_H_copy_71 rfl hl (by decide) rfl (fun ls hl => ?_)
              refine lv_iload hx hb d_H_copy_72 (lv_at hl 1 rfl) ?_
              refine k_zne (tgt := 88) hx hb d_H_copy_74 (by decide) (by omega) (fun c5 => ?_) (fun c5 => ?_)
              · refine lv_iconst (v := nI 0) hx hb d_H_copy_88 (by decide) ?_
                refine lv_istore (lv' := [(6, .int (nI 0)), (2, .int (nI ((rfN (w i)) + (plN (w i))))), (5, .int (nI 1)), (1, .int (nI (rd + 1))), (4, .int (w i)), (3, .int (nI i)), (0, .ref x)]) hx hb d_H_copy_89 hl (by decide) rfl (fun ls hl => ?_)
                refine lv_aload_n hx hb d_H_copy_91 rfl (lv_at hl 6 rfl) ?_
                refine lv_iload hx hb d_H_copy_92 (lv_at hl 2 rfl) ?_
                refine k_zeq (tgt := 107) hx hb d_H_copy_94 (by decide) (by omega) (fun c7 => ?_) (fun c7 => ?_)
                · omega
                · refine lv_iload hx hb d_H_copy_97 (lv_at hl 4 rfl) ?_
                  refine lv_iconst (v := nI 4) hx hb d_H_copy_99 (by decide) ?_
                  refine lv_ishr hx hb d_H_copy_100 ?_
                  refine lv_bipush (v := nI 15) hx hb d_H_copy_101 (by decide) ?_
                  refine lv_iand hx hb d_H_copy_103 ?_
                  refine k_top (y := nI (rfN (w i))) (rf_sh k1) ?_
                  refine lv_goto (tgt := 117) hx hb d_H_copy_104 (by decide) ?_
                  refine k_put (ws' := (xW x aw af am ab ao ar ap az cI cL cZ N B T O C R (nI (rfN (w i))) w f1 bs os rt op sn)) S i_H t_H_ok n_H hK hP hD hS 0 rfl rfl 12 (by decide) tb_52 rfl rfl rfl rfl (Nat.le_of_ble_eq_true rfl) rfl d_H_copy_117 (fun H locs hP hD hS => ?_)
                  refine lv_aload_n hx hb d_H_copy_120 rfl (lv_at hl 6 rfl) ?_
                  refine k_get S i_H hK hP 0 rfl rfl 3 (by decide) tb_43 rfl rfl d_H_copy_121 ?_
                  refine lv_aload_n hx hb d_H_copy_124 rfl (lv_at hl 6 rfl) ?_
                  refine k_get S i_H hK hP 0 rfl rfl 4 (by decide) tb_44 rfl rfl d_H_copy_125 ?_
                  refine lv_iload_n hx hb d_H_copy_128 rfl (lv_at hl 5 rfl) ?_
                  refine k_roV (np := 1) (As := [.int (nI i)]) (rest := [.ref af]) S (c_M_address i (by omega) hM hB hN.2) (gd_V tb_160 tb_161 tb_162 tb_3 tb_163) hK (hP.sub [3, 4, 5] rfl) rfl rfl (by decide +kernel) rfl ⟨rfl, rfl⟩ ⟨Nat.le_of_ble_eq_true rfl, Nat.le_of_ble_eq_true rfl⟩ hl.1 rfl (Nat.le_of_ble_eq_true rfl) d_H_copy_129 ⟨Nat.zero_le _, Nat.zero_le _⟩ (fun v5 hv5 => ?_)
                  subst hv5
                  refine k_top (y := nI (1 + cnt (lvB w rt L N) 0 i)) (by rw [hcnt i (by omega)]) ?_
                  refine lv_iload hx hb d_H_copy_132 (lv_at hl 0 rfl) ?_
                  refine k_zeq (tgt := 146) hx hb d_H_copy_134 (by decide) (by omega) (fun c8 => ?_) (fun c8 => ?_)
                  · refine lv_iload hx hb d_H_copy_146 (lv_at hl 4 rfl) ?_
                    refine k_ist (ws' := (xW x aw af am ab ao ar ap az cI cL cZ N B T O C R (nI (rfN (w i))) w (upd f1 (1 + cnt (lvB w rt L N) 0 i) (w i)) bs os rt op sn)) hx hb hK hP hD hS 2 0 rfl rfl (by omega) (by omega) rfl d_H_copy_148 (fun H locs hP hD hS => ?_)
                    refine k_iinc (k := 5) (a := i) (lv' := [(3, .int (nI (i + 1))), (6, .int (nI 0)), (2, .int (nI ((rfN (w i)) + (plN (w i))))), (5, .int (nI 1)), (1, .int (nI (rd + 1))), (4, .int (w i)), (0, .ref x)]) hx hb d_H_copy_149 hl rfl (by decide) rfl (fun ls hl => ?_)
                    refine lv_goto (tgt := 6) hx hb d_H_copy_152 (by decide) ?_
                    exact ih (i + 1) (rfN (w i) + plN (w i)) (rfN (w i)) (rd + 1) (upd f1 (1 + cnt (lvB w rt L N) 0 i) (w i)) (by omega) (by omega) (Or.inr ⟨by omega, k3⟩) (by omega) (by omega) hrd2 (by rw [hfr2]; unfold valOf; rw [k2]; exact upd_ag hfr _ _) H locs hP hD hS ls (lv_sub hl [0, 2, 4, 6] rfl)
                  · omega
              · omega
  exact loop (T + 1) 0 0 0 0 f (by omega) (by omega) (Or.inl ⟨rfl, rfl⟩) (by decide) (by omega) rfl hf _ _ hP hD hS ls (lv_sub hl [0, 1, 2, 3] rfl)
end H6
end
section
/-! THE CLASS: collect -/
theorem bit_0 {bs : Nat → Int64} {j : Nat} (h : bs (j / 64) = 0) : bitAt bs j = false := by
  unfold bitAt
  rw [h, u64_0]
  exact Nat.zero_testBit _
theorem step_if {f g rt : Nat → Int32} {k : Nat} (h : ∀ j, f j = if j < k then g j else rt j) : ∀ j, upd f k (g k) j = if j < k + 1 then g j else rt j := fun j => by
  by_cases e : j = k
  · rw [e, pk_us, if_pos (by omega)]
  · rw [pk_un e, h j]
    by_cases q : j < k
    · rw [if_pos q, if_pos (by omega)]
    · rw [if_neg q, if_neg (by omega)]
section H7
variable {l : Launch} {D : va_G} {x aw af am ab ao ar ap az : Nat} {cI cL cZ : ClassId} {N B T O C R : Nat} {rf : Int32} {w f : Nat → Int32} {bs : Nat → Int64} {os rt op sn : Nat → Int32}
variable {L : List Nat}
set_option maxHeartbeats 4000000 in
set_option maxRecDepth 100000 in
/-- a collecting -/
theorem c_H_collect (hH : Hp N T w L rt) (hB : Bk B) {sz : Nat} : muC l y_H_collect b_H_collect 2 (some .int) { frames := 5, cells := 0, slots := 0, locals := 116 } D (tyS cI cL cZ) [.ref x] sz (xW x aw af am ab ao ar ap az cI cL cZ N B T O C R rf w f bs os rt op sn) (fun u : (Nat → Int64) × (Nat → Int32) × (Nat → Int32) × (Nat → Int32) × Int32 => (xW x af aw am ab ao ar ap az cI cL cZ N B (cAd w rt L N T) (rchN w rt L N) (C + 1) (cnt (lvB w rt L N) 0 T) u.2.2.2.2 (cW w rt L N T) w u.1 u.2.1 (cR w rt L N) u.2.2.1 u.2.2.2.1)) (fun v u => v = nI (cnt (lvB w rt L N) 0 T) ∧ (∀ j, j ≤ N → bitAt u.1 j = lvB w rt L N j) ∧ Mp N B u.1 u.2.1) := by
  refine mu_of (by decide) (Nat.le_of_ble_eq_true rfl) ?_
  intro p e s m args below meth c A S hr hlocks hK hP hD hA hS ls hl
  have hx := S.1
  have hb := S.2.1
  have hl : lv_has ls 2 [(0, .ref x)] := hl
  have hN := hH.N
  have hT := hH.T
  have hBp := hB.pos
  refine lv_aload_n hx hb d_H_collect_0 rfl (lv_at hl 0 rfl) ?_
  refine lv_aload_n hx hb d_H_collect_1 rfl (lv_at hl 0 rfl) ?_
  refine lv_aload_n hx hb d_H_collect_2 rfl (lv_at hl 0 rfl) ?_
  refine k_get S i_H hK hP 0 rfl rfl 0 (by decide) tb_40 rfl rfl d_H_collect_3 ?_
  refine k_muV (np := 1) (wr := []) (As := [.int (nI N)]) (rest := [.ref x]) S (c_H_reach N hN.2 hH) (gd_V tb_120 tb_122 tp_H_reach tb_1 tb_123) hK hP hD hS hA [0, 1, 2, 3, 4, 5, 6, 7, 8] [] rfl rfl rfl (by decide) (by decide) (by decide) rfl rfl (by decide +kernel) rfl ⟨rfl, rfl⟩ ⟨Nat.le_of_ble_eq_true rfl, Nat.le_of_ble_eq_true rfl⟩ hl.1 rfl (Nat.le_of_ble_eq_true rfl) d_H_collect_6 ⟨Nat.zero_le _, Nat.zero_le _⟩ (fun vv u H locs hw hP hD hS => ?_)
  obtain ⟨O1, op1, sn1⟩ := u
  obtain ⟨hv, hSO, hR⟩ := hw
  dsimp only at hv hSO hR
  subst hv
  have hP : va_P D classes (xW x aw af am ab ao ar ap az cI cL cZ N B T O C R rf w f bs os rt op1 sn1) H := hP
  have hD : va_D A (xW x aw af am ab ao ar ap az cI cL cZ N B T O C R rf w f bs os rt op1 sn1) := hD
  have hlen : O1.length ≤ N := SO_len hSO (fun a ha => ((hR a).mp ha).mem) hH.len
  have hO1 : O1.length = rchN w rt L N := rch_count hH.ch.nodup hSO.1 hR
  refine k_put (ws' := (xW x aw af am ab ao ar ap az cI cL cZ N B T O1.length C R rf w f bs os rt op1 sn1)) S i_H t_H_ok n_H hK hP hD hS 0 rfl rfl 9 (by decide) tb_49 rfl rfl rfl rfl (Nat.le_of_ble_eq_true rfl) rfl d_H_collect_9 (fun H locs hP hD hS => ?_)
  refine lv_aload_n hx hb d_H_collect_12 rfl (lv_at hl 0 rfl) ?_
  refine k_get S i_H hK hP 0 rfl rfl 4 (by decide) tb_44 rfl rfl d_H_collect_13 ?_
  refine k_mvV (np := 0) (wr := [(x, .inr (0, [.int (nI N), .int (nI B), .ref aw, .ref af, .ref am, .ref ar, .ref ap, .ref az, .int (nI T), .int (nI O1.length), .int (nI C), .int (nI R), .int rf])), (aw, .inl (cI, N + 1, .inl w)), (af, .inl (cI, N + 1, .inl f)), (ar, .inl (cI, 8, .inl rt)), (ap, .inl (cI, N + 1, .inl op1)), (az, .inl (cZ, N + 1, .inl sn1))]) (As := []) (rest := []) S (c_M_clear hN.2) (gd_V tb_128 tb_129 tb_130 tb_3 tb_131) hK hP hD hS hA [3, 4, 5] [0, 1, 2, 6, 7, 8] rfl rfl rfl (by decide) (by decide) (by decide) rfl rfl (by decide +kernel) rfl ⟨rfl, rfl⟩ ⟨Nat.le_of_ble_eq_true rfl, Nat.le_of_ble_eq_true rfl⟩ hl.1 rfl (Nat.le_of_ble_eq_true rfl) d_H_collect_16 ⟨Nat.zero_le _, Nat.zero_le _⟩ (fun u H locs hw hP hD hS => ?_)
  obtain ⟨bs1, rfl⟩ : ∃ z, z = u := ⟨_, rfl⟩
  have hP : va_P D classes (xW x aw af am ab ao ar ap az cI cL cZ N B T O1.length C R rf w f bs1 os rt op1 sn1) H := hP.sub [0, 1, 2, 6, 7, 8, 3, 4, 5] rfl
  have hD : va_D A (xW x aw af am ab ao ar ap az cI cL cZ N B T O1.length C R rf w f bs1 os rt op1 sn1) := hD.sub [0, 1, 2, 6, 7, 8, 3, 4, 5] (by decide) rfl
  have loopR : ∀ (n k : Nat) (f2 : Nat → Int32) (rf2 : Int32) (bs2 : Nat → Int64) (os2 rt2 : Nat → Int32), 8 < k + n → k ≤ 8 → (∀ j, j ≤ N → f2 j = cW w rt L N T j) → (∀ j, j ≤ N → bitAt bs2 j = lvB w rt L N j) → Mp N B bs2 os2 → (∀ j, rt2 j = if j < k then gOf (lvB w rt L N) (rt j) else rt j) → ∀ (H : Heap) (locs : List Loc), va_P D classes (xW x aw af am ab ao ar ap az cI cL cZ N B T O1.length C (cnt (lvB w rt L N) 0 T) rf2 w f2 bs2 os2 rt2 op1 sn1) H → va_D A (xW x aw af am ab ao ar ap az cI cL cZ N B T O1.length C (cnt (lvB w rt L N) 0 T) rf2 w f2 bs2 os2 rt2 op1 sn1) → va_S A s.heap H locs → ∀ ls : Array Slot, lv_has ls 2 [(1, .int (nI k)), (0, .ref x)] → W p l e ({ frames := 5, cells := 0, slots := 0, locals := 116 } : Room) s m args below meth c H locs 0 0 (MQ below (va_Qi (fun v u => v = nI (cnt (lvB w rt L N) 0 T) ∧ (∀ j, j ≤ N → bitAt u.1 j = lvB w rt L N j) ∧ Mp N B u.1 u.2.1) (fun (u : (Nat → Int64) × (Nat → Int32) × (Nat → Int32) × (Nat → Int32) × Int32) t => va_P D classes ((xW x af aw am ab ao ar ap az cI cL cZ N B (cAd w rt L N T) (rchN w rt L N) (C + 1) (cnt (lvB w rt L N) 0 T) u.2.2.2.2 (cW w rt L N T) w u.1 u.2.1 (cR w rt L N) u.2.2.1 u.2.2.2.1)) t.heap ∧ va_D A ((xW x af aw am ab ao ar ap az cI cL cZ N B (cAd w rt L N T) (rchN w rt L N) (C + 1) (cnt (lvB w rt L N) 0 T) u.2.2.2.2 (cW w rt L N T) w u.1 u.2.1 (cR w rt L N) u.2.2.1 u.2.2.2.1))) A) args s 0 0 A) (F0 m 103 ls []) := by
    intro n
    induction n with
    | zero => intro k f2 rf2 bs2 os2 rt2 h1 h2; omega
    | succ n ih =>
      intro k f2 rf2 bs2 os2 rt2 hn hk hf2 hbit hM hrt H locs hP hD hS ls hl
      refine lv_iload_n hx hb d_H_collect_103 rfl (lv_at hl 0 rfl) ?_
      refine lv_bipush (v := nI 8) hx hb d_H_collect_104 (by decide) ?_
      refine k_ige (tgt := 131) hx hb d_H_collect_106 (by decide) (by omega) (by omega) (fun c1 => ?_) (fun c1 => ?_)
      · have hk8 : k = 8 := by omega
        subst hk8
        have hrt8 : rt2 = cR w rt L N := funext fun j => hrt j
        subst hrt8
        refine lv_aload_n hx hb d_H_collect_131 rfl (lv_at hl 1 rfl) ?_
        refine k_get S i_H hK hP 0 rfl rfl 2 (by decide) tb_42 rfl rfl d_H_collect_132 ?_
        refine lv_astore_n (lv' := [(1, .ref aw), (0, .ref x)]) hx hb d_H_collect_135 rfl hl (by decide) rfl (fun ls hl => ?_)
        refine lv_aload_n hx hb d_H_collect_136 rfl (lv_at hl 1 rfl) ?_
        refine lv_aload_n hx hb d_H_collect_137 rfl (lv_at hl 1 rfl) ?_
        refine k_get S i_H hK hP 0 rfl rfl 3 (by decide) tb_43 rfl rfl d_H_collect_138 ?_
        refine k_put (ws' := [(x, .inr (0, [.int (nI N), .int (nI B), .ref af, .ref af, .ref am, .ref ar, .ref ap, .ref az, .int (nI T), .int (nI O1.length), .int (nI C), .int (nI (cnt (lvB w rt L N) 0 T)), .int rf2])), (aw, .inl (cI, N + 1, .inl w)), (af, .inl (cI, N + 1, .inl f2)), (am, .inr (1, [.ref ab, .ref ao, .int (nI B)])), (ab, .inl (cL, N / 64 + 1, .inr (.inl bs2))), (ao, .inl (cI, N / B + 1, .inl os2)), (ar, .inl (cI, 8, .inl (cR w rt L N))), (ap, .inl (cI, N + 1, .inl op1)), (az, .inl (cZ, N + 1, .inl sn1))]) S i_H t_H_ok n_H hK hP hD hS 0 rfl rfl 2 (by decide) tb_42 rfl rfl rfl rfl (Nat.le_of_ble_eq_true rfl) rfl d_H_collect_141 (fun H locs hP hD hS => ?_)
        refine lv_aload_n hx hb d_H_collect_144 rfl (lv_at hl 1 rfl) ?_
        refine lv_aload_n hx hb d_H_collect_145 rfl (lv_at hl 0 rfl) ?_
        refine k_put (ws' := [(x, .inr (0, [.int (nI N), .int (nI B), .ref af, .ref aw, .ref am, .ref ar, .ref ap, .ref az, .int (nI T), .int (nI O1.length), .int (nI C), .int (nI (cnt (lvB w rt L N) 0 T)), .int rf2])), (aw, .inl (cI, N + 1, .inl w)), (af, .inl (cI, N + 1, .inl f2)), (am, .inr (1, [.ref ab, .ref ao, .int (nI B)])), (ab, .inl (cL, N / 64 + 1, .inr (.inl bs2))), (ao, .inl (cI, N / B + 1, .inl os2)), (ar, .inl (cI, 8, .inl (cR w rt L N))), (ap, .inl (cI, N + 1, .inl op1)), (az, .inl (cZ, N + 1, .inl sn1))]) S i_H t_H_ok n_H hK hP hD hS 0 rfl rfl 3 (by decide) tb_43 rfl rfl rfl rfl (Nat.le_of_ble_eq_true rfl) rfl d_H_collect_146 (fun H locs hP hD hS => ?_)
        have hP : va_P D classes (xW x af aw am ab ao ar ap az cI cL cZ N B T O1.length C (cnt (lvB w rt L N) 0 T) rf2 f2 w bs2 os2 (cR w rt L N) op1 sn1) H := hP.sub [0, 2, 1, 3, 4, 5, 6, 7, 8] rfl
        have hD : va_D A (xW x af aw am ab ao ar ap az cI cL cZ N B T O1.length C (cnt (lvB w rt L N) 0 T) rf2 f2 w bs2 os2 (cR w rt L N) op1 sn1) := hD.sub [0, 2, 1, 3, 4, 5, 6, 7, 8] (by decide) rfl
        refine lv_aload_n hx hb d_H_collect_149 rfl (lv_at hl 1 rfl) ?_
        refine lv_iconst (v := nI 1) hx hb d_H_collect_150 (by decide) ?_
        refine lv_aload_n hx hb d_H_collect_151 rfl (lv_at hl 1 rfl) ?_
        refine k_get S i_H hK hP 0 rfl rfl 11 (by decide) tb_51 rfl rfl d_H_collect_152 ?_
        refine k_add hx hb d_H_collect_155 ?_
        refine k_put (ws' := (xW x af aw am ab ao ar ap az cI cL cZ N B (1 + (cnt (lvB w rt L N) 0 T)) O1.length C (cnt (lvB w rt L N) 0 T) rf2 f2 w bs2 os2 (cR w rt L N) op1 sn1)) S i_H t_H_ok n_H hK hP hD hS 0 rfl rfl 8 (by decide) tb_48 rfl rfl rfl rfl (Nat.le_of_ble_eq_true rfl) rfl d_H_collect_156 (fun H locs hP hD hS => ?_)
        refine lv_aload_n hx hb d_H_collect_159 rfl (lv_at hl 1 rfl) ?_
        refine lv_dup hx hb d_H_collect_160 rfl ?_
        refine k_get S i_H hK hP 0 rfl rfl 10 (by decide) tb_50 rfl rfl d_H_collect_161 ?_
        refine lv_iconst (v := nI 1) hx hb d_H_collect_164 (by decide) ?_
        refine k_add hx hb d_H_collect_165 ?_
        refine k_put (ws' := (xW x af aw am ab ao ar ap az cI cL cZ N B (1 + (cnt (lvB w rt L N) 0 T)) O1.length (C + 1) (cnt (lvB w rt L N) 0 T) rf2 f2 w bs2 os2 (cR w rt L N) op1 sn1)) S i_H t_H_ok n_H hK hP hD hS 0 rfl rfl 10 (by decide) tb_50 rfl rfl rfl rfl (Nat.le_of_ble_eq_true rfl) rfl d_H_collect_166 (fun H locs hP hD hS => ?_)
        refine lv_aload_n hx hb d_H_collect_169 rfl (lv_at hl 1 rfl) ?_
        refine k_get S i_H hK hP 0 rfl rfl 11 (by decide) tb_51 rfl rfl d_H_collect_170 ?_
        obtain ⟨hP, hD⟩ := hP.eqI hD (q := 1) (ws' := (xW x af aw am ab ao ar ap az cI cL cZ N B (1 + (cnt (lvB w rt L N) 0 T)) O1.length (C + 1) (cnt (lvB w rt L N) 0 T) rf2 (cW w rt L N T) w bs2 os2 (cR w rt L N) op1 sn1)) rfl (fun j hj => hf2 j (by omega)) rfl
        rw [hO1] at hP hD
        exact k_mret S hr hlocks (bs2, os2, op1, sn1, rf2) (⟨rfl, hbit, hM⟩) hP hD hS d_H_collect_173
      · obtain ⟨tt, ett, htt, htL⟩ := hH.ld (hH.rt k c1)
        have hcnt : ∀ i, i ≤ N + 1 → cnt (bitAt bs2) 0 i = cnt (lvB w rt L N) 0 i := fun i hi => cnt_congr (fun j hj => by rw [Nat.zero_add]; exact hbit j (by omega))
        refine lv_aload_n hx hb d_H_collect_109 rfl (lv_at hl 1 rfl) ?_
        refine k_get S i_H hK hP 0 rfl rfl 5 (by decide) tb_45 rfl rfl d_H_collect_110 ?_
        refine lv_iload_n hx hb d_H_collect_113 rfl (lv_at hl 0 rfl) ?_
        refine lv_aload_n hx hb d_H_collect_114 rfl (lv_at hl 1 rfl) ?_
        refine lv_aload_n hx hb d_H_collect_115 rfl (lv_at hl 1 rfl) ?_
        refine k_get S i_H hK hP 0 rfl rfl 5 (by decide) tb_45 rfl rfl d_H_collect_116 ?_
        refine lv_iload_n hx hb d_H_collect_119 rfl (lv_at hl 0 rfl) ?_
        refine k_ild hx hb hK hP 6 0 rfl rfl (by omega) (by omega) d_H_collect_120 ?_
        refine k_top (y := nI tt) (by rw [hrt k, if_neg (by omega), ett]) ?_
        refine k_roV (np := 1) (As := [.int (nI tt)]) (rest := [.int (nI k), .ref ar]) S (c_H_goes tt htt hM hB hN.2) (gd_V tb_164 tb_166 tp_H_goes tb_1 tb_167) hK hP rfl rfl (by decide +kernel) rfl ⟨rfl, rfl⟩ ⟨Nat.le_of_ble_eq_true rfl, Nat.le_of_ble_eq_true rfl⟩ hl.1 rfl (Nat.le_of_ble_eq_true rfl) d_H_collect_121 ⟨Nat.zero_le _, Nat.zero_le _⟩ (fun v2 hv2 => ?_)
        subst hv2
        refine k_top (y := gOf (lvB w rt L N) (rt k)) (by rw [hcnt tt (by omega), ett, gOf_nI _ (by omega)]) ?_
        refine k_ist (ws' := (xW x aw af am ab ao ar ap az cI cL cZ N B T O1.length C (cnt (lvB w rt L N) 0 T) rf2 w f2 bs2 os2 (upd rt2 k (gOf (lvB w rt L N) (rt k))) op1 sn1)) hx hb hK hP hD hS 6 0 rfl rfl (by omega) (by omega) rfl d_H_collect_124 (fun H locs hP hD hS => ?_)
        refine k_iinc (k := 0) (a := k) (lv' := [(1, .int (nI (k + 1))), (0, .ref x)]) hx hb d_H_collect_125 hl rfl (by decide) rfl (fun ls hl => ?_)
        refine lv_goto (tgt := 103) hx hb d_H_collect_128 (by decide) ?_
        exact ih (k + 1) f2 rf2 bs2 os2 (upd rt2 k (gOf (lvB w rt L N) (rt k))) (by omega) (by omega) hf2 hbit hM (step_if hrt) H locs hP hD hS ls (lv_sub hl [0, 1] rfl)
  have loopZ : ∀ (n i : Nat) (f2 : Nat → Int32) (bs2 : Nat → Int64) (os2 : Nat → Int32), N + 1 < i + n → i ≤ N + 1 → (∀ j, j < i → f2 j = 0) → (∀ j, j ≤ N → bitAt bs2 j = lvB w rt L N j) → Mp N B bs2 os2 → ∀ (H : Heap) (locs : List Loc), va_P D classes (xW x aw af am ab ao ar ap az cI cL cZ N B T O1.length C R rf w f2 bs2 os2 rt op1 sn1) H → va_D A (xW x aw af am ab ao ar ap az cI cL cZ N B T O1.length C R rf w f2 bs2 os2 rt op1 sn1) → va_S A s.heap H locs → ∀ ls : Array Slot, lv_has ls 2 [(1, .int (nI i)), (0, .ref x)] → W p l e ({ frames := 5, cells := 0, slots := 0, locals := 116 } : Room) s m args below meth c H locs 0 0 (MQ below (va_Qi (fun v u => v = nI (cnt (lvB w rt L N) 0 T) ∧ (∀ j, j ≤ N → bitAt u.1 j = lvB w rt L N j) ∧ Mp N B u.1 u.2.1) (fun (u : (Nat → Int64) × (Nat → Int32) × (Nat → Int32) × (Nat → Int32) × Int32) t => va_P D classes ((xW x af aw am ab ao ar ap az cI cL cZ N B (cAd w rt L N T) (rchN w rt L N) (C + 1) (cnt (lvB w rt L N) 0 T) u.2.2.2.2 (cW w rt L N T) w u.1 u.2.1 (cR w rt L N) u.2.2.1 u.2.2.2.1)) t.heap ∧ va_D A ((xW x af aw am ab ao ar ap az cI cL cZ N B (cAd w rt L N T) (rchN w rt L N) (C + 1) (cnt (lvB w rt L N) 0 T) u.2.2.2.2 (cW w rt L N T) w u.1 u.2.1 (cR w rt L N) u.2.2.1 u.2.2.2.1))) A) args s 0 0 A) (F0 m 67 ls []) := by
    intro n
    induction n with
    | zero => intro i f2 bs2 os2 h1 h2; omega
    | succ n ih =>
      intro i f2 bs2 os2 hn hi hz hbit hM H locs hP hD hS ls hl
      refine lv_iload_n hx hb d_H_collect_67 rfl (lv_at hl 0 rfl) ?_
      refine lv_aload_n hx hb d_H_collect_68 rfl (lv_at hl 1 rfl) ?_
      refine k_get S i_H hK hP 0 rfl rfl 0 (by decide) tb_40 rfl rfl d_H_collect_69 ?_
      refine k_igt (tgt := 88) hx hb d_H_collect_72 (by decide) (by omega) (by omega) (fun c1 => ?_) (fun c1 => ?_)
      · refine lv_aload_n hx hb d_H_collect_88 rfl (lv_at hl 1 rfl) ?_
        refine lv_iconst (v := nI 0) hx hb d_H_collect_89 (by decide) ?_
        refine k_put (ws' := (xW x aw af am ab ao ar ap az cI cL cZ N B T O1.length C R (nI 0) w f2 bs2 os2 rt op1 sn1)) S i_H t_H_ok n_H hK hP hD hS 0 rfl rfl 12 (by decide) tb_52 rfl rfl rfl rfl (Nat.le_of_ble_eq_true rfl) rfl d_H_collect_90 (fun H locs hP hD hS => ?_)
        refine lv_aload_n hx hb d_H_collect_93 rfl (lv_at hl 1 rfl) ?_
        refine lv_aload_n hx hb d_H_collect_94 rfl (lv_at hl 1 rfl) ?_
        refine k_muV (np := 0) (wr := []) (As := []) (rest := [.ref x]) S (c_H_copy hH hbit hM hB (fun j hj => hz j (by omega))) (gd_V tb_152 tb_154 tp_H_copy tb_1 tb_155) hK hP hD hS hA [0, 1, 2, 3, 4, 5, 6, 7, 8] [] rfl rfl rfl (by decide) (by decide) (by decide) rfl rfl (by decide +kernel) rfl ⟨rfl, rfl⟩ ⟨Nat.le_of_ble_eq_true rfl, Nat.le_of_ble_eq_true rfl⟩ hl.1 rfl (Nat.le_of_ble_eq_true rfl) d_H_collect_95 ⟨Nat.zero_le _, Nat.zero_le _⟩ (fun vv u H locs hw hP hD hS => ?_)
        obtain ⟨f3, rf3⟩ := u
        obtain ⟨hv, hf3⟩ := hw
        dsimp only at hv hf3
        subst hv
        have hP : va_P D classes (xW x aw af am ab ao ar ap az cI cL cZ N B T O1.length C R rf3 w f3 bs2 os2 rt op1 sn1) H := hP
        have hD : va_D A (xW x aw af am ab ao ar ap az cI cL cZ N B T O1.length C R rf3 w f3 bs2 os2 rt op1 sn1) := hD
        refine k_put (ws' := (xW x aw af am ab ao ar ap az cI cL cZ N B T O1.length C (cnt (lvB w rt L N) 0 T) rf3 w f3 bs2 os2 rt op1 sn1)) S i_H t_H_ok n_H hK hP hD hS 0 rfl rfl 11 (by decide) tb_51 rfl rfl rfl rfl (Nat.le_of_ble_eq_true rfl) rfl d_H_collect_98 (fun H locs hP hD hS => ?_)
        refine lv_iconst (v := nI 0) hx hb d_H_collect_101 (by decide) ?_
        refine lv_istore_n (lv' := [(1, .int (nI 0)), (0, .ref x)]) hx hb d_H_collect_102 rfl hl (by decide) rfl (fun ls hl => ?_)
        exact loopR 9 0 f3 rf3 bs2 os2 rt (by omega) (by omega) hf3 hbit hM (fun j => by rw [if_neg (by omega)]) H locs hP hD hS ls (lv_sub hl [0, 1] rfl)
      · refine lv_aload_n hx hb d_H_collect_75 rfl (lv_at hl 1 rfl) ?_
        refine k_get S i_H hK hP 0 rfl rfl 3 (by decide) tb_43 rfl rfl d_H_collect_76 ?_
        refine lv_iload_n hx hb d_H_collect_79 rfl (lv_at hl 0 rfl) ?_
        refine lv_iconst (v := nI 0) hx hb d_H_collect_80 (by decide) ?_
        refine k_ist (ws' := (xW x aw af am ab ao ar ap az cI cL cZ N B T O1.length C R rf w (upd f2 i (nI 0)) bs2 os2 rt op1 sn1)) hx hb hK hP hD hS 2 0 rfl rfl (by omega) (by omega) rfl d_H_collect_81 (fun H locs hP hD hS => ?_)
        refine k_iinc (k := 0) (a := i) (lv' := [(1, .int (nI (i + 1))), (0, .ref x)]) hx hb d_H_collect_82 hl rfl (by decide) rfl (fun ls hl => ?_)
        refine lv_goto (tgt := 67) hx hb d_H_collect_85 (by decide) ?_
        exact ih (i + 1) (upd f2 i (nI 0)) bs2 os2 (by omega) (by omega) (fill_I (g := fun _ => 0) hz rfl) hbit hM H locs hP hD hS ls (lv_sub hl [0, 1] rfl)
  have loopM : ∀ (n k : Nat) (bs2 : Nat → Int64), O1.length < k + n → k ≤ O1.length → (∀ j, j ≤ N → bitAt bs2 j = runB w O1 k j) → ∀ (H : Heap) (locs : List Loc), va_P D classes (xW x aw af am ab ao ar ap az cI cL cZ N B T O1.length C R rf w f bs2 os rt op1 sn1) H → va_D A (xW x aw af am ab ao ar ap az cI cL cZ N B T O1.length C R rf w f bs2 os rt op1 sn1) → va_S A s.heap H locs → ∀ ls : Array Slot, lv_has ls 2 [(1, .int (nI k)), (0, .ref x)] → W p l e ({ frames := 5, cells := 0, slots := 0, locals := 116 } : Room) s m args below meth c H locs 0 0 (MQ below (va_Qi (fun v u => v = nI (cnt (lvB w rt L N) 0 T) ∧ (∀ j, j ≤ N → bitAt u.1 j = lvB w rt L N j) ∧ Mp N B u.1 u.2.1) (fun (u : (Nat → Int64) × (Nat → Int32) × (Nat → Int32) × (Nat → Int32) × Int32) t => va_P D classes ((xW x af aw am ab ao ar ap az cI cL cZ N B (cAd w rt L N T) (rchN w rt L N) (C + 1) (cnt (lvB w rt L N) 0 T) u.2.2.2.2 (cW w rt L N T) w u.1 u.2.1 (cR w rt L N) u.2.2.1 u.2.2.2.1)) t.heap ∧ va_D A ((xW x af aw am ab ao ar ap az cI cL cZ N B (cAd w rt L N T) (rchN w rt L N) (C + 1) (cnt (lvB w rt L N) 0 T) u.2.2.2.2 (cW w rt L N T) w u.1 u.2.1 (cR w rt L N) u.2.2.1 u.2.2.2.1))) A) args s 0 0 A) (F0 m 21 ls []) := by
    intro n
    induction n with
    | zero => intro k bs2 h1 h2; omega
    | succ n ih =>
      intro k bs2 hn hk hbit H locs hP hD hS ls hl
      refine lv_iload_n hx hb d_H_collect_21 rfl (lv_at hl 0 rfl) ?_
      refine lv_aload_n hx hb d_H_collect_22 rfl (lv_at hl 1 rfl) ?_
      refine k_get S i_H hK hP 0 rfl rfl 9 (by decide) tb_49 rfl rfl d_H_collect_23 ?_
      refine k_ige (tgt := 58) hx hb d_H_collect_26 (by decide) (by omega) (by omega) (fun c1 => ?_) (fun c1 => ?_)
      · refine lv_aload_n hx hb d_H_collect_58 rfl (lv_at hl 1 rfl) ?_
        refine k_get S i_H hK hP 0 rfl rfl 4 (by decide) tb_44 rfl rfl d_H_collect_59 ?_
        refine k_mvV (np := 0) (wr := [(x, .inr (0, [.int (nI N), .int (nI B), .ref aw, .ref af, .ref am, .ref ar, .ref ap, .ref az, .int (nI T), .int (nI O1.length), .int (nI C), .int (nI R), .int rf])), (aw, .inl (cI, N + 1, .inl w)), (af, .inl (cI, N + 1, .inl f)), (ar, .inl (cI, 8, .inl rt)), (ap, .inl (cI, N + 1, .inl op1)), (az, .inl (cZ, N + 1, .inl sn1))]) (As := []) (rest := []) S (c_M_lay hB hN.2) (gd_V tb_138 tb_139 tb_140 tb_3 tb_141) hK hP hD hS hA [3, 4, 5] [0, 1, 2, 6, 7, 8] rfl rfl rfl (by decide) (by decide) (by decide) rfl rfl (by decide +kernel) rfl ⟨rfl, rfl⟩ ⟨Nat.le_of_ble_eq_true rfl, Nat.le_of_ble_eq_true rfl⟩ hl.1 rfl (Nat.le_of_ble_eq_true rfl) d_H_collect_62 ⟨Nat.zero_le _, Nat.zero_le _⟩ (fun u H locs hw hP hD hS => ?_)
        obtain ⟨os3, rfl⟩ : ∃ z, z = u := ⟨_, rfl⟩
        have hP : va_P D classes (xW x aw af am ab ao ar ap az cI cL cZ N B T O1.length C R rf w f bs2 os3 rt op1 sn1) H := hP.sub [0, 1, 2, 6, 7, 8, 3, 4, 5] rfl
        have hD : va_D A (xW x aw af am ab ao ar ap az cI cL cZ N B T O1.length C R rf w f bs2 os3 rt op1 sn1) := hD.sub [0, 1, 2, 6, 7, 8, 3, 4, 5] (by decide) rfl
        refine lv_iconst (v := nI 0) hx hb d_H_collect_65 (by decide) ?_
        refine lv_istore_n (lv' := [(1, .int (nI 0)), (0, .ref x)]) hx hb d_H_collect_66 rfl hl (by decide) rfl (fun ls hl => ?_)
        exact loopZ (N + 2) 0 f bs2 os3 (by omega) (by omega) (fun j hj => by omega) (fun j hj => by rw [hbit j hj, show k = O1.length by omega]; exact runB_all hR) hw H locs hP hD hS ls (lv_sub hl [0, 1] rfl)
      · have hoR : Rch w rt L N (O1.getD k 0) := (hR _).mp (getD_mem c1)
        obtain ⟨o, eo⟩ : ∃ o, o = O1.getD k 0 := ⟨_, rfl⟩
        rw [← eo] at hoR
        have hob := hH.obj hoR.mem
        refine lv_aload_n hx hb d_H_collect_29 rfl (lv_at hl 1 rfl) ?_
        refine k_get S i_H hK hP 0 rfl rfl 4 (by decide) tb_44 rfl rfl d_H_collect_30 ?_
        refine lv_aload_n hx hb d_H_collect_33 rfl (lv_at hl 1 rfl) ?_
        refine k_get S i_H hK hP 0 rfl rfl 6 (by decide) tb_46 rfl rfl d_H_collect_34 ?_
        refine lv_iload_n hx hb d_H_collect_37 rfl (lv_at hl 0 rfl) ?_
        refine k_ild hx hb hK hP 7 0 rfl rfl (by omega) (by omega) d_H_collect_38 ?_
        refine k_top (y := nI o) (by rw [hSO.2.1 k c1, eo]) ?_
        refine lv_aload_n hx hb d_H_collect_39 rfl (lv_at hl 1 rfl) ?_
        refine lv_aload_n hx hb d_H_collect_40 rfl (lv_at hl 1 rfl) ?_
        refine k_get S i_H hK hP 0 rfl rfl 6 (by decide) tb_46 rfl rfl d_H_collect_41 ?_
        refine lv_iload_n hx hb d_H_collect_44 rfl (lv_at hl 0 rfl) ?_
        refine k_ild hx hb hK hP 7 0 rfl rfl (by omega) (by omega) d_H_collect_45 ?_
        refine k_top (y := nI o) (by rw [hSO.2.1 k c1, eo]) ?_
        refine k_roV (np := 1) (As := [.int (nI o)]) (rest := [.int (nI o), .ref am]) S (c_H_size o hN.2 hob.2.2.2 hob.2.2.1) (gd_V tb_84 tb_86 tp_H_size tb_1 tb_87) hK hP rfl rfl (by decide +kernel) rfl ⟨rfl, rfl⟩ ⟨Nat.le_of_ble_eq_true rfl, Nat.le_of_ble_eq_true rfl⟩ hl.1 rfl (Nat.le_of_ble_eq_true rfl) d_H_collect_46 ⟨Nat.zero_le _, Nat.zero_le _⟩ (fun v4 hv4 => ?_)
        subst hv4
        refine k_mvV (np := 2) (wr := [(x, .inr (0, [.int (nI N), .int (nI B), .ref aw, .ref af, .ref am, .ref ar, .ref ap, .ref az, .int (nI T), .int (nI O1.length), .int (nI C), .int (nI R), .int rf])), (aw, .inl (cI, N + 1, .inl w)), (af, .inl (cI, N + 1, .inl f)), (ar, .inl (cI, 8, .inl rt)), (ap, .inl (cI, N + 1, .inl op1)), (az, .inl (cZ, N + 1, .inl sn1))]) (As := [.int (nI o), .int (nI (szN (w o)))]) (rest := []) S (c_M_mark o (szN (w o)) (by omega) hN.2) (gd_V tb_132 tb_133 tb_134 tb_3 tb_135) hK hP hD hS hA [3, 4, 5] [0, 1, 2, 6, 7, 8] rfl rfl rfl (by decide) (by decide) (by decide) rfl rfl (by decide +kernel) rfl ⟨rfl, rfl⟩ ⟨Nat.le_of_ble_eq_true rfl, Nat.le_of_ble_eq_true rfl⟩ hl.1 rfl (Nat.le_of_ble_eq_true rfl) d_H_collect_49 ⟨Nat.zero_le _, Nat.zero_le _⟩ (fun u H locs hw hP hD hS => ?_)
        obtain ⟨bs3, rfl⟩ : ∃ z, z = u := ⟨_, rfl⟩
        have hP : va_P D classes (xW x aw af am ab ao ar ap az cI cL cZ N B T O1.length C R rf w f bs3 os rt op1 sn1) H := hP.sub [0, 1, 2, 6, 7, 8, 3, 4, 5] rfl
        have hD : va_D A (xW x aw af am ab ao ar ap az cI cL cZ N B T O1.length C R rf w f bs3 os rt op1 sn1) := hD.sub [0, 1, 2, 6, 7, 8, 3, 4, 5] (by decide) rfl
        refine k_iinc (k := 0) (a := k) (lv' := [(1, .int (nI (k + 1))), (0, .ref x)]) hx hb d_H_collect_52 hl rfl (by decide) rfl (fun ls hl => ?_)
        refine lv_goto (tgt := 21) hx hb d_H_collect_55 (by decide) ?_
        exact ih (k + 1) bs3 (by omega) (by omega) (fun j hj => by rw [hw j, hbit j hj]; show _ = (runB w O1 k j || _); rw [← eo]) H locs hP hD hS ls (lv_sub hl [0, 1] rfl)
  refine lv_iconst (v := nI 0) hx hb d_H_collect_19 (by decide) ?_
  refine lv_istore_n (lv' := [(1, .int (nI 0)), (0, .ref x)]) hx hb d_H_collect_20 rfl hl (by decide) rfl (fun ls hl => ?_)
  exact loopM (O1.length + 1) 0 bs1 (by omega) (by omega) (fun j hj => bit_0 (hw (j / 64) (by omega))) H locs hP hD hS ls (lv_sub hl [0, 1] rfl)
end H7
end
section
/-! THE MODEL: collect -/
theorem far_live {N T : Nat} {w rt : Nat → Int32} {L : List Nat} (hH : Hp N T w L rt) {fv : Nat → Nat} (hF : Far w rt L fv) {t : Nat} (ht : t ∈ L) : fv t < 1000000 ↔ rchB w rt L N t = true := by
  have hN := hH.N
  constructor
  · intro h
    exact rchB_iff.mpr (Rch.stab hH.ch.nodup hH.len ((hF t ht (fv t) h).mp (Nat.le_refl _)))
  · intro h
    have := (hF t ht N (by omega)).mpr (rchB_iff.mp h)
    omega
theorem wn_g {N T : Nat} {w rt : Nat → Int32} {L : List Nat} (hH : Hp N T w L rt) {wn : Nat → Int32} (hW : Wn N (lvB w rt L N) wn) {t : Nat} (htN : t ≤ N) (h : t = 0 ∨ (t ∈ L ∧ rchB w rt L N t = true)) : wn t = gOf (lvB w rt L N) (nI t) := by
  have hN := hH.N
  rw [hW t htN, gOf_nI _ (by omega)]
  rcases h with h | ⟨h1, h2⟩
  · subst h
    rw [lvB_0 hH]; rfl
  · have h3 := hH.obj h1
    have h4 := lvB_in hH h1 (szN_pos (w t))
    rw [Nat.add_zero, h2] at h4
    rw [h4, if_neg (show ¬ t = 0 by omega)]; rfl
theorem lead_live {N T : Nat} {w rt : Nat → Int32} {L : List Nat} (hH : Hp N T w L rt) {t k tt : Nat} (ht : t ∈ L) (hl : rchB w rt L N t = true) (hk : k < rfN (w t)) (e : w (t + 1 + k) = nI tt) (h : tt = 0 ∨ tt ∈ L) : tt = 0 ∨ (tt ∈ L ∧ rchB w rt L N tt = true) := by
  rcases h with h | h
  · exact Or.inl h
  · exact Or.inr ⟨h, rchB_iff.mpr (Rch.stab hH.ch.nodup hH.len (d := N + 1) (Or.inr ⟨h, t, k, rchB_iff.mp hl, hk, e⟩))⟩
theorem root_live {N : Nat} {w rt : Nat → Int32} {L : List Nat} {k tt : Nat} (hk : k < 8) (e : rt k = nI tt) (h : tt = 0 ∨ tt ∈ L) : tt = 0 ∨ (tt ∈ L ∧ rchB w rt L N tt = true) := by
  rcases h with h | h
  · exact Or.inl h
  · exact Or.inr ⟨h, rchB_iff.mpr (Rch.mono (d := 0) ⟨h, k, hk, e⟩ (Nat.zero_le _))⟩
/-- went, so far as the words before t -/
def WnT (N : Nat) (b : Nat → Bool) (wn : Nat → Int32) (t : Nat) : Prop := ∀ j, j ≤ N → wn j = nI (if b j && decide (j < t) then 1 + cnt b 0 j else 0)
theorem WnT.next {N : Nat} {b : Nat → Bool} {wn : Nat → Int32} {t : Nat} (h : WnT N b wn t) (hb : b t = true) : WnT N b (upd wn t (nI (1 + cnt b 0 t))) (t + 1) := fun j hj => by
  by_cases e : j = t
  · rw [e, pk_us, hb, show decide (t < t + 1) = true by simp]; rfl
  · rw [pk_un e, h j hj, show decide (j < t + 1) = decide (j < t) from by congr 1; exact propext ⟨fun q => by omega, fun q => by omega⟩]
theorem WnT.skip {N : Nat} {b : Nat → Bool} {wn : Nat → Int32} {t k : Nat} (h : WnT N b wn t) (hb : ∀ j, j < k → b (t + j) = false) : WnT N b wn (t + k) := fun j hj => by
  rw [h j hj]
  by_cases q : j < t
  · rw [show decide (j < t) = true by simp [q], show decide (j < t + k) = true by simp; omega]
  · by_cases q2 : j < t + k
    · have := hb (j - t) (by omega)
      rw [show t + (j - t) = j by omega] at this
      rw [this]; rfl
    · rw [show decide (j < t) = false by simp [q], show decide (j < t + k) = false by simp; omega]
theorem WnT.all {N T : Nat} {w rt : Nat → Int32} {L : List Nat} (hH : Hp N T w L rt) {wn : Nat → Int32} {t : Nat} (h : WnT N (lvB w rt L N) wn t) (ht : T ≤ t) : Wn N (lvB w rt L N) wn := fun j hj => by
  rw [h j hj]
  cases hb : lvB w rt L N j
  · rfl
  · obtain ⟨a, ha, -, -, h3⟩ := lvB_iff.mp hb
    have := hH.obj ha
    rw [show decide (j < t) = true by simp; omega]; rfl
theorem cLs_cons_t {N : Nat} {w rt : Nat → Int32} {L ol : List Nat} {t : Nat} (h : rchB w rt L N t = true) : cLs w rt L N (t :: ol) = cAd w rt L N t :: cLs w rt L N ol := by
  unfold cLs
  rw [List.filter_cons, h]; rfl
theorem cLs_cons_f {N : Nat} {w rt : Nat → Int32} {L ol : List Nat} {t : Nat} (h : rchB w rt L N t = false) : cLs w rt L N (t :: ol) = cLs w rt L N ol := by
  unfold cLs
  rw [List.filter_cons, h]; rfl
section D3
variable {l : Launch} {D : va_G} {m0 bw bf bb bg br bn ba : Nat} {cI cL cZ : ClassId} {N B T O C R : Nat} {th : Int32} {w f gn fg rt wn fr : Nat → Int32}
variable {L : List Nat}
set_option maxHeartbeats 4000000 in
set_option maxRecDepth 100000 in
/-- a collecting -/
theorem c_D_collect (hH : Hp N T w L rt) {sz : Nat} : muC l y_D_collect b_D_collect 5 (some .int) { frames := 3, cells := 0, slots := 0, locals := 66 } D (tyS cI cL cZ) [.ref m0] sz (dW m0 bw bf bb bg br bn ba cI cZ N B T O C R th w f gn fg rt wn fr) (fun u : (Nat → Int32) × (Nat → Int32) × (Nat → Int32) × (Nat → Int32) × (Nat → Int32) => (dW m0 bw bf bb bg br bn ba cI cZ N B (cAd w rt L N T) (rchN w rt L N) (C + 1) (cnt (lvB w rt L N) 0 T) th (cW w rt L N T) u.1 u.2.1 u.2.2.1 (cR w rt L N) u.2.2.2.1 u.2.2.2.2)) (fun v u => v = nI (cnt (lvB w rt L N) 0 T) ∧ Bg N (cLs w rt L N L) u.2.1 ∧ Wn N (lvB w rt L N) u.2.2.2.1) := by
  refine mu_of (by decide) (Nat.le_of_ble_eq_true rfl) ?_
  intro p e s m args below meth c A S hr hlocks hK hP hD hA hS ls hl
  have hx := S.1
  have hb := S.2.1
  have hl : lv_has ls 5 [(0, .ref m0)] := hl
  have hN := hH.N
  have hT := hH.T
  have hb0 := lvB_0 hH
  have hcol := hH.collect
  have hcT := hcol.T
  refine lv_aload_n hx hb d_D_collect_0 rfl (lv_at hl 0 rfl) ?_
  refine k_mvV (np := 0) (wr := []) (As := []) (rest := []) S (c_D_measure hH) (gd_V tb_299 tb_301 tp_D_measure tb_4 tb_302) hK hP hD hS hA [0, 1, 2, 3, 4, 5, 6, 7] [] rfl rfl rfl (by decide) (by decide) (by decide) rfl rfl (by decide +kernel) rfl ⟨rfl, rfl⟩ ⟨Nat.le_of_ble_eq_true rfl, Nat.le_of_ble_eq_true rfl⟩ hl.1 rfl (Nat.le_of_ble_eq_true rfl) d_D_collect_1 ⟨Nat.zero_le _, Nat.zero_le _⟩ (fun u H locs hw hP hD hS => ?_)
  obtain ⟨fr1, fv⟩ := u
  obtain ⟨hF, hFar⟩ := hw
  dsimp only at hF hFar
  have hP : va_P D classes (dW m0 bw bf bb bg br bn ba cI cZ N B T O C R th w f gn fg rt wn fr1) H := hP
  have hD : va_D A (dW m0 bw bf bb bg br bn ba cI cZ N B T O C R th w f gn fg rt wn fr1) := hD
  have loop6 : ∀ (n k : Nat) (f2 gn2 fg2 rt2 wn2 : Nat → Int32), 8 < k + n → k ≤ 8 → Bg N (cLs w rt L N L) gn2 → Wn N (lvB w rt L N) wn2 → (∀ j, rt2 j = if j < k then gOf (lvB w rt L N) (rt j) else rt j) → ∀ (H : Heap) (locs : List Loc), va_P D classes (dW m0 bw bf bb bg br bn ba cI cZ N B T (rchN w rt L N) C R th (cW w rt L N T) f2 gn2 fg2 rt2 wn2 fr1) H → va_D A (dW m0 bw bf bb bg br bn ba cI cZ N B T (rchN w rt L N) C R th (cW w rt L N T) f2 gn2 fg2 rt2 wn2 fr1) → va_S A s.heap H locs → ∀ ls : Array Slot, lv_has ls 5 [(2, .int (nI k)), (1, .int (nI (cAd w rt L N T))), (0, .ref m0)] → W p l e ({ frames := 3, cells := 0, slots := 0, locals := 66 } : Room) s m args below meth c H locs 0 0 (MQ below (va_Qi (fun v u => v = nI (cnt (lvB w rt L N) 0 T) ∧ Bg N (cLs w rt L N L) u.2.1 ∧ Wn N (lvB w rt L N) u.2.2.2.1) (fun (u : (Nat → Int32) × (Nat → Int32) × (Nat → Int32) × (Nat → Int32) × (Nat → Int32)) t => va_P D classes ((dW m0 bw bf bb bg br bn ba cI cZ N B (cAd w rt L N T) (rchN w rt L N) (C + 1) (cnt (lvB w rt L N) 0 T) th (cW w rt L N T) u.1 u.2.1 u.2.2.1 (cR w rt L N) u.2.2.2.1 u.2.2.2.2)) t.heap ∧ va_D A ((dW m0 bw bf bb bg br bn ba cI cZ N B (cAd w rt L N T) (rchN w rt L N) (C + 1) (cnt (lvB w rt L N) 0 T) th (cW w rt L N T) u.1 u.2.1 u.2.2.1 (cR w rt L N) u.2.2.2.1 u.2.2.2.2))) A) args s 0 0 A) (F0 m 298 ls []) := by
    intro n
    induction n with
    | zero => intro k f2 gn2 fg2 rt2 wn2 h1 h2; omega
    | succ n ih =>
      intro k f2 gn2 fg2 rt2 wn2 hn hk hG2 hW2 hrt H locs hP hD hS ls hl
      refine lv_iload_n hx hb d_D_collect_298 rfl (lv_at hl 0 rfl) ?_
      refine lv_bipush (v := nI 8) hx hb d_D_collect_299 (by decide) ?_
      refine k_ige (tgt := 327) hx hb d_D_collect_301 (by decide) (by omega) (by omega) (fun c1 => ?_) (fun c1 => ?_)
      · have hk8 : k = 8 := by omega
        subst hk8
        have hrt8 : rt2 = cR w rt L N := funext fun j => hrt j
        subst hrt8
        refine lv_aload_n hx hb d_D_collect_327 rfl (lv_at hl 2 rfl) ?_
        refine lv_iload_n hx hb d_D_collect_328 rfl (lv_at hl 1 rfl) ?_
        refine k_put (ws' := (dW m0 bw bf bb bg br bn ba cI cZ N B (cAd w rt L N T) (rchN w rt L N) C R th (cW w rt L N T) f2 gn2 fg2 (cR w rt L N) wn2 fr1)) S i_D t_D_ok n_D hK hP hD hS 0 rfl rfl 3 (by decide) tb_219 rfl rfl rfl rfl (Nat.le_of_ble_eq_true rfl) rfl d_D_collect_329 (fun H locs hP hD hS => ?_)
        refine lv_aload_n hx hb d_D_collect_332 rfl (lv_at hl 2 rfl) ?_
        refine lv_iload_n hx hb d_D_collect_333 rfl (lv_at hl 1 rfl) ?_
        refine lv_iconst (v := nI 1) hx hb d_D_collect_334 (by decide) ?_
        refine k_sub hx hb d_D_collect_335 (by omega) ?_
        refine k_top (y := nI (cnt (lvB w rt L N) 0 T)) (congrArg nI (by unfold cAd; omega)) ?_
        refine k_put (ws' := (dW m0 bw bf bb bg br bn ba cI cZ N B (cAd w rt L N T) (rchN w rt L N) C (cnt (lvB w rt L N) 0 T) th (cW w rt L N T) f2 gn2 fg2 (cR w rt L N) wn2 fr1)) S i_D t_D_ok n_D hK hP hD hS 0 rfl rfl 6 (by decide) tb_222 rfl rfl rfl rfl (Nat.le_of_ble_eq_true rfl) rfl d_D_collect_336 (fun H locs hP hD hS => ?_)
        refine lv_aload_n hx hb d_D_collect_339 rfl (lv_at hl 2 rfl) ?_
        refine lv_dup hx hb d_D_collect_340 rfl ?_
        refine k_get S i_D hK hP 0 rfl rfl 5 (by decide) tb_221 rfl rfl d_D_collect_341 ?_
        refine lv_iconst (v := nI 1) hx hb d_D_collect_344 (by decide) ?_
        refine k_add hx hb d_D_collect_345 ?_
        refine k_put (ws' := (dW m0 bw bf bb bg br bn ba cI cZ N B (cAd w rt L N T) (rchN w rt L N) (C + 1) (cnt (lvB w rt L N) 0 T) th (cW w rt L N T) f2 gn2 fg2 (cR w rt L N) wn2 fr1)) S i_D t_D_ok n_D hK hP hD hS 0 rfl rfl 5 (by decide) tb_221 rfl rfl rfl rfl (Nat.le_of_ble_eq_true rfl) rfl d_D_collect_346 (fun H locs hP hD hS => ?_)
        refine lv_aload_n hx hb d_D_collect_349 rfl (lv_at hl 2 rfl) ?_
        refine k_get S i_D hK hP 0 rfl rfl 6 (by decide) tb_222 rfl rfl d_D_collect_350 ?_
        exact k_mret S hr hlocks (f2, gn2, fg2, wn2, fr1) (⟨rfl, hG2, hW2⟩) hP hD hS d_D_collect_353
      · obtain ⟨tt, ett, htt, htL⟩ := hH.ld (hH.rt k c1)
        have hrk : rt2 k = nI tt := by rw [hrt k, if_neg (by omega), ett]
        refine lv_aload_n hx hb d_D_collect_304 rfl (lv_at hl 2 rfl) ?_
        refine k_get S i_D hK hP 0 rfl rfl 11 (by decide) tb_227 rfl rfl d_D_collect_305 ?_
        refine lv_iload_n hx hb d_D_collect_308 rfl (lv_at hl 0 rfl) ?_
        refine lv_aload_n hx hb d_D_collect_309 rfl (lv_at hl 2 rfl) ?_
        refine k_get S i_D hK hP 0 rfl rfl 12 (by decide) tb_228 rfl rfl d_D_collect_310 ?_
        refine lv_aload_n hx hb d_D_collect_313 rfl (lv_at hl 2 rfl) ?_
        refine k_get S i_D hK hP 0 rfl rfl 11 (by decide) tb_227 rfl rfl d_D_collect_314 ?_
        refine lv_iload_n hx hb d_D_collect_317 rfl (lv_at hl 0 rfl) ?_
        refine k_ild hx hb hK hP 5 0 rfl rfl (by omega) (by omega) d_D_collect_318 ?_
        refine k_top (y := nI tt) (hrk) ?_
        refine k_ild hx hb hK hP 6 0 rfl rfl (by omega) (by omega) d_D_collect_319 ?_
        refine k_top (y := gOf (lvB w rt L N) (rt k)) (by rw [ett]; exact wn_g hH hW2 htt (root_live c1 ett htL)) ?_
        refine k_ist (ws' := (dW m0 bw bf bb bg br bn ba cI cZ N B T (rchN w rt L N) C R th (cW w rt L N T) f2 gn2 fg2 (upd rt2 k (gOf (lvB w rt L N) (rt k))) wn2 fr1)) hx hb hK hP hD hS 5 0 rfl rfl (by omega) (by omega) rfl d_D_collect_320 (fun H locs hP hD hS => ?_)
        refine k_iinc (k := 0) (a := k) (lv' := [(2, .int (nI (k + 1))), (1, .int (nI (cAd w rt L N T))), (0, .ref m0)]) hx hb d_D_collect_321 hl rfl (by decide) rfl (fun ls hl => ?_)
        refine lv_goto (tgt := 298) hx hb d_D_collect_324 (by decide) ?_
        exact ih (k + 1) f2 gn2 fg2 (upd rt2 k (gOf (lvB w rt L N) (rt k))) wn2 (by omega) (by omega) hG2 hW2 (step_if hrt) H locs hP hD hS ls (lv_sub hl [0, 1, 2] rfl)
  have loop5 : ∀ (n i : Nat) (w2 f2 gn2 fg2 wn2 : Nat → Int32), N + 1 < i + n → i ≤ N + 1 → (∀ j, j ≤ N → f2 j = cW w rt L N T j) → Bg N (cLs w rt L N L) fg2 → Wn N (lvB w rt L N) wn2 → (∀ j, j < i → w2 j = cW w rt L N T j) → (∀ j, N < j → w2 j = 0) → (∀ j, j < i → gn2 j = b2i (decide (j ∈ cLs w rt L N L))) → ∀ (H : Heap) (locs : List Loc), va_P D classes (dW m0 bw bf bb bg br bn ba cI cZ N B T (rchN w rt L N) C R th w2 f2 gn2 fg2 rt wn2 fr1) H → va_D A (dW m0 bw bf bb bg br bn ba cI cZ N B T (rchN w rt L N) C R th w2 f2 gn2 fg2 rt wn2 fr1) → va_S A s.heap H locs → ∀ ls : Array Slot, lv_has ls 5 [(2, .int (nI i)), (1, .int (nI (cAd w rt L N T))), (0, .ref m0)] → W p l e ({ frames := 3, cells := 0, slots := 0, locals := 66 } : Room) s m args below meth c H locs 0 0 (MQ below (va_Qi (fun v u => v = nI (cnt (lvB w rt L N) 0 T) ∧ Bg N (cLs w rt L N L) u.2.1 ∧ Wn N (lvB w rt L N) u.2.2.2.1) (fun (u : (Nat → Int32) × (Nat → Int32) × (Nat → Int32) × (Nat → Int32) × (Nat → Int32)) t => va_P D classes ((dW m0 bw bf bb bg br bn ba cI cZ N B (cAd w rt L N T) (rchN w rt L N) (C + 1) (cnt (lvB w rt L N) 0 T) th (cW w rt L N T) u.1 u.2.1 u.2.2.1 (cR w rt L N) u.2.2.2.1 u.2.2.2.2)) t.heap ∧ va_D A ((dW m0 bw bf bb bg br bn ba cI cZ N B (cAd w rt L N T) (rchN w rt L N) (C + 1) (cnt (lvB w rt L N) 0 T) th (cW w rt L N T) u.1 u.2.1 u.2.2.1 (cR w rt L N) u.2.2.2.1 u.2.2.2.2))) A) args s 0 0 A) (F0 m 258 ls []) := by
    intro n
    induction n with
    | zero => intro i w2 f2 gn2 fg2 wn2 h1 h2; omega
    | succ n ih =>
      intro i w2 f2 gn2 fg2 wn2 hn hi hf2 hfg hW2 hw2 hwN hg2 H locs hP hD hS ls hl
      refine lv_iload_n hx hb d_D_collect_258 rfl (lv_at hl 0 rfl) ?_
      refine lv_aload_n hx hb d_D_collect_259 rfl (lv_at hl 2 rfl) ?_
      refine k_get S i_D hK hP 0 rfl rfl 1 (by decide) tb_217 rfl rfl d_D_collect_260 ?_
      refine k_igt (tgt := 296) hx hb d_D_collect_263 (by decide) (by omega) (by omega) (fun c1 => ?_) (fun c1 => ?_)
      · obtain ⟨hP, hD⟩ := hP.eqI hD (q := 1) (g := cW w rt L N T) (ws' := (dW m0 bw bf bb bg br bn ba cI cZ N B T (rchN w rt L N) C R th (cW w rt L N T) f2 gn2 fg2 rt wn2 fr1)) rfl (fun j hj => by rcases Nat.lt_or_ge N j with q | q; rw [hwN j q, hcol.zero j (by omega)]; exact hw2 j (by omega)) rfl
        refine lv_iconst (v := nI 0) hx hb d_D_collect_296 (by decide) ?_
        refine lv_istore_n (lv' := [(2, .int (nI 0)), (1, .int (nI (cAd w rt L N T))), (0, .ref m0)]) hx hb d_D_collect_297 rfl hl (by decide) rfl (fun ls hl => ?_)
        exact loop6 9 0 f2 gn2 fg2 rt wn2 (by omega) (by omega) (fun a ha => hg2 a (by omega)) hW2 (fun j => by rw [if_neg (by omega)]) H locs hP hD hS ls (lv_sub hl [0, 1, 2] rfl)
      · refine lv_aload_n hx hb d_D_collect_266 rfl (lv_at hl 2 rfl) ?_
        refine k_get S i_D hK hP 0 rfl rfl 7 (by decide) tb_223 rfl rfl d_D_collect_267 ?_
        refine lv_iload_n hx hb d_D_collect_270 rfl (lv_at hl 0 rfl) ?_
        refine lv_aload_n hx hb d_D_collect_271 rfl (lv_at hl 2 rfl) ?_
        refine k_get S i_D hK hP 0 rfl rfl 8 (by decide) tb_224 rfl rfl d_D_collect_272 ?_
        refine lv_iload_n hx hb d_D_collect_275 rfl (lv_at hl 0 rfl) ?_
        refine k_ild hx hb hK hP 2 0 rfl rfl (by omega) (by omega) d_D_collect_276 ?_
        refine k_ist (ws' := (dW m0 bw bf bb bg br bn ba cI cZ N B T (rchN w rt L N) C R th (upd w2 i (f2 i)) f2 gn2 fg2 rt wn2 fr1)) hx hb hK hP hD hS 1 0 rfl rfl (by omega) (by omega) rfl d_D_collect_277 (fun H locs hP hD hS => ?_)
        refine lv_aload_n hx hb d_D_collect_278 rfl (lv_at hl 2 rfl) ?_
        refine k_get S i_D hK hP 0 rfl rfl 9 (by decide) tb_225 rfl rfl d_D_collect_279 ?_
        refine lv_iload_n hx hb d_D_collect_282 rfl (lv_at hl 0 rfl) ?_
        refine lv_aload_n hx hb d_D_collect_283 rfl (lv_at hl 2 rfl) ?_
        refine k_get S i_D hK hP 0 rfl rfl 10 (by decide) tb_226 rfl rfl d_D_collect_284 ?_
        refine lv_iload_n hx hb d_D_collect_287 rfl (lv_at hl 0 rfl) ?_
        refine k_zld hx hb hK hP 4 2 rfl rfl (by omega) (by omega) d_D_collect_288 ?_
        refine k_zst (ws' := (dW m0 bw bf bb bg br bn ba cI cZ N B T (rchN w rt L N) C R th (upd w2 i (f2 i)) f2 (upd gn2 i (fg2 i)) fg2 rt wn2 fr1)) hx hb hK hP hD hS 3 2 rfl rfl (by omega) (by omega) (by rw [hfg i (by omega)]; exact b2i_vnar _) rfl d_D_collect_289 (fun H locs hP hD hS => ?_)
        refine k_iinc (k := 0) (a := i) (lv' := [(2, .int (nI (i + 1))), (1, .int (nI (cAd w rt L N T))), (0, .ref m0)]) hx hb d_D_collect_290 hl rfl (by decide) rfl (fun ls hl => ?_)
        refine lv_goto (tgt := 258) hx hb d_D_collect_293 (by decide) ?_
        exact ih (i + 1) (upd w2 i (f2 i)) f2 (upd gn2 i (fg2 i)) fg2 wn2 (by omega) (by omega) hf2 hfg hW2 (fill_I (g := cW w rt L N T) hw2 (hf2 i (by omega))) (fun j hj => by rw [pk_un (by omega)]; exact hwN j hj) (fill_I (g := fun j => b2i (decide (j ∈ cLs w rt L N L))) hg2 (hfg i (by omega))) H locs hP hD hS ls (lv_sub hl [0, 1, 2] rfl)
  have loop4 : ∀ (n : Nat) (ol nl : List Nat) (t : Nat) (f2 fg2 wn2 : Nat → Int32), T < t + n → Chn w ol t T → 1 ≤ t → (∀ a ∈ ol, a ∈ L) → nl ++ cLs w rt L N ol = cLs w rt L N L → (∀ j, j ≤ N → f2 j = frs w L (lvB w rt L N) t j) → Bg N nl fg2 → Wn N (lvB w rt L N) wn2 → ∀ (H : Heap) (locs : List Loc), va_P D classes (dW m0 bw bf bb bg br bn ba cI cZ N B T nl.length C R th w f2 gn fg2 rt wn2 fr1) H → va_D A (dW m0 bw bf bb bg br bn ba cI cZ N B T nl.length C R th w f2 gn fg2 rt wn2 fr1) → va_S A s.heap H locs → ∀ ls : Array Slot, lv_has ls 5 [(2, .int (nI t)), (1, .int (nI (cAd w rt L N T))), (0, .ref m0)] → W p l e ({ frames := 3, cells := 0, slots := 0, locals := 66 } : Room) s m args below meth c H locs 0 0 (MQ below (va_Qi (fun v u => v = nI (cnt (lvB w rt L N) 0 T) ∧ Bg N (cLs w rt L N L) u.2.1 ∧ Wn N (lvB w rt L N) u.2.2.2.1) (fun (u : (Nat → Int32) × (Nat → Int32) × (Nat → Int32) × (Nat → Int32) × (Nat → Int32)) t => va_P D classes ((dW m0 bw bf bb bg br bn ba cI cZ N B (cAd w rt L N T) (rchN w rt L N) (C + 1) (cnt (lvB w rt L N) 0 T) th (cW w rt L N T) u.1 u.2.1 u.2.2.1 (cR w rt L N) u.2.2.2.1 u.2.2.2.2)) t.heap ∧ va_D A ((dW m0 bw bf bb bg br bn ba cI cZ N B (cAd w rt L N T) (rchN w rt L N) (C + 1) (cnt (lvB w rt L N) 0 T) th (cW w rt L N T) u.1 u.2.1 u.2.2.1 (cR w rt L N) u.2.2.2.1 u.2.2.2.2))) A) args s 0 0 A) (F0 m 127 ls []) := by
    intro n
    induction n with
    | zero =>
      intro ol nl t f2 fg2 wn2 h1 hC
      have := hC.le
      omega
    | succ n ih4 =>
      intro ol nl t f2 fg2 wn2 hn hC ht hO hnl hf2 hfg hW2 H locs hP hD hS ls hl
      have hle := hC.le
      refine lv_iload_n hx hb d_D_collect_127 rfl (lv_at hl 0 rfl) ?_
      refine lv_aload_n hx hb d_D_collect_128 rfl (lv_at hl 2 rfl) ?_
      refine k_get S i_D hK hP 0 rfl rfl 3 (by decide) tb_219 rfl rfl d_D_collect_129 ?_
      refine k_ige (tgt := 256) hx hb d_D_collect_132 (by decide) (by omega) (by omega) (fun c1 => ?_) (fun c1 => ?_)
      · obtain ⟨hnil, hTt⟩ := hC.end c1
        subst hnil
        subst hTt
        have hnl2 : nl = cLs w rt L N L := by rw [← hnl]; exact (List.append_nil nl).symm
        subst hnl2
        rw [cLs_len] at hP hD
        refine lv_iconst (v := nI 0) hx hb d_D_collect_256 (by decide) ?_
        refine lv_istore_n (lv' := [(2, .int (nI 0)), (1, .int (nI (cAd w rt L N t))), (0, .ref m0)]) hx hb d_D_collect_257 rfl hl (by decide) rfl (fun ls hl => ?_)
        exact loop5 (N + 2) 0 w f2 gn fg2 wn2 (by omega) (by omega) hf2 hfg hW2 (fun j hj => by omega) (fun j hj => hH.zero j (by omega)) (fun j hj => by omega) H locs hP hD hS ls (lv_sub hl [0, 1, 2] rfl)
      · obtain ⟨ol2, rfl, h0, hC2⟩ := hC.step c1
        have htL := hO t List.mem_cons_self
        have hob := hH.obj htL
        have hsz : szN (w t) = 1 + rfN (w t) + plN (w t) := rfl
        have hr16 := rfN_lt (w t)
        have hbt := lvB_in hH htL (szN_pos (w t))
        rw [Nat.add_zero] at hbt
        have hcl := cnt_le (lvB w rt L N) 0 t
        refine lv_aload_n hx hb d_D_collect_135 rfl (lv_at hl 2 rfl) ?_
        refine k_get S i_D hK hP 0 rfl rfl 12 (by decide) tb_228 rfl rfl d_D_collect_136 ?_
        refine lv_iload_n hx hb d_D_collect_139 rfl (lv_at hl 0 rfl) ?_
        refine k_ild hx hb hK hP 6 0 rfl rfl (by omega) (by omega) d_D_collect_140 ?_
        refine k_top (y := nI (if lvB w rt L N t then 1 + cnt (lvB w rt L N) 0 t else 0)) (hW2 t hob.2.2.2) ?_
        refine k_zle (tgt := 245) hx hb d_D_collect_141 (by decide) (by split <;> omega) (fun c2 => ?_) (fun c2 => ?_)
        · have hd : rchB w rt L N t = false := by rw [← hbt]; cases hb : lvB w rt L N t <;> simp [hb] at c2 ⊢
          refine lv_iload_n hx hb d_D_collect_245 rfl (lv_at hl 0 rfl) ?_
          refine lv_aload_n hx hb d_D_collect_246 rfl (lv_at hl 2 rfl) ?_
          refine lv_iload_n hx hb d_D_collect_247 rfl (lv_at hl 0 rfl) ?_
          refine k_roV (np := 1) (As := [.int (nI t)]) (rest := [.int (nI t)]) S (c_D_length t hN.2 (by omega) h0) (gd_V tb_304 tb_306 tp_D_length tb_4 tb_307) hK hP rfl rfl (by decide +kernel) rfl ⟨rfl, rfl⟩ ⟨Nat.le_of_ble_eq_true rfl, Nat.le_of_ble_eq_true rfl⟩ hl.1 rfl (Nat.le_of_ble_eq_true rfl) d_D_collect_248 ⟨Nat.zero_le _, Nat.zero_le _⟩ (fun v2 hv2 => ?_)
          subst hv2
          refine k_add hx hb d_D_collect_251 ?_
          refine lv_istore_n (lv' := [(2, .int (nI (t + (szN (w t))))), (1, .int (nI (cAd w rt L N T))), (0, .ref m0)]) hx hb d_D_collect_252 rfl hl (by decide) rfl (fun ls hl => ?_)
          refine lv_goto (tgt := 127) hx hb d_D_collect_253 (by decide) ?_
          exact ih4 ol2 nl (t + szN (w t)) f2 fg2 wn2 (by omega) hC2 (by omega) (fun a ha => hO a (List.mem_cons_of_mem _ ha)) (by rw [← hnl, cLs_cons_f hd]) (by rw [frs_dead (fun j hj => by rw [lvB_in hH htL hj, hd])]; exact hf2) hfg hW2 H locs hP hD hS ls (lv_sub hl [0, 1, 2] rfl)
        · have hd : rchB w rt L N t = true := by rw [← hbt]; cases hb : lvB w rt L N t <;> simp [hb] at c2 ⊢
          have hwt : wn2 t = nI (cAd w rt L N t) := by rw [hW2 t hob.2.2.2, hbt, hd]; rfl
          have had : ∀ k, k < szN (w t) → cAd w rt L N t + k = 1 + cnt (lvB w rt L N) 0 (t + k) ∧ cAd w rt L N t + k ≤ N := fun k hk => by
            have e1 := cnt_live hH htL (Nat.le_of_lt hk) hd
            have e2 := cnt_b0 hb0 (show 0 < t + k by omega)
            unfold cAd
            omega
          have had0 := (had 0 (szN_pos (w t))).2
          refine lv_aload_n hx hb d_D_collect_144 rfl (lv_at hl 2 rfl) ?_
          refine k_get S i_D hK hP 0 rfl rfl 10 (by decide) tb_226 rfl rfl d_D_collect_145 ?_
          refine lv_aload_n hx hb d_D_collect_148 rfl (lv_at hl 2 rfl) ?_
          refine k_get S i_D hK hP 0 rfl rfl 12 (by decide) tb_228 rfl rfl d_D_collect_149 ?_
          refine lv_iload_n hx hb d_D_collect_152 rfl (lv_at hl 0 rfl) ?_
          refine k_ild hx hb hK hP 6 0 rfl rfl (by omega) (by omega) d_D_collect_153 ?_
          refine k_top (y := nI (cAd w rt L N t)) (hwt) ?_
          refine lv_iconst (v := nI 1) hx hb d_D_collect_154 (by decide) ?_
          refine k_zst (ws' := (dW m0 bw bf bb bg br bn ba cI cZ N B T nl.length C R th w f2 gn (upd fg2 (cAd w rt L N t) (nI 1)) rt wn2 fr1)) hx hb hK hP hD hS 4 2 rfl rfl (by omega) (by omega) (rfl) rfl d_D_collect_155 (fun H locs hP hD hS => ?_)
          refine lv_aload_n hx hb d_D_collect_156 rfl (lv_at hl 2 rfl) ?_
          refine lv_dup hx hb d_D_collect_157 rfl ?_
          refine k_get S i_D hK hP 0 rfl rfl 4 (by decide) tb_220 rfl rfl d_D_collect_158 ?_
          refine lv_iconst (v := nI 1) hx hb d_D_collect_161 (by decide) ?_
          refine k_add hx hb d_D_collect_162 ?_
          refine k_put (ws' := (dW m0 bw bf bb bg br bn ba cI cZ N B T (nl.length + 1) C R th w f2 gn (upd fg2 (cAd w rt L N t) (nI 1)) rt wn2 fr1)) S i_D t_D_ok n_D hK hP hD hS 0 rfl rfl 4 (by decide) tb_220 rfl rfl rfl rfl (Nat.le_of_ble_eq_true rfl) rfl d_D_collect_163 (fun H locs hP hD hS => ?_)
          refine lv_iconst (v := nI 0) hx hb d_D_collect_166 (by decide) ?_
          refine lv_istore_n (lv' := [(3, .int (nI 0)), (2, .int (nI t)), (1, .int (nI (cAd w rt L N T))), (0, .ref m0)]) hx hb d_D_collect_167 rfl hl (by decide) rfl (fun ls hl => ?_)
          have loopK : ∀ (m2 k : Nat) (f3 : Nat → Int32), szN (w t) < k + m2 → k ≤ szN (w t) → (∀ j, j ≤ N → f3 j = frs w L (lvB w rt L N) (t + k) j) → ∀ (H : Heap) (locs : List Loc), va_P D classes (dW m0 bw bf bb bg br bn ba cI cZ N B T (nl.length + 1) C R th w f3 gn (upd fg2 (cAd w rt L N t) (nI 1)) rt wn2 fr1) H → va_D A (dW m0 bw bf bb bg br bn ba cI cZ N B T (nl.length + 1) C R th w f3 gn (upd fg2 (cAd w rt L N t) (nI 1)) rt wn2 fr1) → va_S A s.heap H locs → ∀ ls : Array Slot, lv_has ls 5 [(3, .int (nI k)), (2, .int (nI t)), (1, .int (nI (cAd w rt L N T))), (0, .ref m0)] → W p l e ({ frames := 3, cells := 0, slots := 0, locals := 66 } : Room) s m args below meth c H locs 0 0 (MQ below (va_Qi (fun v u => v = nI (cnt (lvB w rt L N) 0 T) ∧ Bg N (cLs w rt L N L) u.2.1 ∧ Wn N (lvB w rt L N) u.2.2.2.1) (fun (u : (Nat → Int32) × (Nat → Int32) × (Nat → Int32) × (Nat → Int32) × (Nat → Int32)) t => va_P D classes ((dW m0 bw bf bb bg br bn ba cI cZ N B (cAd w rt L N T) (rchN w rt L N) (C + 1) (cnt (lvB w rt L N) 0 T) th (cW w rt L N T) u.1 u.2.1 u.2.2.1 (cR w rt L N) u.2.2.2.1 u.2.2.2.2)) t.heap ∧ va_D A ((dW m0 bw bf bb bg br bn ba cI cZ N B (cAd w rt L N T) (rchN w rt L N) (C + 1) (cnt (lvB w rt L N) 0 T) th (cW w rt L N T) u.1 u.2.1 u.2.2.1 (cR w rt L N) u.2.2.2.1 u.2.2.2.2))) A) args s 0 0 A) (F0 m 168 ls []) := by
            intro m2
            induction m2 with
            | zero => intro k f3 h1 h2; omega
            | succ m2 ih2 =>
              intro k f3 hn2 hk hf3 H locs hP hD hS ls hl
              refine lv_iload_n hx hb d_D_collect_168 rfl (lv_at hl 0 rfl) ?_
              refine lv_aload_n hx hb d_D_collect_169 rfl (lv_at hl 3 rfl) ?_
              refine lv_iload_n hx hb d_D_collect_170 rfl (lv_at hl 1 rfl) ?_
              refine k_roV (np := 1) (As := [.int (nI t)]) (rest := [.int (nI k)]) S (c_D_length t hN.2 (by omega) h0) (gd_V tb_304 tb_306 tp_D_length tb_4 tb_307) hK hP rfl rfl (by decide +kernel) rfl ⟨rfl, rfl⟩ ⟨Nat.le_of_ble_eq_true rfl, Nat.le_of_ble_eq_true rfl⟩ hl.1 rfl (Nat.le_of_ble_eq_true rfl) d_D_collect_171 ⟨Nat.zero_le _, Nat.zero_le _⟩ (fun v3 hv3 => ?_)
              subst hv3
              refine k_ige (tgt := 245) hx hb d_D_collect_174 (by decide) (by omega) (by omega) (fun c3 => ?_) (fun c3 => ?_)
              · have hks : k = szN (w t) := by omega
                subst hks
                refine lv_iload_n hx hb d_D_collect_245 rfl (lv_at hl 1 rfl) ?_
                refine lv_aload_n hx hb d_D_collect_246 rfl (lv_at hl 3 rfl) ?_
                refine lv_iload_n hx hb d_D_collect_247 rfl (lv_at hl 1 rfl) ?_
                refine k_roV (np := 1) (As := [.int (nI t)]) (rest := [.int (nI t)]) S (c_D_length t hN.2 (by omega) h0) (gd_V tb_304 tb_306 tp_D_length tb_4 tb_307) hK hP rfl rfl (by decide +kernel) rfl ⟨rfl, rfl⟩ ⟨Nat.le_of_ble_eq_true rfl, Nat.le_of_ble_eq_true rfl⟩ hl.1 rfl (Nat.le_of_ble_eq_true rfl) d_D_collect_248 ⟨Nat.zero_le _, Nat.zero_le _⟩ (fun v4 hv4 => ?_)
                subst hv4
                refine k_add hx hb d_D_collect_251 ?_
                refine lv_istore_n (lv' := [(2, .int (nI (t + (szN (w t))))), (3, .int (nI (szN (w t)))), (1, .int (nI (cAd w rt L N T))), (0, .ref m0)]) hx hb d_D_collect_252 rfl hl (by decide) rfl (fun ls hl => ?_)
                refine lv_goto (tgt := 127) hx hb d_D_collect_253 (by decide) ?_
                have hP : va_P D classes (dW m0 bw bf bb bg br bn ba cI cZ N B T ((nl ++ [cAd w rt L N t]).length) C R th w f3 gn (upd fg2 (cAd w rt L N t) (nI 1)) rt wn2 fr1) H := by rw [List.length_append]; exact hP
                have hD : va_D A (dW m0 bw bf bb bg br bn ba cI cZ N B T ((nl ++ [cAd w rt L N t]).length) C R th w f3 gn (upd fg2 (cAd w rt L N t) (nI 1)) rt wn2 fr1) := by rw [List.length_append]; exact hD
                exact ih4 ol2 (nl ++ [cAd w rt L N t]) (t + szN (w t)) f3 (upd fg2 (cAd w rt L N t) (nI 1)) wn2 (by omega) hC2 (by omega) (fun a ha => hO a (List.mem_cons_of_mem _ ha)) (by rw [← hnl, cLs_cons_t hd, List.append_assoc]; rfl) hf3 (Bg_add hfg) hW2 H locs hP hD hS ls (lv_sub hl [0, 2, 3] rfl)
              · obtain ⟨hadk, hadN⟩ := had k c3
                have hfr2 : frs w L (lvB w rt L N) (t + k + 1) = _ := frs_t (by rw [lvB_in hH htL c3, hd])
                have hisR := isR_in hH htL c3
                refine lv_iload_n hx hb d_D_collect_177 rfl (lv_at hl 0 rfl) ?_
                refine k_zle (tgt := 194) hx hb d_D_collect_178 (by decide) (by omega) (fun c4 => ?_) (fun c4 => ?_)
                · have hno : (decide (0 < k) && decide (k ≤ rfN (w t))) = false := by rw [show decide (0 < k) = false by simp; omega]; rfl
                  refine lv_iconst (v := nI 0) hx hb d_D_collect_194 (by decide) ?_
                  refine lv_istore (lv' := [(4, .int (nI 0)), (3, .int (nI k)), (2, .int (nI t)), (1, .int (nI (cAd w rt L N T))), (0, .ref m0)]) hx hb d_D_collect_195 hl (by decide) rfl (fun ls hl => ?_)
                  refine lv_aload_n hx hb d_D_collect_197 rfl (lv_at hl 4 rfl) ?_
                  refine k_get S i_D hK hP 0 rfl rfl 8 (by decide) tb_224 rfl rfl d_D_collect_198 ?_
                  refine lv_aload_n hx hb d_D_collect_201 rfl (lv_at hl 4 rfl) ?_
                  refine k_get S i_D hK hP 0 rfl rfl 12 (by decide) tb_228 rfl rfl d_D_collect_202 ?_
                  refine lv_iload_n hx hb d_D_collect_205 rfl (lv_at hl 2 rfl) ?_
                  refine k_ild hx hb hK hP 6 0 rfl rfl (by omega) (by omega) d_D_collect_206 ?_
                  refine k_top (y := nI (cAd w rt L N t)) (hwt) ?_
                  refine lv_iload_n hx hb d_D_collect_207 rfl (lv_at hl 1 rfl) ?_
                  refine k_add hx hb d_D_collect_208 ?_
                  refine lv_iload hx hb d_D_collect_209 (lv_at hl 0 rfl) ?_
                  refine k_zeq (tgt := 230) hx hb d_D_collect_211 (by decide) (by omega) (fun c6 => ?_) (fun c6 => ?_)
                  · refine lv_aload_n hx hb d_D_collect_230 rfl (lv_at hl 4 rfl) ?_
                    refine k_get S i_D hK hP 0 rfl rfl 7 (by decide) tb_223 rfl rfl d_D_collect_231 ?_
                    refine lv_iload_n hx hb d_D_collect_234 rfl (lv_at hl 2 rfl) ?_
                    refine lv_iload_n hx hb d_D_collect_235 rfl (lv_at hl 1 rfl) ?_
                    refine k_add hx hb d_D_collect_236 ?_
                    refine k_ild hx hb hK hP 1 0 rfl rfl (by omega) (by omega) d_D_collect_237 ?_
                    refine k_ist (ws' := (dW m0 bw bf bb bg br bn ba cI cZ N B T (nl.length + 1) C R th w (upd f3 ((cAd w rt L N t) + k) (w (t + k))) gn (upd fg2 (cAd w rt L N t) (nI 1)) rt wn2 fr1)) hx hb hK hP hD hS 2 0 rfl rfl (by omega) (by omega) rfl d_D_collect_238 (fun H locs hP hD hS => ?_)
                    refine k_iinc (k := 1) (a := k) (lv' := [(3, .int (nI (k + 1))), (4, .int (nI 0)), (2, .int (nI t)), (1, .int (nI (cAd w rt L N T))), (0, .ref m0)]) hx hb d_D_collect_239 hl rfl (by decide) rfl (fun ls hl => ?_)
                    refine lv_goto (tgt := 168) hx hb d_D_collect_242 (by decide) ?_
                    exact ih2 (k + 1) (upd f3 (cAd w rt L N t + k) (w (t + k))) (by omega) (by omega) (by rw [show t + (k + 1) = t + k + 1 from rfl, hfr2, ← hadk]; unfold valOf; rw [hisR, hno]; exact upd_ag hf3 _ _) H locs hP hD hS ls (lv_sub hl [0, 2, 3, 4] rfl)
                  · omega
                · refine lv_iload_n hx hb d_D_collect_181 rfl (lv_at hl 0 rfl) ?_
                  refine lv_aload_n hx hb d_D_collect_182 rfl (lv_at hl 3 rfl) ?_
                  refine lv_iload_n hx hb d_D_collect_183 rfl (lv_at hl 1 rfl) ?_
                  refine k_roV (np := 1) (As := [.int (nI t)]) (rest := [.int (nI k)]) S (c_D_references t hN.2 (by omega) h0) (gd_V tb_279 tb_281 tp_D_references tb_4 tb_282) hK hP rfl rfl (by decide +kernel) rfl ⟨rfl, rfl⟩ ⟨Nat.le_of_ble_eq_true rfl, Nat.le_of_ble_eq_true rfl⟩ hl.1 rfl (Nat.le_of_ble_eq_true rfl) d_D_collect_184 ⟨Nat.zero_le _, Nat.zero_le _⟩ (fun v5 hv5 => ?_)
                  subst hv5
                  refine k_igt (tgt := 194) hx hb d_D_collect_187 (by decide) (by omega) (by omega) (fun c5 => ?_) (fun c5 => ?_)
                  · have hno : (decide (0 < k) && decide (k ≤ rfN (w t))) = false := by rw [show decide (k ≤ rfN (w t)) = false by simp; omega, Bool.and_false]
                    refine lv_iconst (v := nI 0) hx hb d_D_collect_194 (by decide) ?_
                    refine lv_istore (lv' := [(4, .int (nI 0)), (3, .int (nI k)), (2, .int (nI t)), (1, .int (nI (cAd w rt L N T))), (0, .ref m0)]) hx hb d_D_collect_195 hl (by decide) rfl (fun ls hl => ?_)
                    refine lv_aload_n hx hb d_D_collect_197 rfl (lv_at hl 4 rfl) ?_
                    refine k_get S i_D hK hP 0 rfl rfl 8 (by decide) tb_224 rfl rfl d_D_collect_198 ?_
                    refine lv_aload_n hx hb d_D_collect_201 rfl (lv_at hl 4 rfl) ?_
                    refine k_get S i_D hK hP 0 rfl rfl 12 (by decide) tb_228 rfl rfl d_D_collect_202 ?_
                    refine lv_iload_n hx hb d_D_collect_205 rfl (lv_at hl 2 rfl) ?_
                    refine k_ild hx hb hK hP 6 0 rfl rfl (by omega) (by omega) d_D_collect_206 ?_
                    refine k_top (y := nI (cAd w rt L N t)) (hwt) ?_
                    refine lv_iload_n hx hb d_D_collect_207 rfl (lv_at hl 1 rfl) ?_
                    refine k_add hx hb d_D_collect_208 ?_
                    refine lv_iload hx hb d_D_collect_209 (lv_at hl 0 rfl) ?_
                    refine k_zeq (tgt := 230) hx hb d_D_collect_211 (by decide) (by omega) (fun c6 => ?_) (fun c6 => ?_)
                    · refine lv_aload_n hx hb d_D_collect_230 rfl (lv_at hl 4 rfl) ?_
                      refine k_get S i_D hK hP 0 rfl rfl 7 (by decide) tb_223 rfl rfl d_D_collect_231 ?_
                      refine lv_iload_n hx hb d_D_collect_234 rfl (lv_at hl 2 rfl) ?_
                      refine lv_iload_n hx hb d_D_collect_235 rfl (lv_at hl 1 rfl) ?_
                      refine k_add hx hb d_D_collect_236 ?_
                      refine k_ild hx hb hK hP 1 0 rfl rfl (by omega) (by omega) d_D_collect_237 ?_
                      refine k_ist (ws' := (dW m0 bw bf bb bg br bn ba cI cZ N B T (nl.length + 1) C R th w (upd f3 ((cAd w rt L N t) + k) (w (t + k))) gn (upd fg2 (cAd w rt L N t) (nI 1)) rt wn2 fr1)) hx hb hK hP hD hS 2 0 rfl rfl (by omega) (by omega) rfl d_D_collect_238 (fun H locs hP hD hS => ?_)
                      refine k_iinc (k := 1) (a := k) (lv' := [(3, .int (nI (k + 1))), (4, .int (nI 0)), (2, .int (nI t)), (1, .int (nI (cAd w rt L N T))), (0, .ref m0)]) hx hb d_D_collect_239 hl rfl (by decide) rfl (fun ls hl => ?_)
                      refine lv_goto (tgt := 168) hx hb d_D_collect_242 (by decide) ?_
                      exact ih2 (k + 1) (upd f3 (cAd w rt L N t + k) (w (t + k))) (by omega) (by omega) (by rw [show t + (k + 1) = t + k + 1 from rfl, hfr2, ← hadk]; unfold valOf; rw [hisR, hno]; exact upd_ag hf3 _ _) H locs hP hD hS ls (lv_sub hl [0, 2, 3, 4] rfl)
                    · omega
                  · have hyes : (decide (0 < k) && decide (k ≤ rfN (w t))) = true := by rw [show decide (0 < k) = true by simp; omega, show decide (k ≤ rfN (w t)) = true by simp; omega]; rfl
                    obtain ⟨tt, ett, htt, htL2⟩ := hH.ld (hH.rf t htL (k - 1) (by omega))
                    have htt2 := lead_live hH htL hd (by omega) ett htL2
                    rw [show t + 1 + (k - 1) = t + k by omega] at ett
                    refine lv_iconst (v := nI 1) hx hb d_D_collect_190 (by decide) ?_
                    refine lv_goto (tgt := 195) hx hb d_D_collect_191 (by decide) ?_
                    refine lv_istore (lv' := [(4, .int (nI 1)), (3, .int (nI k)), (2, .int (nI t)), (1, .int (nI (cAd w rt L N T))), (0, .ref m0)]) hx hb d_D_collect_195 hl (by decide) rfl (fun ls hl => ?_)
                    refine lv_aload_n hx hb d_D_collect_197 rfl (lv_at hl 4 rfl) ?_
                    refine k_get S i_D hK hP 0 rfl rfl 8 (by decide) tb_224 rfl rfl d_D_collect_198 ?_
                    refine lv_aload_n hx hb d_D_collect_201 rfl (lv_at hl 4 rfl) ?_
                    refine k_get S i_D hK hP 0 rfl rfl 12 (by decide) tb_228 rfl rfl d_D_collect_202 ?_
                    refine lv_iload_n hx hb d_D_collect_205 rfl (lv_at hl 2 rfl) ?_
                    refine k_ild hx hb hK hP 6 0 rfl rfl (by omega) (by omega) d_D_collect_206 ?_
                    refine k_top (y := nI (cAd w rt L N t)) (hwt) ?_
                    refine lv_iload_n hx hb d_D_collect_207 rfl (lv_at hl 1 rfl) ?_
                    refine k_add hx hb d_D_collect_208 ?_
                    refine lv_iload hx hb d_D_collect_209 (lv_at hl 0 rfl) ?_
                    refine k_zeq (tgt := 230) hx hb d_D_collect_211 (by decide) (by omega) (fun c6 => ?_) (fun c6 => ?_)
                    · omega
                    · refine lv_aload_n hx hb d_D_collect_214 rfl (lv_at hl 4 rfl) ?_
                      refine k_get S i_D hK hP 0 rfl rfl 12 (by decide) tb_228 rfl rfl d_D_collect_215 ?_
                      refine lv_aload_n hx hb d_D_collect_218 rfl (lv_at hl 4 rfl) ?_
                      refine k_get S i_D hK hP 0 rfl rfl 7 (by decide) tb_223 rfl rfl d_D_collect_219 ?_
                      refine lv_iload_n hx hb d_D_collect_222 rfl (lv_at hl 2 rfl) ?_
                      refine lv_iload_n hx hb d_D_collect_223 rfl (lv_at hl 1 rfl) ?_
                      refine k_add hx hb d_D_collect_224 ?_
                      refine k_ild hx hb hK hP 1 0 rfl rfl (by omega) (by omega) d_D_collect_225 ?_
                      refine k_top (y := nI tt) (ett) ?_
                      refine k_ild hx hb hK hP 6 0 rfl rfl (by omega) (by omega) d_D_collect_226 ?_
                      refine k_top (y := gOf (lvB w rt L N) (w (t + k))) (by rw [ett]; exact wn_g hH hW2 htt htt2) ?_
                      refine lv_goto (tgt := 238) hx hb d_D_collect_227 (by decide) ?_
                      refine k_ist (ws' := (dW m0 bw bf bb bg br bn ba cI cZ N B T (nl.length + 1) C R th w (upd f3 ((cAd w rt L N t) + k) (gOf (lvB w rt L N) (w (t + k)))) gn (upd fg2 (cAd w rt L N t) (nI 1)) rt wn2 fr1)) hx hb hK hP hD hS 2 0 rfl rfl (by omega) (by omega) rfl d_D_collect_238 (fun H locs hP hD hS => ?_)
                      refine k_iinc (k := 1) (a := k) (lv' := [(3, .int (nI (k + 1))), (4, .int (nI 1)), (2, .int (nI t)), (1, .int (nI (cAd w rt L N T))), (0, .ref m0)]) hx hb d_D_collect_239 hl rfl (by decide) rfl (fun ls hl => ?_)
                      refine lv_goto (tgt := 168) hx hb d_D_collect_242 (by decide) ?_
                      exact ih2 (k + 1) (upd f3 (cAd w rt L N t + k) (gOf (lvB w rt L N) (w (t + k)))) (by omega) (by omega) (by rw [show t + (k + 1) = t + k + 1 from rfl, hfr2, ← hadk]; unfold valOf; rw [hisR, hyes]; exact upd_ag hf3 _ _) H locs hP hD hS ls (lv_sub hl [0, 2, 3, 4] rfl)
          exact loopK (szN (w t) + 1) 0 f2 (by omega) (by omega) hf2 H locs hP hD hS ls (lv_sub hl [0, 1, 2, 3] rfl)
  have loop3 : ∀ (n i : Nat) (f2 fg2 wn2 : Nat → Int32), N + 1 < i + n → i ≤ N + 1 → (∀ j, j < i → f2 j = 0) → Bg N [] fg2 → Wn N (lvB w rt L N) wn2 → ∀ (H : Heap) (locs : List Loc), va_P D classes (dW m0 bw bf bb bg br bn ba cI cZ N B T O C R th w f2 gn fg2 rt wn2 fr1) H → va_D A (dW m0 bw bf bb bg br bn ba cI cZ N B T O C R th w f2 gn fg2 rt wn2 fr1) → va_S A s.heap H locs → ∀ ls : Array Slot, lv_has ls 5 [(2, .int (nI i)), (1, .int (nI (cAd w rt L N T))), (0, .ref m0)] → W p l e ({ frames := 3, cells := 0, slots := 0, locals := 66 } : Room) s m args below meth c H locs 0 0 (MQ below (va_Qi (fun v u => v = nI (cnt (lvB w rt L N) 0 T) ∧ Bg N (cLs w rt L N L) u.2.1 ∧ Wn N (lvB w rt L N) u.2.2.2.1) (fun (u : (Nat → Int32) × (Nat → Int32) × (Nat → Int32) × (Nat → Int32) × (Nat → Int32)) t => va_P D classes ((dW m0 bw bf bb bg br bn ba cI cZ N B (cAd w rt L N T) (rchN w rt L N) (C + 1) (cnt (lvB w rt L N) 0 T) th (cW w rt L N T) u.1 u.2.1 u.2.2.1 (cR w rt L N) u.2.2.2.1 u.2.2.2.2)) t.heap ∧ va_D A ((dW m0 bw bf bb bg br bn ba cI cZ N B (cAd w rt L N T) (rchN w rt L N) (C + 1) (cnt (lvB w rt L N) 0 T) th (cW w rt L N T) u.1 u.2.1 u.2.2.1 (cR w rt L N) u.2.2.2.1 u.2.2.2.2))) A) args s 0 0 A) (F0 m 99 ls []) := by
    intro n
    induction n with
    | zero => intro i f2 fg2 wn2 h1 h2; omega
    | succ n ih =>
      intro i f2 fg2 wn2 hn hi hz hfg hW2 H locs hP hD hS ls hl
      refine lv_iload_n hx hb d_D_collect_99 rfl (lv_at hl 0 rfl) ?_
      refine lv_aload_n hx hb d_D_collect_100 rfl (lv_at hl 2 rfl) ?_
      refine k_get S i_D hK hP 0 rfl rfl 1 (by decide) tb_217 rfl rfl d_D_collect_101 ?_
      refine k_igt (tgt := 120) hx hb d_D_collect_104 (by decide) (by omega) (by omega) (fun c1 => ?_) (fun c1 => ?_)
      · refine lv_aload_n hx hb d_D_collect_120 rfl (lv_at hl 2 rfl) ?_
        refine lv_iconst (v := nI 0) hx hb d_D_collect_121 (by decide) ?_
        refine k_put (ws' := (dW m0 bw bf bb bg br bn ba cI cZ N B T 0 C R th w f2 gn fg2 rt wn2 fr1)) S i_D t_D_ok n_D hK hP hD hS 0 rfl rfl 4 (by decide) tb_220 rfl rfl rfl rfl (Nat.le_of_ble_eq_true rfl) rfl d_D_collect_122 (fun H locs hP hD hS => ?_)
        refine lv_iconst (v := nI 1) hx hb d_D_collect_125 (by decide) ?_
        refine lv_istore_n (lv' := [(2, .int (nI 1)), (1, .int (nI (cAd w rt L N T))), (0, .ref m0)]) hx hb d_D_collect_126 rfl hl (by decide) rfl (fun ls hl => ?_)
        exact loop4 (T + 1) L [] 1 f2 fg2 wn2 (by omega) hH.ch (Nat.le_refl 1) (fun a ha => ha) rfl (fun j hj => by rw [frs_f hb0]; exact hz j (by omega)) hfg hW2 H locs hP hD hS ls (lv_sub hl [0, 1, 2] rfl)
      · refine lv_aload_n hx hb d_D_collect_107 rfl (lv_at hl 2 rfl) ?_
        refine k_get S i_D hK hP 0 rfl rfl 8 (by decide) tb_224 rfl rfl d_D_collect_108 ?_
        refine lv_iload_n hx hb d_D_collect_111 rfl (lv_at hl 0 rfl) ?_
        refine lv_iconst (v := nI 0) hx hb d_D_collect_112 (by decide) ?_
        refine k_ist (ws' := (dW m0 bw bf bb bg br bn ba cI cZ N B T O C R th w (upd f2 i (nI 0)) gn fg2 rt wn2 fr1)) hx hb hK hP hD hS 2 0 rfl rfl (by omega) (by omega) rfl d_D_collect_113 (fun H locs hP hD hS => ?_)
        refine k_iinc (k := 0) (a := i) (lv' := [(2, .int (nI (i + 1))), (1, .int (nI (cAd w rt L N T))), (0, .ref m0)]) hx hb d_D_collect_114 hl rfl (by decide) rfl (fun ls hl => ?_)
        refine lv_goto (tgt := 99) hx hb d_D_collect_117 (by decide) ?_
        exact ih (i + 1) (upd f2 i (nI 0)) fg2 wn2 (by omega) (by omega) (fill_I (g := fun _ => 0) hz rfl) hfg hW2 H locs hP hD hS ls (lv_sub hl [0, 1, 2] rfl)
  have loop2 : ∀ (n : Nat) (ol : List Nat) (t nx : Nat) (fg2 wn2 : Nat → Int32), T < t + n → Chn w ol t T → 1 ≤ t → (∀ a ∈ ol, a ∈ L) → nx = cAd w rt L N t → Bg N [] fg2 → WnT N (lvB w rt L N) wn2 t → ∀ (H : Heap) (locs : List Loc), va_P D classes (dW m0 bw bf bb bg br bn ba cI cZ N B T O C R th w f gn fg2 rt wn2 fr1) H → va_D A (dW m0 bw bf bb bg br bn ba cI cZ N B T O C R th w f gn fg2 rt wn2 fr1) → va_S A s.heap H locs → ∀ ls : Array Slot, lv_has ls 5 [(2, .int (nI t)), (1, .int (nI nx)), (0, .ref m0)] → W p l e ({ frames := 3, cells := 0, slots := 0, locals := 66 } : Room) s m args below meth c H locs 0 0 (MQ below (va_Qi (fun v u => v = nI (cnt (lvB w rt L N) 0 T) ∧ Bg N (cLs w rt L N L) u.2.1 ∧ Wn N (lvB w rt L N) u.2.2.2.1) (fun (u : (Nat → Int32) × (Nat → Int32) × (Nat → Int32) × (Nat → Int32) × (Nat → Int32)) t => va_P D classes ((dW m0 bw bf bb bg br bn ba cI cZ N B (cAd w rt L N T) (rchN w rt L N) (C + 1) (cnt (lvB w rt L N) 0 T) th (cW w rt L N T) u.1 u.2.1 u.2.2.1 (cR w rt L N) u.2.2.2.1 u.2.2.2.2)) t.heap ∧ va_D A ((dW m0 bw bf bb bg br bn ba cI cZ N B (cAd w rt L N T) (rchN w rt L N) (C + 1) (cnt (lvB w rt L N) 0 T) th (cW w rt L N T) u.1 u.2.1 u.2.2.1 (cR w rt L N) u.2.2.2.1 u.2.2.2.2))) A) args s 0 0 A) (F0 m 38 ls []) := by
    intro n
    induction n with
    | zero =>
      intro ol t nx fg2 wn2 h1 hC
      have := hC.le
      omega
    | succ n ih =>
      intro ol t nx fg2 wn2 hn hC ht hO hnx hfg hW2 H locs hP hD hS ls hl
      have hle := hC.le
      refine lv_iload_n hx hb d_D_collect_38 rfl (lv_at hl 0 rfl) ?_
      refine lv_aload_n hx hb d_D_collect_39 rfl (lv_at hl 2 rfl) ?_
      refine k_get S i_D hK hP 0 rfl rfl 3 (by decide) tb_219 rfl rfl d_D_collect_40 ?_
      refine k_ige (tgt := 97) hx hb d_D_collect_43 (by decide) (by omega) (by omega) (fun c1 => ?_) (fun c1 => ?_)
      · obtain ⟨hnil, hTt⟩ := hC.end c1
        subst hnx
        have hW3 := hW2.all hH c1
        subst hTt
        refine lv_iconst (v := nI 0) hx hb d_D_collect_97 (by decide) ?_
        refine lv_istore_n (lv' := [(2, .int (nI 0)), (1, .int (nI (cAd w rt L N t))), (0, .ref m0)]) hx hb d_D_collect_98 rfl hl (by decide) rfl (fun ls hl => ?_)
        exact loop3 (N + 2) 0 f fg2 wn2 (by omega) (by omega) (fun j hj => by omega) hfg hW3 H locs hP hD hS ls (lv_sub hl [0, 1, 2] rfl)
      · obtain ⟨ol2, rfl, h0, hC2⟩ := hC.step c1
        have htL := hO t List.mem_cons_self
        have hob := hH.obj htL
        have hsz : szN (w t) = 1 + rfN (w t) + plN (w t) := rfl
        have hft := hF t hob.2.2.2
        have hfl := far_live hH hFar htL
        refine lv_iconst (v := nI 0) hx hb d_D_collect_46 (by decide) ?_
        refine lv_istore_n (lv' := [(3, .int (nI 0)), (2, .int (nI t)), (1, .int (nI nx)), (0, .ref m0)]) hx hb d_D_collect_47 rfl hl (by decide) rfl (fun ls hl => ?_)
        have loopK : ∀ (m2 k nx : Nat) (wn3 : Nat → Int32), szN (w t) < k + m2 → k ≤ szN (w t) → (k = 0 ∨ rchB w rt L N t = true) → nx = cAd w rt L N (t + k) → WnT N (lvB w rt L N) wn3 (t + k) → ∀ (H : Heap) (locs : List Loc), va_P D classes (dW m0 bw bf bb bg br bn ba cI cZ N B T O C R th w f gn fg2 rt wn3 fr1) H → va_D A (dW m0 bw bf bb bg br bn ba cI cZ N B T O C R th w f gn fg2 rt wn3 fr1) → va_S A s.heap H locs → ∀ ls : Array Slot, lv_has ls 5 [(3, .int (nI k)), (2, .int (nI t)), (1, .int (nI nx)), (0, .ref m0)] → W p l e ({ frames := 3, cells := 0, slots := 0, locals := 66 } : Room) s m args below meth c H locs 0 0 (MQ below (va_Qi (fun v u => v = nI (cnt (lvB w rt L N) 0 T) ∧ Bg N (cLs w rt L N L) u.2.1 ∧ Wn N (lvB w rt L N) u.2.2.2.1) (fun (u : (Nat → Int32) × (Nat → Int32) × (Nat → Int32) × (Nat → Int32) × (Nat → Int32)) t => va_P D classes ((dW m0 bw bf bb bg br bn ba cI cZ N B (cAd w rt L N T) (rchN w rt L N) (C + 1) (cnt (lvB w rt L N) 0 T) th (cW w rt L N T) u.1 u.2.1 u.2.2.1 (cR w rt L N) u.2.2.2.1 u.2.2.2.2)) t.heap ∧ va_D A ((dW m0 bw bf bb bg br bn ba cI cZ N B (cAd w rt L N T) (rchN w rt L N) (C + 1) (cnt (lvB w rt L N) 0 T) th (cW w rt L N T) u.1 u.2.1 u.2.2.1 (cR w rt L N) u.2.2.2.1 u.2.2.2.2))) A) args s 0 0 A) (F0 m 48 ls []) := by
          intro m2
          induction m2 with
          | zero => intro k nx wn3 h1 h2; omega
          | succ m2 ih2 =>
            intro k nx wn3 hn2 hk hkl hnx hW3 H locs hP hD hS ls hl
            refine lv_iload_n hx hb d_D_collect_48 rfl (lv_at hl 0 rfl) ?_
            refine lv_aload_n hx hb d_D_collect_49 rfl (lv_at hl 3 rfl) ?_
            refine lv_iload_n hx hb d_D_collect_50 rfl (lv_at hl 1 rfl) ?_
            refine k_roV (np := 1) (As := [.int (nI t)]) (rest := [.int (nI k)]) S (c_D_length t hN.2 (by omega) h0) (gd_V tb_304 tb_306 tp_D_length tb_4 tb_307) hK hP rfl rfl (by decide +kernel) rfl ⟨rfl, rfl⟩ ⟨Nat.le_of_ble_eq_true rfl, Nat.le_of_ble_eq_true rfl⟩ hl.1 rfl (Nat.le_of_ble_eq_true rfl) d_D_collect_51 ⟨Nat.zero_le _, Nat.zero_le _⟩ (fun v6 hv6 => ?_)
            subst hv6
            refine k_ige (tgt := 86) hx hb d_D_collect_54 (by decide) (by omega) (by omega) (fun c3 => ?_) (fun c3 => ?_)
            · have hks : k = szN (w t) := by omega
              subst hks
              refine lv_iload_n hx hb d_D_collect_86 rfl (lv_at hl 1 rfl) ?_
              refine lv_aload_n hx hb d_D_collect_87 rfl (lv_at hl 3 rfl) ?_
              refine lv_iload_n hx hb d_D_collect_88 rfl (lv_at hl 1 rfl) ?_
              refine k_roV (np := 1) (As := [.int (nI t)]) (rest := [.int (nI t)]) S (c_D_length t hN.2 (by omega) h0) (gd_V tb_304 tb_306 tp_D_length tb_4 tb_307) hK hP rfl rfl (by decide +kernel) rfl ⟨rfl, rfl⟩ ⟨Nat.le_of_ble_eq_true rfl, Nat.le_of_ble_eq_true rfl⟩ hl.1 rfl (Nat.le_of_ble_eq_true rfl) d_D_collect_89 ⟨Nat.zero_le _, Nat.zero_le _⟩ (fun v7 hv7 => ?_)
              subst hv7
              refine k_add hx hb d_D_collect_92 ?_
              refine lv_istore_n (lv' := [(2, .int (nI (t + (szN (w t))))), (3, .int (nI (szN (w t)))), (1, .int (nI nx)), (0, .ref m0)]) hx hb d_D_collect_93 rfl hl (by decide) rfl (fun ls hl => ?_)
              refine lv_goto (tgt := 38) hx hb d_D_collect_94 (by decide) ?_
              exact ih ol2 (t + szN (w t)) nx fg2 wn3 (by omega) hC2 (by omega) (fun a ha => hO a (List.mem_cons_of_mem _ ha)) (hnx) hfg (hW3) H locs hP hD hS ls (lv_sub hl [0, 2, 3] rfl)
            · refine lv_aload_n hx hb d_D_collect_57 rfl (lv_at hl 3 rfl) ?_
              refine k_get S i_D hK hP 0 rfl rfl 13 (by decide) tb_229 rfl rfl d_D_collect_58 ?_
              refine lv_iload_n hx hb d_D_collect_61 rfl (lv_at hl 1 rfl) ?_
              refine k_ild hx hb hK hP 7 0 rfl rfl (by omega) (by omega) d_D_collect_62 ?_
              refine k_top (y := nI (fv t)) (hft.1) ?_
              refine lv_ldc (v := 1000000) hx hb S.2.2.2.1 (S.2.2.2.2 _ (List.mem_cons_of_mem _ tb_303)) d_D_collect_63 ?_
              refine k_top (y := nI 1000000) (rfl) ?_
              refine k_ige (tgt := 86) hx hb d_D_collect_65 (by decide) (by omega) (by omega) (fun c4 => ?_) (fun c4 => ?_)
              · have hd : rchB w rt L N t = false := Bool.eq_false_iff.mpr fun q => by have := hfl.mpr q; omega
                have hk0 : k = 0 := by rcases hkl with q | q; exact q; rw [hd] at q; cases q
                subst hk0
                refine lv_iload_n hx hb d_D_collect_86 rfl (lv_at hl 1 rfl) ?_
                refine lv_aload_n hx hb d_D_collect_87 rfl (lv_at hl 3 rfl) ?_
                refine lv_iload_n hx hb d_D_collect_88 rfl (lv_at hl 1 rfl) ?_
                refine k_roV (np := 1) (As := [.int (nI t)]) (rest := [.int (nI t)]) S (c_D_length t hN.2 (by omega) h0) (gd_V tb_304 tb_306 tp_D_length tb_4 tb_307) hK hP rfl rfl (by decide +kernel) rfl ⟨rfl, rfl⟩ ⟨Nat.le_of_ble_eq_true rfl, Nat.le_of_ble_eq_true rfl⟩ hl.1 rfl (Nat.le_of_ble_eq_true rfl) d_D_collect_89 ⟨Nat.zero_le _, Nat.zero_le _⟩ (fun v8 hv8 => ?_)
                subst hv8
                refine k_add hx hb d_D_collect_92 ?_
                refine lv_istore_n (lv' := [(2, .int (nI (t + (szN (w t))))), (3, .int (nI 0)), (1, .int (nI nx)), (0, .ref m0)]) hx hb d_D_collect_93 rfl hl (by decide) rfl (fun ls hl => ?_)
                refine lv_goto (tgt := 38) hx hb d_D_collect_94 (by decide) ?_
                exact ih ol2 (t + szN (w t)) nx fg2 wn3 (by omega) hC2 (by omega) (fun a ha => hO a (List.mem_cons_of_mem _ ha)) (by rw [hnx]; unfold cAd; rw [Nat.add_zero, cnt_dead hH htL (Nat.le_refl _) hd]) hfg (WnT.skip (t := t) hW3 (fun j hj => by rw [lvB_in hH htL hj, hd])) H locs hP hD hS ls (lv_sub hl [0, 2, 3] rfl)
              · have hd := hfl.mp c4
                refine lv_aload_n hx hb d_D_collect_68 rfl (lv_at hl 3 rfl) ?_
                refine k_get S i_D hK hP 0 rfl rfl 12 (by decide) tb_228 rfl rfl d_D_collect_69 ?_
                refine lv_iload_n hx hb d_D_collect_72 rfl (lv_at hl 1 rfl) ?_
                refine lv_iload_n hx hb d_D_collect_73 rfl (lv_at hl 0 rfl) ?_
                refine k_add hx hb d_D_collect_74 ?_
                refine lv_iload_n hx hb d_D_collect_75 rfl (lv_at hl 2 rfl) ?_
                refine k_ist (ws' := (dW m0 bw bf bb bg br bn ba cI cZ N B T O C R th w f gn fg2 rt (upd wn3 (t + k) (nI nx)) fr1)) hx hb hK hP hD hS 6 0 rfl rfl (by omega) (by omega) rfl d_D_collect_76 (fun H locs hP hD hS => ?_)
                refine k_iinc (k := 2) (a := nx) (lv' := [(1, .int (nI (nx + 1))), (3, .int (nI k)), (2, .int (nI t)), (0, .ref m0)]) hx hb d_D_collect_77 hl rfl (by decide) rfl (fun ls hl => ?_)
                refine k_iinc (k := 1) (a := k) (lv' := [(3, .int (nI (k + 1))), (1, .int (nI (nx + 1))), (2, .int (nI t)), (0, .ref m0)]) hx hb d_D_collect_80 hl rfl (by decide) rfl (fun ls hl => ?_)
                refine lv_goto (tgt := 48) hx hb d_D_collect_83 (by decide) ?_
                exact ih2 (k + 1) (nx + 1) (upd wn3 (t + k) (nI nx)) (by omega) (by omega) (Or.inr hd) (by rw [hnx]; unfold cAd; rw [cnt_live hH htL (by omega) hd, cnt_live hH htL (by omega) hd]; omega) (by rw [hnx]; exact hW3.next (by rw [lvB_in hH htL c3, hd])) H locs hP hD hS ls (lv_sub hl [0, 2, 1, 3] rfl)
        exact loopK (szN (w t) + 1) 0 nx wn2 (by omega) (by omega) (Or.inl rfl) hnx hW2 H locs hP hD hS ls (lv_sub hl [0, 1, 2, 3] rfl)
  refine lv_iconst (v := nI 1) hx hb d_D_collect_4 (by decide) ?_
  refine lv_istore_n (lv' := [(1, .int (nI 1)), (0, .ref m0)]) hx hb d_D_collect_5 rfl hl (by decide) rfl (fun ls hl => ?_)
  refine lv_iconst (v := nI 0) hx hb d_D_collect_6 (by decide) ?_
  refine lv_istore_n (lv' := [(2, .int (nI 0)), (1, .int (nI 1)), (0, .ref m0)]) hx hb d_D_collect_7 rfl hl (by decide) rfl (fun ls hl => ?_)
  have loop1 : ∀ (n i : Nat) (fg2 wn2 : Nat → Int32), N + 1 < i + n → i ≤ N + 1 → (∀ j, j < i → wn2 j = 0) → (∀ j, j < i → fg2 j = 0) → ∀ (H : Heap) (locs : List Loc), va_P D classes (dW m0 bw bf bb bg br bn ba cI cZ N B T O C R th w f gn fg2 rt wn2 fr1) H → va_D A (dW m0 bw bf bb bg br bn ba cI cZ N B T O C R th w f gn fg2 rt wn2 fr1) → va_S A s.heap H locs → ∀ ls : Array Slot, lv_has ls 5 [(2, .int (nI i)), (1, .int (nI 1)), (0, .ref m0)] → W p l e ({ frames := 3, cells := 0, slots := 0, locals := 66 } : Room) s m args below meth c H locs 0 0 (MQ below (va_Qi (fun v u => v = nI (cnt (lvB w rt L N) 0 T) ∧ Bg N (cLs w rt L N L) u.2.1 ∧ Wn N (lvB w rt L N) u.2.2.2.1) (fun (u : (Nat → Int32) × (Nat → Int32) × (Nat → Int32) × (Nat → Int32) × (Nat → Int32)) t => va_P D classes ((dW m0 bw bf bb bg br bn ba cI cZ N B (cAd w rt L N T) (rchN w rt L N) (C + 1) (cnt (lvB w rt L N) 0 T) th (cW w rt L N T) u.1 u.2.1 u.2.2.1 (cR w rt L N) u.2.2.2.1 u.2.2.2.2)) t.heap ∧ va_D A ((dW m0 bw bf bb bg br bn ba cI cZ N B (cAd w rt L N T) (rchN w rt L N) (C + 1) (cnt (lvB w rt L N) 0 T) th (cW w rt L N T) u.1 u.2.1 u.2.2.1 (cR w rt L N) u.2.2.2.1 u.2.2.2.2))) A) args s 0 0 A) (F0 m 8 ls []) := by
    intro n
    induction n with
    | zero => intro i fg2 wn2 h1 h2; omega
    | succ n ih =>
      intro i fg2 wn2 hn hi hz hz2 H locs hP hD hS ls hl
      refine lv_iload_n hx hb d_D_collect_8 rfl (lv_at hl 0 rfl) ?_
      refine lv_aload_n hx hb d_D_collect_9 rfl (lv_at hl 2 rfl) ?_
      refine k_get S i_D hK hP 0 rfl rfl 1 (by decide) tb_217 rfl rfl d_D_collect_10 ?_
      refine k_igt (tgt := 36) hx hb d_D_collect_13 (by decide) (by omega) (by omega) (fun c1 => ?_) (fun c1 => ?_)
      · refine lv_iconst (v := nI 1) hx hb d_D_collect_36 (by decide) ?_
        refine lv_istore_n (lv' := [(2, .int (nI 1)), (1, .int (nI 1)), (0, .ref m0)]) hx hb d_D_collect_37 rfl hl (by decide) rfl (fun ls hl => ?_)
        exact loop2 (T + 1) L 1 1 fg2 wn2 (by omega) hH.ch (Nat.le_refl 1) (fun a ha => ha) (by unfold cAd; rw [show (1 : Nat) = 0 + 1 from rfl, cnt_f hb0]; rfl) (fun a ha => by rw [hz2 a (by omega)]; rfl) (fun j hj => by rw [hz j (by omega)]; cases hb : lvB w rt L N j; rfl; rw [show decide (j < 1) = false by simp; intro e; rw [e, hb0] at hb; cases hb]; rfl) H locs hP hD hS ls (lv_sub hl [0, 1, 2] rfl)
      · refine lv_aload_n hx hb d_D_collect_16 rfl (lv_at hl 2 rfl) ?_
        refine k_get S i_D hK hP 0 rfl rfl 12 (by decide) tb_228 rfl rfl d_D_collect_17 ?_
        refine lv_iload_n hx hb d_D_collect_20 rfl (lv_at hl 0 rfl) ?_
        refine lv_iconst (v := nI 0) hx hb d_D_collect_21 (by decide) ?_
        refine k_ist (ws' := (dW m0 bw bf bb bg br bn ba cI cZ N B T O C R th w f gn fg2 rt (upd wn2 i (nI 0)) fr1)) hx hb hK hP hD hS 6 0 rfl rfl (by omega) (by omega) rfl d_D_collect_22 (fun H locs hP hD hS => ?_)
        refine lv_aload_n hx hb d_D_collect_23 rfl (lv_at hl 2 rfl) ?_
        refine k_get S i_D hK hP 0 rfl rfl 10 (by decide) tb_226 rfl rfl d_D_collect_24 ?_
        refine lv_iload_n hx hb d_D_collect_27 rfl (lv_at hl 0 rfl) ?_
        refine lv_iconst (v := nI 0) hx hb d_D_collect_28 (by decide) ?_
        refine k_zst (ws' := (dW m0 bw bf bb bg br bn ba cI cZ N B T O C R th w f gn (upd fg2 i (nI 0)) rt (upd wn2 i (nI 0)) fr1)) hx hb hK hP hD hS 4 2 rfl rfl (by omega) (by omega) (rfl) rfl d_D_collect_29 (fun H locs hP hD hS => ?_)
        refine k_iinc (k := 0) (a := i) (lv' := [(2, .int (nI (i + 1))), (1, .int (nI 1)), (0, .ref m0)]) hx hb d_D_collect_30 hl rfl (by decide) rfl (fun ls hl => ?_)
        refine lv_goto (tgt := 8) hx hb d_D_collect_33 (by decide) ?_
        exact ih (i + 1) (upd fg2 i (nI 0)) (upd wn2 i (nI 0)) (by omega) (by omega) (fill_I (g := fun _ => 0) hz rfl) (fill_I (g := fun _ => 0) hz2 rfl) H locs hP hD hS ls (lv_sub hl [0, 1, 2] rfl)
  exact loop1 (N + 2) 0 fg wn (by omega) (by omega) (fun j hj => by omega) (fun j hj => by omega) H locs hP hD hS ls (lv_sub hl [0, 1, 2] rfl)
end D3
end
section
/-! CONSTRUCTORS: rows that make cells -/
theorem va_RA_inj {U : State} {c1 c2 : ClassId} {ty : FieldType} (h1 : va_RA U c1 ty) (h2 : va_RA U c2 ty) : c1 = c2 := by
  cases ty with
  | object C =>
    obtain ⟨_, _, _, _, _, h1⟩ := h1
    obtain ⟨_, _, _, _, _, h2⟩ := h2
    exact Option.some.inj (h1.symm.trans h2)
  | _ =>
    have h1 : U.vm.findClass _ = some c1 := h1
    have h2 : U.vm.findClass _ = some c2 := h2
    exact Option.some.inj (h1.symm.trans h2)
theorem arr_of {U : State} {args : Array Value} {ty : FieldType} (h : (Cond.arrayClass ty).before args U = true) (hty : ∀ C, ty ≠ .object C) : ∃ c : ClassId, ArrOfT U c ty ∧ va_RA U c ty := by
  obtain ⟨c, k, comp, h1, h2, h3⟩ := Cond.arrayClass_spec h
  refine ⟨c, fun n z => ⟨fun k h => (by cases h), k, h2, comp, h3⟩, ?_⟩
  cases ty with
  | object C => exact absurd rfl (hty C)
  | _ => exact h1
abbrev ctC {T : Type} (l : Launch) (y : MethodName) (b : ByteArray) (n : Nat) (rm : Room) (D : va_G) (tys : List (ClassId × FieldType)) (av : List Value) (sz : Nat) (ws : va_W) (w1 : T → va_W) (mc ms : Nat) : Prop :=
  Met l y (.code y b n none :: GT) rm (va_Pc av (fun U => U.heap.size = sz ∧ va_P D classes ws U.heap ∧ kK D tys U ∧ va_D (fun _ => True) ws)) (va_Qv (fun _ : T => True) (fun u t => va_P D classes (w1 u) t.heap ∧ va_D (va_A ws sz) (w1 u)) (va_A ws sz)) mc ms (va_A ws sz)
theorem ct_of {T : Type} {l : Launch} {y : MethodName} {b : ByteArray} {n mc ms : Nat} {rm : Room} {D : va_G} {tys : List (ClassId × FieldType)} {av : List Value} {sz : Nat} {ws : va_W} {w1 : T → va_W} (hy : plainName y.cls = true) (hn : y.name = "<init>") (hav : (lg_sl av).length ≤ n)
    (body : ∀ (p : Program) (e : Env) (s : State) (m : MethodId) (args : Array Value) (below : List Frame) (meth : Method) (c : Code) (A : Nat → Prop), CallFix p m c b n s args (.code y b n none :: GT) y.cls → meth.sig.returnType = none → meth.locks = false → meth.name = "<init>" → kK D tys s → va_P D classes ws s.heap → va_D A ws → (∀ q : Nat, s.heap.size ≤ q → A q) → va_S A s.heap s.heap [] → ∀ ls : Array Slot, lv_has ls n (lv_args 0 av) → W p l e rm s m args below meth c s.heap [] 0 0 (MQ below (va_Qv (fun _ : T => True) (fun u t => va_P D classes (w1 u) t.heap ∧ va_D A (w1 u)) A) args s mc ms A) (F0 m 0 ls [])) :
    ctC l y b n rm D tys av sz ws w1 mc ms := by
  refine Met.ofW (cc := b) (maxL := n) (ret := none) hy rfl ?_
  intro p e s m args below meth c s₁ B hml hv
  obtain ⟨rfl, rfl, hP, hK, hD0⟩ := hv
  have hl := lv_entry av (n := n) hav
  rw [lg_entry_eq]
  exact body p e s m _ below meth c _ ⟨B.exec, B.bytes, hml, findClass_of_methodNamed B.named, atoms_spec (ws := .code y b n none :: GT) B.pre⟩ B.returns B.notSynchronized ((name_of_methodNamed B.named B.method).1.trans hn) hK hP hD0.self (fun q h => Or.inr h) va_S.rf _ hl
section KT
variable {p : Program} {l : Launch} {e : Env} {R : Room} {s : State} {m : MethodId} {args : Array Value} {below : List Frame} {meth : Method} {c : Code} {H : Heap} {locs : List Loc} {cells slots : Nat} {Q : State → Prop} {cc : ByteArray} {pc : Nat} {ls : Array Slot} {rest st : List Value}
variable {nL : Nat} {c0 : Cond} {own : String} {D : va_G} {tys : List (ClassId × FieldType)} {ws wc wr : va_W} {A : Nat → Prop} {H0 : Heap} {a : Nat} {y : MethodName} {b : ByteArray} {n np idx mc ms : Nat} {rm : Room} {As : List Value}
theorem k_ctret {T : Type} {w1 : T → va_W} (S : CallFix p m c cc nL s args (c0 :: GT) own) (hr : meth.sig.returnType = none) (hlocks : meth.locks = false) (u : T) (hP : va_P D classes (w1 u) H) (hD : va_D A (w1 u)) (hS : va_S A s.heap H locs) (hc : cells ≤ mc) (hs : slots ≤ ms) (hdg : decode cc pc = .ok (.return_, 1)) : W p l e R s m args below meth c H locs cells slots (MQ below (va_Qv (fun _ : T => True) (fun u t => va_P D classes (w1 u) t.heap ∧ va_D A (w1 u)) A) args s mc ms A) (F0 m pc ls []) :=
  W.widen hc hs (W.vret S.1 S.2.1 hr (fun t ht _ => ⟨⟨u, rfl, trivial, by rw [ht]; exact hP, hD⟩, hS.F ht⟩) hS.2.2 hdg)
theorem k_obj (S : CallFix p m c cc nL s args (c0 :: GT) own) (hl : Cond.methodLink own idx y_O_init ∈ GT) (hi : Cond.instanceMethod y_O_init ∈ GT) (hc : Cond.code y_O_init b_O_init 1 none ∈ GT) (hsz : ls.size = nL) (hR : 1 ≤ R.frames ∧ 20 ≤ R.locals) (hrest : (rest.map fun v => v.category).sum ≤ 8) (hdg : decode cc pc = .ok (.invokespecial idx, 3))
    (kk : W p l e R s m args below meth c H locs cells slots Q (F0 m (pc + 3) ls rest)) : W p l e R s m args below meth c H locs cells slots Q (F0 m pc ls (.ref a :: rest)) :=
  W.objInit S.1 S.2.1 S.2.2.2.1 (S.2.2.2.2 _ (List.mem_cons_of_mem _ hl)) (S.2.2.2.2 _ (List.mem_cons_of_mem _ hi)) (S.2.2.2.2 _ (List.mem_cons_of_mem _ hc)) rfl (by rw [S.2.2.1]; exact hsz) rfl hdg hR.1 (by show 2 * 0 + _ + 12 ≤ _; omega) kk
/-- a new array of N' zeros -/
theorem k_newa (S : CallFix p m c cc nL s args (c0 :: GT) own) {atype : ArrayType} {ty : FieldType} (hty : newarray.typeOf atype = ty) (harr : Cond.arrayClass ty ∈ GT) (hK : kK D tys s) (t0 : Nat) {cA : ClassId} (ht : tys[t0]? = some (cA, ty)) (hP : va_P D classes ws H) (hD : va_D A ws) (hS : va_S A H0 H locs) (hA : ∀ q, H0.size ≤ q → A q) {N' : Nat} {a0 : vp_A} (ha : ∀ cA : ClassId, vp_cell cA a0 = arrV cA N' (fun _ => defaultValue ty)) (hN : N' < 2 ^ 20) (hbytes : componentBytes ty ≤ 8) {k2 s2 : Nat} (hc : cells + 1 ≤ k2) (hs : slots + N' ≤ s2) (hcR : k2 ≤ R.cells) (hsR : s2 ≤ R.slots) (hdg : decode cc pc = .ok (.newarray atype, 2))
    (kk : ∀ (q : Nat) (H1 : Heap), va_P D classes (ws ++ [(q, .inl (cA, a0))]) H1 → va_D A (ws ++ [(q, .inl (cA, a0))]) → va_S A H0 H1 locs → W p l e R s m args below meth c H1 locs k2 s2 Q (F0 m (pc + 2) ls (.ref q :: rest))) : W p l e R s m args below meth c H locs cells slots Q (F0 m pc ls (.int (nI N') :: rest)) := by
  refine va_newa S.1 S.2.1 (by rw [hty]; exact S.2.2.2.2 _ (List.mem_cons_of_mem _ harr)) hty hK.1 hP hD hS hA ha (nI_pos (by omega)) (nI_clamp (by omega)) ?_ (by omega) (by omega) hdg (fun q cB H1 hK1 hP1 hD1 hS1 => ?_)
  · have : N' * componentBytes ty ≤ 2 ^ 20 * 8 := Nat.mul_le_mul (by omega) hbytes
    omega
  · have h1 := (hK1.2 tys.length (cB, ty) (by simp)).2
    have h2 := (hK.1.2 t0 (cA, ty) ht).2
    have e := va_RA_inj h1 h2
    subst e
    exact W.widen hc hs (kk q H1 hP1 hD1 hS1)
/-- a new object -/
theorem k_new (S : CallFix p m c cc nL s args (c0 :: GT) own) {C : String} {T : u_T} {N ci index : Nat} (hw : ∀ w ∈ u_ws C T N, w ∈ GT) {ty : Nat → FieldType} (hty : ∀ k, k < N → parseFieldDescriptor (T k).2.2.1 = some (ty k)) (hcl : Cond.classLink own index C ∈ GT) (hinst : Cond.instantiable C N ∈ GT) (hini : Cond.initialized C ∈ GT) (hK : kK D tys s) (hP : va_P D classes ws H) (hD : va_D A ws) (hS : va_S A H0 H locs) (hA : ∀ q, H0.size ≤ q → A q) (hc : classes[ci]? = some (C, T, N)) {fs : List Value} (hfs : ∀ j, j < N → defaultValue (ty j) = vp_V fs j) {k2 s2 : Nat} (hcc : cells + 1 ≤ k2) (hss : slots + N ≤ s2) (hcR : k2 ≤ R.cells) (hsR : s2 ≤ R.slots) (hdg : decode cc pc = .ok (.new index, 3))
    (kk : ∀ (q : Nat) (H1 : Heap), va_P D classes (ws ++ [(q, .inr (ci, fs))]) H1 → va_D A (ws ++ [(q, .inr (ci, fs))]) → va_S A H0 H1 locs → W p l e R s m args below meth c H1 locs k2 s2 Q (F0 m (pc + 3) ls (.ref q :: rest))) : W p l e R s m args below meth c H locs cells slots Q (F0 m pc ls rest) :=
  va_new S.1 S.2.1 S.2.2.2.2 (fun w h => List.mem_cons_of_mem _ (hw w h)) ty hty S.2.2.2.1 (S.2.2.2.2 _ (List.mem_cons_of_mem _ hcl)) (S.2.2.2.2 _ (List.mem_cons_of_mem _ hinst)) (S.2.2.2.2 _ (List.mem_cons_of_mem _ hini)) hK.1 hP hD hS hA hc hfs (by omega) (by omega) hdg (fun q H1 h1 h2 h3 => W.widen hcc hss (kk q H1 h1 h2 h3))
/-- a constructor's call -/
theorem k_ctI {T : Type} {w1 : T → va_W} (S : CallFix p m c cc nL s args (c0 :: GT) own) (hM : ctC l y b n rm D tys (.ref a :: As) H.size wc w1 mc ms) (hcode : Cond.code y b n none ∈ GT) (hini : Cond.initialized y.cls ∈ GT) (hl : Cond.methodLink own idx y ∈ GT) (hi : Cond.instanceMethod y ∈ GT) (hy1 : y.name = "<init>") (hK : kK D tys s) (hP : va_P D classes ws H) (hD : va_D A ws) (hS : va_S A H0 H locs) (hA : ∀ q : Nat, H0.size ≤ q → A q) (isC isR : List Nat) (hwc : wc = isC.filterMap (fun i => ws[i]?)) (hC : isC.map (fun i => ws[i]?) = wc.map some) (hRr : isR.map (fun i => ws[i]?) = wr.map some) (hnC : va_nd isC = true) (hnR : va_nd isR = true) (hdis : ∀ i ∈ isR, i ∉ isC)
    (hd : y.cls ≠ "java/lang/invoke/MethodHandle" ∧ y.cls ≠ "java/lang/invoke/VarHandle" ∧ (parseMethodDescriptor y.desc).map (fun d => d.parameters.length) = some np) (hnp : As.length = np) (hm : rm.cells = mc ∧ rm.slots = ms) (hR : rm.frames + 1 ≤ R.frames ∧ 8 + (n + 11) + rm.locals ≤ R.locals) (hsize : ls.size = nL) (hst : st = As.reverse ++ .ref a :: rest) (hrest : (rest.map fun v => v.category).sum ≤ 8) (hdg : decode cc pc = .ok (.invokespecial idx, 3)) {k2 s2 : Nat} (hcc : cells + mc ≤ k2) (hss : slots + ms ≤ s2) (hcR : k2 ≤ R.cells) (hsR : s2 ≤ R.slots)
    (kk : ∀ (u : T) (H1 : Heap) (locs1 : List Loc), va_P D classes (wr ++ w1 u) H1 → va_D A (wr ++ w1 u) → va_S A H0 H1 locs1 → W p l e R s m args below meth c H1 locs1 k2 s2 Q (F0 m (pc + 3) ls rest)) : W p l e R s m args below meth c H locs cells slots Q (F0 m pc ls st) := by
  have hPc : va_P D classes wc H := hP.sub isC hwc.symm
  have hDc := hD.sub isC hnC hC
  have hFc := va_free hD hS hA isC hC
  refine va_callv (va_runI (As := As) (rest := rest) S hM (cwI np S.2.2.2.2 (gd_I hcode) rfl hm.1 hm.2 (S.2.2.2.2 _ (List.mem_cons_of_mem _ hini)) (S.2.2.2.2 _ (List.mem_cons_of_mem _ hl)) (S.2.2.2.2 _ (List.mem_cons_of_mem _ hi)) hy1 hd hR) ⟨fun x U g mk q => ⟨q.1, q.2.1, q.2.2.1, q.2.2.2.1.call g mk x, q.2.2.2.2⟩, fun U hU hW => ⟨rfl, by rw [hU], by rw [hU]; exact hPc, hK.warm hW, hDc.weaken (fun _ _ _ _ => trivial)⟩⟩ rfl hnp hsize hst (lv_room hrest) hdg ⟨by omega, by omega⟩) hS (fun q _ h => hFc q h) hFc (fun u t H1 locs1 ht hvm hw hB hz1 hk1 hS1 => ?_)
  obtain ⟨hP1, hD1⟩ := hB
  rw [ht] at hP1
  obtain ⟨hP2, hD2⟩ := va_join hP hD isC isR hC hRr hnR hdis hk1 hFc hP1 hD1
  exact W.widen hcc hss (kk u H1 locs1 hP2 hD2 hS1)
end KT
/-- the sizes that a constructor takes out of its arguments -/
def nOf (a : Int32) : Nat := if a < nI 16 then 16 else if nI 4000 < a then 4000 else hdN a
def bOf (b : Int32) : Nat := if b = nI 8 then 8 else if b = nI 16 then 16 else if b = nI 64 then 64 else 32
theorem bOf_ok (b : Int32) : Bk (bOf b) := by
  unfold bOf Bk
  split
  · exact Or.inl rfl
  · split
    · exact Or.inr (Or.inl rfl)
    · split
      · exact Or.inr (Or.inr (Or.inr rfl))
      · exact Or.inr (Or.inr (Or.inl rfl))
theorem nOf_cases (a : Int32) : (a < nI 16 ∧ nOf a = 16) ∨ (¬ a < nI 16 ∧ nI 4000 < a ∧ nOf a = 4000) ∨ (¬ a < nI 16 ∧ ¬ nI 4000 < a ∧ a = nI (nOf a) ∧ 16 ≤ nOf a ∧ nOf a ≤ 4000) := by
  unfold nOf
  by_cases h1 : a < nI 16
  · rw [if_pos h1]; exact Or.inl ⟨h1, rfl⟩
  · rw [if_neg h1]
    by_cases h2 : nI 4000 < a
    · rw [if_pos h2]; exact Or.inr (Or.inl ⟨h1, h2, rfl⟩)
    · rw [if_neg h2]
      refine Or.inr (Or.inr ⟨h1, h2, ?_⟩)
      have h0 : ¬ a < 0 := fun q => h1 (Int32.lt_trans q (by decide))
      have e := nI_hdN h0
      have hl := hdN_lt a
      rw [e] at h1 h2
      have h3 : ¬ hdN a < 16 := fun q => h1 ((nI_ltI hl (by decide)).mpr q)
      have h4 : ¬ 4000 < hdN a := fun q => h2 ((nI_ltI (by decide) hl).mpr q)
      exact ⟨e, by omega, by omega⟩
theorem nOf_in (a : Int32) : 16 ≤ nOf a ∧ nOf a ≤ 4000 := by
  rcases nOf_cases a with ⟨-, h⟩ | ⟨-, -, h⟩ | ⟨-, -, -, h⟩
  · omega
  · omega
  · exact h
theorem nOf_mm (a : Int32) : (if nI 16 < (if a < nI 4000 then a else nI 4000) then (if a < nI 4000 then a else nI 4000) else nI 16) = nI (nOf a) := by
  rcases nOf_cases a with ⟨h1, h2⟩ | ⟨h1, h2, h3⟩ | ⟨h1, h2, h3, h4, h5⟩
  · rw [h2]
    have h3 : a < nI 4000 := Int32.lt_trans h1 (by decide)
    rw [if_pos h3, if_neg (fun q => Int32.lt_irrefl (Int32.lt_trans h1 q))]
  · rw [h3]
    have h4 : ¬ a < nI 4000 := fun q => Int32.lt_irrefl (Int32.lt_trans h2 q)
    rw [if_neg h4]
    decide
  · generalize nOf a = k at h3 h4 h5
    subst h3
    by_cases q : k < 4000
    · rw [if_pos ((nI_ltI (by omega) (by decide)).mpr q)]
      by_cases q2 : 16 < k
      · rw [if_pos ((nI_ltI (by decide) (by omega)).mpr q2)]
      · rw [if_neg (fun r => q2 ((nI_ltI (by decide) (by omega)).mp r)), show k = 16 by omega]
    · rw [show k = 4000 by omega]
      decide
theorem z_int (N : Nat) (cA : ClassId) : vp_cell cA (N, .inl (fun _ => 0)) = arrV cA N (fun _ => defaultValue .int) := rfl
theorem z_bool (N : Nat) (cA : ClassId) : vp_cell cA (N, .inl (fun _ => 0)) = arrV cA N (fun _ => defaultValue .boolean) := rfl
theorem z_long (N : Nat) (cA : ClassId) : vp_cell cA (N, .inr (.inl (fun _ => 0))) = arrV cA N (fun _ => defaultValue .long) := rfl
end
section
/-! THE CONSTRUCTORS -/
section CT
variable {l : Launch} {D : va_G} {cI cL cZ : ClassId}
set_option maxHeartbeats 4000000 in
set_option maxRecDepth 100000 in
/-- a map without a bit -/
theorem c_M_init {am N B : Nat} (hN : N ≤ 4000) (hB : Bk B) {sz : Nat} : ctC l y_M_init b_M_init 3 { frames := 1, cells := 2, slots := 564, locals := 20 } D (tyS cI cL cZ) [.ref am, .int (nI N), .int (nI B)] sz [(am, .inr (1, [.null, .null, .int 0]))] (fun u : Nat × Nat => pW am u.1 u.2 cI cL N B (fun _ => 0) (fun _ => 0)) 2 564 := by
  refine ct_of (by decide) rfl (Nat.le_of_ble_eq_true rfl) ?_
  intro p e s m args below meth c A S hr hlocks hin hK hP hD hA hS ls hl
  have hx := S.1
  have hb := S.2.1
  have hl : lv_has ls 3 [(0, .ref am), (1, .int (nI N)), (2, .int (nI B))] := hl
  have hBp := hB.pos
  have hq : N / B ≤ 500 := Nat.div_le_of_le_mul (by omega)
  refine lv_aload_n hx hb d_M_init_0 rfl (lv_at hl 0 rfl) ?_
  refine k_obj S tb_25 tb_12 tb_13 hl.1 ⟨Nat.le_of_ble_eq_true rfl, Nat.le_of_ble_eq_true rfl⟩ (Nat.le_of_ble_eq_true rfl) d_M_init_1 ?_
  refine lv_aload_n hx hb d_M_init_4 rfl (lv_at hl 0 rfl) ?_
  refine lv_iload_n hx hb d_M_init_5 rfl (lv_at hl 2 rfl) ?_
  refine k_putF (ws' := [(am, .inr (1, [.null, .null, .int (nI B)]))]) S i_M t_M_ok n_M hK hP hD hS 0 rfl rfl 2 (by decide) tb_29 rfl rfl rfl hin rfl rfl (Nat.le_of_ble_eq_true rfl) rfl d_M_init_6 (fun H locs hP hD hS => ?_)
  refine lv_aload_n hx hb d_M_init_9 rfl (lv_at hl 0 rfl) ?_
  refine lv_iload_n hx hb d_M_init_10 rfl (lv_at hl 1 rfl) ?_
  refine lv_bipush (v := nI 64) hx hb d_M_init_11 (by decide) ?_
  refine k_div hx hb d_M_init_13 (by omega) (by omega) (by omega) ?_
  refine lv_iconst (v := nI 1) hx hb d_M_init_14 (by decide) ?_
  refine k_add hx hb d_M_init_15 ?_
  refine k_newa (ty := .long) (k2 := 1) (s2 := 63) S rfl tb_39 hK 1 rfl hP hD hS hA (z_long _) (by omega) (by decide) (by omega) (by omega) (Nat.le_of_ble_eq_true rfl) (Nat.le_of_ble_eq_true rfl) d_M_init_16 (fun ab H hP hD hS => ?_)
  have hP : va_P D classes [(am, .inr (1, [.null, .null, .int (nI B)])), (ab, .inl (cL, (N / 64) + 1, .inr (.inl (fun _ => 0))))] H := hP
  have hD : va_D A [(am, .inr (1, [.null, .null, .int (nI B)])), (ab, .inl (cL, (N / 64) + 1, .inr (.inl (fun _ => 0))))] := hD
  refine k_putF (ws' := [(am, .inr (1, [.ref ab, .null, .int (nI B)])), (ab, .inl (cL, (N / 64) + 1, .inr (.inl (fun _ => 0))))]) S i_M t_M_ok n_M hK hP hD hS 0 rfl rfl 0 (by decide) tb_26 rfl rfl rfl hin rfl rfl (Nat.le_of_ble_eq_true rfl) rfl d_M_init_18 (fun H locs hP hD hS => ?_)
  refine lv_aload_n hx hb d_M_init_21 rfl (lv_at hl 0 rfl) ?_
  refine lv_iload_n hx hb d_M_init_22 rfl (lv_at hl 1 rfl) ?_
  refine lv_iload_n hx hb d_M_init_23 rfl (lv_at hl 2 rfl) ?_
  refine k_div hx hb d_M_init_24 (by omega) (by omega) (by omega) ?_
  refine lv_iconst (v := nI 1) hx hb d_M_init_25 (by decide) ?_
  refine k_add hx hb d_M_init_26 ?_
  refine k_newa (ty := .int) (k2 := 2) (s2 := 564) S rfl tb_37 hK 0 rfl hP hD hS hA (z_int _) (by omega) (by decide) (by omega) (by omega) (Nat.le_of_ble_eq_true rfl) (Nat.le_of_ble_eq_true rfl) d_M_init_27 (fun ao H hP hD hS => ?_)
  have hP : va_P D classes [(am, .inr (1, [.ref ab, .null, .int (nI B)])), (ab, .inl (cL, (N / 64) + 1, .inr (.inl (fun _ => 0)))), (ao, .inl (cI, (N / B) + 1, .inl (fun _ => 0)))] H := hP
  have hD : va_D A [(am, .inr (1, [.ref ab, .null, .int (nI B)])), (ab, .inl (cL, (N / 64) + 1, .inr (.inl (fun _ => 0)))), (ao, .inl (cI, (N / B) + 1, .inl (fun _ => 0)))] := hD
  refine k_putF (ws' := [(am, .inr (1, [.ref ab, .ref ao, .int (nI B)])), (ab, .inl (cL, (N / 64) + 1, .inr (.inl (fun _ => 0)))), (ao, .inl (cI, (N / B) + 1, .inl (fun _ => 0)))]) S i_M t_M_ok n_M hK hP hD hS 0 rfl rfl 1 (by decide) tb_27 rfl rfl rfl hin rfl rfl (Nat.le_of_ble_eq_true rfl) rfl d_M_init_29 (fun H locs hP hD hS => ?_)
  exact k_ctret S hr hlocks (ab, ao) hP hD hS (Nat.le_of_ble_eq_true rfl) (Nat.le_of_ble_eq_true rfl) d_M_init_32
set_option maxHeartbeats 4000000 in
set_option maxRecDepth 100000 in
/-- an empty heap -/
theorem c_H_init {x : Nat} (a b : Int32) {sz : Nat} : ctC l y_H_init b_H_init 3 { frames := 2, cells := 8, slots := 16579, locals := 42 } D (tyS cI cL cZ) [.ref x, .int a, .int b] sz [(x, .inr (0, [.int 0, .int 0, .null, .null, .null, .null, .null, .null, .int 0, .int 0, .int 0, .int 0, .int 0]))] (fun u : Nat × Nat × Nat × Nat × Nat × Nat × Nat × Nat => (xW x u.1 u.2.1 u.2.2.1 u.2.2.2.1 u.2.2.2.2.1 u.2.2.2.2.2.1 u.2.2.2.2.2.2.1 u.2.2.2.2.2.2.2 cI cL cZ (nOf a) (bOf b) 1 0 0 0 0 (fun _ => 0) (fun _ => 0) (fun _ => 0) (fun _ => 0) (fun _ => 0) (fun _ => 0) (fun _ => 0))) 8 16579 := by
  refine ct_of (by decide) rfl (Nat.le_of_ble_eq_true rfl) ?_
  intro p e s m args below meth c A S hr hlocks hin hK hP hD hA hS ls hl
  have hx := S.1
  have hb := S.2.1
  have hl : lv_has ls 3 [(0, .ref x), (1, .int a), (2, .int b)] := hl
  have hN := nOf_in a
  have hB := bOf_ok b
  refine lv_aload_n hx hb d_H_init_0 rfl (lv_at hl 0 rfl) ?_
  refine k_obj S tb_11 tb_12 tb_13 hl.1 ⟨Nat.le_of_ble_eq_true rfl, Nat.le_of_ble_eq_true rfl⟩ (Nat.le_of_ble_eq_true rfl) d_H_init_1 ?_
  refine lv_aload_n hx hb d_H_init_4 rfl (lv_at hl 0 rfl) ?_
  refine lv_bipush (v := nI 8) hx hb d_H_init_5 (by decide) ?_
  refine k_newa (ty := .int) (k2 := 1) (s2 := 8) S rfl tb_37 hK 0 rfl hP hD hS hA (z_int _) (by omega) (by decide) (by omega) (by omega) (Nat.le_of_ble_eq_true rfl) (Nat.le_of_ble_eq_true rfl) d_H_init_7 (fun ar H hP hD hS => ?_)
  have hP : va_P D classes [(x, .inr (0, [.int 0, .int 0, .null, .null, .null, .null, .null, .null, .int 0, .int 0, .int 0, .int 0, .int 0])), (ar, .inl (cI, 8, .inl (fun _ => 0)))] H := hP
  have hD : va_D A [(x, .inr (0, [.int 0, .int 0, .null, .null, .null, .null, .null, .null, .int 0, .int 0, .int 0, .int 0, .int 0])), (ar, .inl (cI, 8, .inl (fun _ => 0)))] := hD
  refine k_putF (ws' := [(x, .inr (0, [.int 0, .int 0, .null, .null, .null, .ref ar, .null, .null, .int 0, .int 0, .int 0, .int 0, .int 0])), (ar, .inl (cI, 8, .inl (fun _ => 0)))]) S i_H t_H_ok n_H hK hP hD hS 0 rfl rfl 5 (by decide) tb_45 rfl rfl rfl hin rfl rfl (Nat.le_of_ble_eq_true rfl) rfl d_H_init_9 (fun H locs hP hD hS => ?_)
  refine lv_aload_n hx hb d_H_init_12 rfl (lv_at hl 0 rfl) ?_
  refine lv_iconst (v := nI 1) hx hb d_H_init_13 (by decide) ?_
  refine k_put (ws' := [(x, .inr (0, [.int 0, .int 0, .null, .null, .null, .ref ar, .null, .null, .int (nI 1), .int 0, .int 0, .int 0, .int 0])), (ar, .inl (cI, 8, .inl (fun _ => 0)))]) S i_H t_H_ok n_H hK hP hD hS 0 rfl rfl 8 (by decide) tb_48 rfl rfl rfl rfl (Nat.le_of_ble_eq_true rfl) rfl d_H_init_14 (fun H locs hP hD hS => ?_)
  refine lv_aload_n hx hb d_H_init_17 rfl (lv_at hl 0 rfl) ?_
  refine lv_bipush (v := nI 16) hx hb d_H_init_18 (by decide) ?_
  refine lv_sipush (v := nI 4000) hx hb d_H_init_20 (by decide) ?_
  refine lv_iload_n hx hb d_H_init_23 rfl (lv_at hl 1 rfl) ?_
  refine k_min (rest := [.int (nI 16), .ref x]) S tb_14 hl.1 ⟨Nat.le_of_ble_eq_true rfl, Nat.le_of_ble_eq_true rfl⟩ (Nat.le_of_ble_eq_true rfl) ⟨Nat.le_of_ble_eq_true rfl, Nat.le_of_ble_eq_true rfl⟩ d_H_init_24 ?_
  refine k_max (rest := [.ref x]) S tb_17 hl.1 ⟨Nat.le_of_ble_eq_true rfl, Nat.le_of_ble_eq_true rfl⟩ (Nat.le_of_ble_eq_true rfl) ⟨Nat.le_of_ble_eq_true rfl, Nat.le_of_ble_eq_true rfl⟩ d_H_init_27 ?_
  refine k_top (y := nI (nOf a)) (nOf_mm a) ?_
  refine k_putF (ws' := [(x, .inr (0, [.int (nI (nOf a)), .int 0, .null, .null, .null, .ref ar, .null, .null, .int (nI 1), .int 0, .int 0, .int 0, .int 0])), (ar, .inl (cI, 8, .inl (fun _ => 0)))]) S i_H t_H_ok n_H hK hP hD hS 0 rfl rfl 0 (by decide) tb_40 rfl rfl rfl hin rfl rfl (Nat.le_of_ble_eq_true rfl) rfl d_H_init_30 (fun H locs hP hD hS => ?_)
  refine lv_aload_n hx hb d_H_init_33 rfl (lv_at hl 0 rfl) ?_
  have tail : ∀ (B0 : Nat) (hB0 : B0 = bOf b), W p l e ({ frames := 2, cells := 8, slots := 16579, locals := 42 } : Room) s m args below meth c H locs 1 8 (MQ below (va_Qv (fun _ : Nat × Nat × Nat × Nat × Nat × Nat × Nat × Nat => True) (fun (u : Nat × Nat × Nat × Nat × Nat × Nat × Nat × Nat) t => va_P D classes ((xW x u.1 u.2.1 u.2.2.1 u.2.2.2.1 u.2.2.2.2.1 u.2.2.2.2.2.1 u.2.2.2.2.2.2.1 u.2.2.2.2.2.2.2 cI cL cZ (nOf a) (bOf b) 1 0 0 0 0 (fun _ => 0) (fun _ => 0) (fun _ => 0) (fun _ => 0) (fun _ => 0) (fun _ => 0) (fun _ => 0))) t.heap ∧ va_D A ((xW x u.1 u.2.1 u.2.2.1 u.2.2.2.1 u.2.2.2.2.1 u.2.2.2.2.2.1 u.2.2.2.2.2.2.1 u.2.2.2.2.2.2.2 cI cL cZ (nOf a) (bOf b) 1 0 0 0 0 (fun _ => 0) (fun _ => 0) (fun _ => 0) (fun _ => 0) (fun _ => 0) (fun _ => 0) (fun _ => 0)))) A) args s 8 16579 A) (F0 m 58 ls [.int (nI B0), .ref x]) := by
    intro B0 hB0
    subst hB0
    refine k_putF (ws' := [(x, .inr (0, [.int (nI (nOf a)), .int (nI (bOf b)), .null, .null, .null, .ref ar, .null, .null, .int (nI 1), .int 0, .int 0, .int 0, .int 0])), (ar, .inl (cI, 8, .inl (fun _ => 0)))]) S i_H t_H_ok n_H hK hP hD hS 0 rfl rfl 1 (by decide) tb_41 rfl rfl rfl hin rfl rfl (Nat.le_of_ble_eq_true rfl) rfl d_H_init_58 (fun H locs hP hD hS => ?_)
    refine lv_aload_n hx hb d_H_init_61 rfl (lv_at hl 0 rfl) ?_
    refine lv_aload_n hx hb d_H_init_62 rfl (lv_at hl 0 rfl) ?_
    refine k_get S i_H hK hP 0 rfl rfl 0 (by decide) tb_40 rfl rfl d_H_init_63 ?_
    refine lv_iconst (v := nI 1) hx hb d_H_init_66 (by decide) ?_
    refine k_add hx hb d_H_init_67 ?_
    refine k_newa (ty := .int) (k2 := 2) (s2 := 4009) S rfl tb_37 hK 0 rfl hP hD hS hA (z_int _) (by omega) (by decide) (by omega) (by omega) (Nat.le_of_ble_eq_true rfl) (Nat.le_of_ble_eq_true rfl) d_H_init_68 (fun aw H hP hD hS => ?_)
    have hP : va_P D classes [(x, .inr (0, [.int (nI (nOf a)), .int (nI (bOf b)), .null, .null, .null, .ref ar, .null, .null, .int (nI 1), .int 0, .int 0, .int 0, .int 0])), (ar, .inl (cI, 8, .inl (fun _ => 0))), (aw, .inl (cI, (nOf a) + 1, .inl (fun _ => 0)))] H := hP
    have hD : va_D A [(x, .inr (0, [.int (nI (nOf a)), .int (nI (bOf b)), .null, .null, .null, .ref ar, .null, .null, .int (nI 1), .int 0, .int 0, .int 0, .int 0])), (ar, .inl (cI, 8, .inl (fun _ => 0))), (aw, .inl (cI, (nOf a) + 1, .inl (fun _ => 0)))] := hD
    refine k_put (ws' := [(x, .inr (0, [.int (nI (nOf a)), .int (nI (bOf b)), .ref aw, .null, .null, .ref ar, .null, .null, .int (nI 1), .int 0, .int 0, .int 0, .int 0])), (ar, .inl (cI, 8, .inl (fun _ => 0))), (aw, .inl (cI, (nOf a) + 1, .inl (fun _ => 0)))]) S i_H t_H_ok n_H hK hP hD hS 0 rfl rfl 2 (by decide) tb_42 rfl rfl rfl rfl (Nat.le_of_ble_eq_true rfl) rfl d_H_init_70 (fun H locs hP hD hS => ?_)
    refine lv_aload_n hx hb d_H_init_73 rfl (lv_at hl 0 rfl) ?_
    refine lv_aload_n hx hb d_H_init_74 rfl (lv_at hl 0 rfl) ?_
    refine k_get S i_H hK hP 0 rfl rfl 0 (by decide) tb_40 rfl rfl d_H_init_75 ?_
    refine lv_iconst (v := nI 1) hx hb d_H_init_78 (by decide) ?_
    refine k_add hx hb d_H_init_79 ?_
    refine k_newa (ty := .int) (k2 := 3) (s2 := 8010) S rfl tb_37 hK 0 rfl hP hD hS hA (z_int _) (by omega) (by decide) (by omega) (by omega) (Nat.le_of_ble_eq_true rfl) (Nat.le_of_ble_eq_true rfl) d_H_init_80 (fun af H hP hD hS => ?_)
    have hP : va_P D classes [(x, .inr (0, [.int (nI (nOf a)), .int (nI (bOf b)), .ref aw, .null, .null, .ref ar, .null, .null, .int (nI 1), .int 0, .int 0, .int 0, .int 0])), (ar, .inl (cI, 8, .inl (fun _ => 0))), (aw, .inl (cI, (nOf a) + 1, .inl (fun _ => 0))), (af, .inl (cI, (nOf a) + 1, .inl (fun _ => 0)))] H := hP
    have hD : va_D A [(x, .inr (0, [.int (nI (nOf a)), .int (nI (bOf b)), .ref aw, .null, .null, .ref ar, .null, .null, .int (nI 1), .int 0, .int 0, .int 0, .int 0])), (ar, .inl (cI, 8, .inl (fun _ => 0))), (aw, .inl (cI, (nOf a) + 1, .inl (fun _ => 0))), (af, .inl (cI, (nOf a) + 1, .inl (fun _ => 0)))] := hD
    refine k_put (ws' := [(x, .inr (0, [.int (nI (nOf a)), .int (nI (bOf b)), .ref aw, .ref af, .null, .ref ar, .null, .null, .int (nI 1), .int 0, .int 0, .int 0, .int 0])), (ar, .inl (cI, 8, .inl (fun _ => 0))), (aw, .inl (cI, (nOf a) + 1, .inl (fun _ => 0))), (af, .inl (cI, (nOf a) + 1, .inl (fun _ => 0)))]) S i_H t_H_ok n_H hK hP hD hS 0 rfl rfl 3 (by decide) tb_43 rfl rfl rfl rfl (Nat.le_of_ble_eq_true rfl) rfl d_H_init_82 (fun H locs hP hD hS => ?_)
    refine lv_aload_n hx hb d_H_init_85 rfl (lv_at hl 0 rfl) ?_
    refine lv_aload_n hx hb d_H_init_86 rfl (lv_at hl 0 rfl) ?_
    refine k_get S i_H hK hP 0 rfl rfl 0 (by decide) tb_40 rfl rfl d_H_init_87 ?_
    refine lv_iconst (v := nI 1) hx hb d_H_init_90 (by decide) ?_
    refine k_add hx hb d_H_init_91 ?_
    refine k_newa (ty := .int) (k2 := 4) (s2 := 12011) S rfl tb_37 hK 0 rfl hP hD hS hA (z_int _) (by omega) (by decide) (by omega) (by omega) (Nat.le_of_ble_eq_true rfl) (Nat.le_of_ble_eq_true rfl) d_H_init_92 (fun ap H hP hD hS => ?_)
    have hP : va_P D classes [(x, .inr (0, [.int (nI (nOf a)), .int (nI (bOf b)), .ref aw, .ref af, .null, .ref ar, .null, .null, .int (nI 1), .int 0, .int 0, .int 0, .int 0])), (ar, .inl (cI, 8, .inl (fun _ => 0))), (aw, .inl (cI, (nOf a) + 1, .inl (fun _ => 0))), (af, .inl (cI, (nOf a) + 1, .inl (fun _ => 0))), (ap, .inl (cI, (nOf a) + 1, .inl (fun _ => 0)))] H := hP
    have hD : va_D A [(x, .inr (0, [.int (nI (nOf a)), .int (nI (bOf b)), .ref aw, .ref af, .null, .ref ar, .null, .null, .int (nI 1), .int 0, .int 0, .int 0, .int 0])), (ar, .inl (cI, 8, .inl (fun _ => 0))), (aw, .inl (cI, (nOf a) + 1, .inl (fun _ => 0))), (af, .inl (cI, (nOf a) + 1, .inl (fun _ => 0))), (ap, .inl (cI, (nOf a) + 1, .inl (fun _ => 0)))] := hD
    refine k_putF (ws' := [(x, .inr (0, [.int (nI (nOf a)), .int (nI (bOf b)), .ref aw, .ref af, .null, .ref ar, .ref ap, .null, .int (nI 1), .int 0, .int 0, .int 0, .int 0])), (ar, .inl (cI, 8, .inl (fun _ => 0))), (aw, .inl (cI, (nOf a) + 1, .inl (fun _ => 0))), (af, .inl (cI, (nOf a) + 1, .inl (fun _ => 0))), (ap, .inl (cI, (nOf a) + 1, .inl (fun _ => 0)))]) S i_H t_H_ok n_H hK hP hD hS 0 rfl rfl 6 (by decide) tb_46 rfl rfl rfl hin rfl rfl (Nat.le_of_ble_eq_true rfl) rfl d_H_init_94 (fun H locs hP hD hS => ?_)
    refine lv_aload_n hx hb d_H_init_97 rfl (lv_at hl 0 rfl) ?_
    refine lv_aload_n hx hb d_H_init_98 rfl (lv_at hl 0 rfl) ?_
    refine k_get S i_H hK hP 0 rfl rfl 0 (by decide) tb_40 rfl rfl d_H_init_99 ?_
    refine lv_iconst (v := nI 1) hx hb d_H_init_102 (by decide) ?_
    refine k_add hx hb d_H_init_103 ?_
    refine k_newa (ty := .boolean) (k2 := 5) (s2 := 16012) S rfl tb_38 hK 2 rfl hP hD hS hA (z_bool _) (by omega) (by decide) (by omega) (by omega) (Nat.le_of_ble_eq_true rfl) (Nat.le_of_ble_eq_true rfl) d_H_init_104 (fun az H hP hD hS => ?_)
    have hP : va_P D classes [(x, .inr (0, [.int (nI (nOf a)), .int (nI (bOf b)), .ref aw, .ref af, .null, .ref ar, .ref ap, .null, .int (nI 1), .int 0, .int 0, .int 0, .int 0])), (ar, .inl (cI, 8, .inl (fun _ => 0))), (aw, .inl (cI, (nOf a) + 1, .inl (fun _ => 0))), (af, .inl (cI, (nOf a) + 1, .inl (fun _ => 0))), (ap, .inl (cI, (nOf a) + 1, .inl (fun _ => 0))), (az, .inl (cZ, (nOf a) + 1, .inl (fun _ => 0)))] H := hP
    have hD : va_D A [(x, .inr (0, [.int (nI (nOf a)), .int (nI (bOf b)), .ref aw, .ref af, .null, .ref ar, .ref ap, .null, .int (nI 1), .int 0, .int 0, .int 0, .int 0])), (ar, .inl (cI, 8, .inl (fun _ => 0))), (aw, .inl (cI, (nOf a) + 1, .inl (fun _ => 0))), (af, .inl (cI, (nOf a) + 1, .inl (fun _ => 0))), (ap, .inl (cI, (nOf a) + 1, .inl (fun _ => 0))), (az, .inl (cZ, (nOf a) + 1, .inl (fun _ => 0)))] := hD
    refine k_putF (ws' := [(x, .inr (0, [.int (nI (nOf a)), .int (nI (bOf b)), .ref aw, .ref af, .null, .ref ar, .ref ap, .ref az, .int (nI 1), .int 0, .int 0, .int 0, .int 0])), (ar, .inl (cI, 8, .inl (fun _ => 0))), (aw, .inl (cI, (nOf a) + 1, .inl (fun _ => 0))), (af, .inl (cI, (nOf a) + 1, .inl (fun _ => 0))), (ap, .inl (cI, (nOf a) + 1, .inl (fun _ => 0))), (az, .inl (cZ, (nOf a) + 1, .inl (fun _ => 0)))]) S i_H t_H_ok n_H hK hP hD hS 0 rfl rfl 7 (by decide) tb_47 rfl rfl rfl hin rfl rfl (Nat.le_of_ble_eq_true rfl) rfl d_H_init_106 (fun H locs hP hD hS => ?_)
    refine lv_aload_n hx hb d_H_init_109 rfl (lv_at hl 0 rfl) ?_
    refine k_new (k2 := 6) (s2 := 16015) (ci := 1) (C := R_M) (T := F_M) (N := 3) (fs := [.null, .null, .int 0]) S i_M t_M_ok tb_20 tb_21 tb_3 hK hP hD hS hA rfl (fun j hj => by rcases (show j = 0 ∨ j = 1 ∨ j = 2 by omega) with rfl | rfl | rfl <;> rfl) (by omega) (by omega) (Nat.le_of_ble_eq_true rfl) (Nat.le_of_ble_eq_true rfl) d_H_init_110 (fun am H hP hD hS => ?_)
    have hP : va_P D classes [(x, .inr (0, [.int (nI (nOf a)), .int (nI (bOf b)), .ref aw, .ref af, .null, .ref ar, .ref ap, .ref az, .int (nI 1), .int 0, .int 0, .int 0, .int 0])), (ar, .inl (cI, 8, .inl (fun _ => 0))), (aw, .inl (cI, (nOf a) + 1, .inl (fun _ => 0))), (af, .inl (cI, (nOf a) + 1, .inl (fun _ => 0))), (ap, .inl (cI, (nOf a) + 1, .inl (fun _ => 0))), (az, .inl (cZ, (nOf a) + 1, .inl (fun _ => 0))), (am, .inr (1, [.null, .null, .int 0]))] H := hP
    have hD : va_D A [(x, .inr (0, [.int (nI (nOf a)), .int (nI (bOf b)), .ref aw, .ref af, .null, .ref ar, .ref ap, .ref az, .int (nI 1), .int 0, .int 0, .int 0, .int 0])), (ar, .inl (cI, 8, .inl (fun _ => 0))), (aw, .inl (cI, (nOf a) + 1, .inl (fun _ => 0))), (af, .inl (cI, (nOf a) + 1, .inl (fun _ => 0))), (ap, .inl (cI, (nOf a) + 1, .inl (fun _ => 0))), (az, .inl (cZ, (nOf a) + 1, .inl (fun _ => 0))), (am, .inr (1, [.null, .null, .int 0]))] := hD
    refine lv_dup hx hb d_H_init_113 rfl ?_
    refine lv_aload_n hx hb d_H_init_114 rfl (lv_at hl 0 rfl) ?_
    refine k_get S i_H hK hP 0 rfl rfl 0 (by decide) tb_40 rfl rfl d_H_init_115 ?_
    refine lv_aload_n hx hb d_H_init_118 rfl (lv_at hl 0 rfl) ?_
    refine k_get S i_H hK hP 0 rfl rfl 1 (by decide) tb_41 rfl rfl d_H_init_119 ?_
    refine k_ctI (k2 := 8) (s2 := 16579) (np := 2) (wr := [(x, .inr (0, [.int (nI (nOf a)), .int (nI (bOf b)), .ref aw, .ref af, .null, .ref ar, .ref ap, .ref az, .int (nI 1), .int 0, .int 0, .int 0, .int 0])), (ar, .inl (cI, 8, .inl (fun _ => 0))), (aw, .inl (cI, (nOf a) + 1, .inl (fun _ => 0))), (af, .inl (cI, (nOf a) + 1, .inl (fun _ => 0))), (ap, .inl (cI, (nOf a) + 1, .inl (fun _ => 0))), (az, .inl (cZ, (nOf a) + 1, .inl (fun _ => 0)))]) (As := [.int (nI (nOf a)), .int (nI (bOf b))]) (rest := [.ref am, .ref x]) S (c_M_init hN.2 hB) tb_24 tb_3 tb_22 tb_23 rfl hK hP hD hS hA [6] [0, 1, 2, 3, 4, 5] rfl rfl rfl (by decide) (by decide) (by decide) (by decide +kernel) rfl ⟨rfl, rfl⟩ ⟨(Nat.le_of_ble_eq_true rfl), (Nat.le_of_ble_eq_true rfl)⟩ hl.1 rfl (Nat.le_of_ble_eq_true rfl) d_H_init_122 (by omega) (by omega) (Nat.le_of_ble_eq_true rfl) (Nat.le_of_ble_eq_true rfl) (fun u H locs hP hD hS => ?_)
    obtain ⟨ab, ao⟩ := u
    have hP : va_P D classes [(x, .inr (0, [.int (nI (nOf a)), .int (nI (bOf b)), .ref aw, .ref af, .null, .ref ar, .ref ap, .ref az, .int (nI 1), .int 0, .int 0, .int 0, .int 0])), (ar, .inl (cI, 8, .inl (fun _ => 0))), (aw, .inl (cI, (nOf a) + 1, .inl (fun _ => 0))), (af, .inl (cI, (nOf a) + 1, .inl (fun _ => 0))), (ap, .inl (cI, (nOf a) + 1, .inl (fun _ => 0))), (az, .inl (cZ, (nOf a) + 1, .inl (fun _ => 0))), (am, .inr (1, [.ref ab, .ref ao, .int (nI (bOf b))])), (ab, .inl (cL, nOf a / 64 + 1, .inr (.inl (fun _ => 0)))), (ao, .inl (cI, nOf a / bOf b + 1, .inl (fun _ => 0)))] H := hP
    have hD : va_D A [(x, .inr (0, [.int (nI (nOf a)), .int (nI (bOf b)), .ref aw, .ref af, .null, .ref ar, .ref ap, .ref az, .int (nI 1), .int 0, .int 0, .int 0, .int 0])), (ar, .inl (cI, 8, .inl (fun _ => 0))), (aw, .inl (cI, (nOf a) + 1, .inl (fun _ => 0))), (af, .inl (cI, (nOf a) + 1, .inl (fun _ => 0))), (ap, .inl (cI, (nOf a) + 1, .inl (fun _ => 0))), (az, .inl (cZ, (nOf a) + 1, .inl (fun _ => 0))), (am, .inr (1, [.ref ab, .ref ao, .int (nI (bOf b))])), (ab, .inl (cL, nOf a / 64 + 1, .inr (.inl (fun _ => 0)))), (ao, .inl (cI, nOf a / bOf b + 1, .inl (fun _ => 0)))] := hD
    refine k_putF (ws' := [(x, .inr (0, [.int (nI (nOf a)), .int (nI (bOf b)), .ref aw, .ref af, .ref am, .ref ar, .ref ap, .ref az, .int (nI 1), .int 0, .int 0, .int 0, .int 0])), (ar, .inl (cI, 8, .inl (fun _ => 0))), (aw, .inl (cI, (nOf a) + 1, .inl (fun _ => 0))), (af, .inl (cI, (nOf a) + 1, .inl (fun _ => 0))), (ap, .inl (cI, (nOf a) + 1, .inl (fun _ => 0))), (az, .inl (cZ, (nOf a) + 1, .inl (fun _ => 0))), (am, .inr (1, [.ref ab, .ref ao, .int (nI (bOf b))])), (ab, .inl (cL, nOf a / 64 + 1, .inr (.inl (fun _ => 0)))), (ao, .inl (cI, nOf a / bOf b + 1, .inl (fun _ => 0)))]) S i_H t_H_ok n_H hK hP hD hS 0 rfl rfl 4 (by decide) tb_44 rfl rfl rfl hin rfl rfl (Nat.le_of_ble_eq_true rfl) rfl d_H_init_125 (fun H locs hP hD hS => ?_)
    have hP : va_P D classes (xW x aw af am ab ao ar ap az cI cL cZ (nOf a) (bOf b) 1 0 0 0 0 (fun _ => 0) (fun _ => 0) (fun _ => 0) (fun _ => 0) (fun _ => 0) (fun _ => 0) (fun _ => 0)) H := hP.sub [0, 2, 3, 6, 7, 8, 1, 4, 5] rfl
    have hD : va_D A (xW x aw af am ab ao ar ap az cI cL cZ (nOf a) (bOf b) 1 0 0 0 0 (fun _ => 0) (fun _ => 0) (fun _ => 0) (fun _ => 0) (fun _ => 0) (fun _ => 0) (fun _ => 0)) := hD.sub [0, 2, 3, 6, 7, 8, 1, 4, 5] (by decide) rfl
    exact k_ctret S hr hlocks (aw, af, am, ab, ao, ar, ap, az) hP hD hS (Nat.le_of_ble_eq_true rfl) (Nat.le_of_ble_eq_true rfl) d_H_init_128
  refine lv_iload_n hx hb d_H_init_34 rfl (lv_at hl 2 rfl) ?_
  refine lv_bipush (v := nI 8) hx hb d_H_init_35 (by decide) ?_
  refine lv_icmp_eq (tgt := 52) hx hb d_H_init_37 (by decide) (fun d1 => ?_) (fun d1 => ?_)
  · subst d1
    refine lv_iload_n hx hb d_H_init_52 rfl (lv_at hl 2 rfl) ?_
    refine lv_goto (tgt := 58) hx hb d_H_init_53 (by decide) ?_
    exact tail 8 (by decide)
  · refine lv_iload_n hx hb d_H_init_40 rfl (lv_at hl 2 rfl) ?_
    refine lv_bipush (v := nI 16) hx hb d_H_init_41 (by decide) ?_
    refine lv_icmp_eq (tgt := 52) hx hb d_H_init_43 (by decide) (fun d2 => ?_) (fun d2 => ?_)
    · subst d2
      refine lv_iload_n hx hb d_H_init_52 rfl (lv_at hl 2 rfl) ?_
      refine lv_goto (tgt := 58) hx hb d_H_init_53 (by decide) ?_
      exact tail 16 (by decide)
    · refine lv_iload_n hx hb d_H_init_46 rfl (lv_at hl 2 rfl) ?_
      refine lv_bipush (v := nI 64) hx hb d_H_init_47 (by decide) ?_
      refine lv_icmp_ne (tgt := 56) hx hb d_H_init_49 (by decide) (fun d3 => ?_) (fun d3 => ?_)
      · refine lv_bipush (v := nI 32) hx hb d_H_init_56 (by decide) ?_
        exact tail 32 (by unfold bOf; rw [if_neg d1, if_neg d2, if_neg d3])
      · subst d3
        refine lv_iload_n hx hb d_H_init_52 rfl (lv_at hl 2 rfl) ?_
        refine lv_goto (tgt := 58) hx hb d_H_init_53 (by decide) ?_
        exact tail 64 (by decide)
set_option maxHeartbeats 4000000 in
set_option maxRecDepth 100000 in
/-- an empty model -/
theorem c_D_init {m0 : Nat} (a b : Int32) {sz : Nat} : ctC l y_D_init b_D_init 3 { frames := 1, cells := 7, slots := 24016, locals := 20 } D (tyS cI cL cZ) [.ref m0, .int a, .int b] sz [(m0, .inr (2, [.int 0, .int 0, .int 0, .int 0, .int 0, .int 0, .int 0, .null, .null, .null, .null, .null, .null, .null]))] (fun u : Nat × Nat × Nat × Nat × Nat × Nat × Nat => (dW m0 u.1 u.2.1 u.2.2.1 u.2.2.2.1 u.2.2.2.2.1 u.2.2.2.2.2.1 u.2.2.2.2.2.2 cI cZ (nOf a) (bOf b) 1 0 0 0 0 (fun _ => 0) (fun _ => 0) (fun _ => 0) (fun _ => 0) (fun _ => 0) (fun _ => 0) (fun _ => 0))) 7 24016 := by
  refine ct_of (by decide) rfl (Nat.le_of_ble_eq_true rfl) ?_
  intro p e s m args below meth c A S hr hlocks hin hK hP hD hA hS ls hl
  have hx := S.1
  have hb := S.2.1
  have hl : lv_has ls 3 [(0, .ref m0), (1, .int a), (2, .int b)] := hl
  refine lv_aload_n hx hb d_D_init_0 rfl (lv_at hl 0 rfl) ?_
  refine k_obj S tb_216 tb_12 tb_13 hl.1 ⟨Nat.le_of_ble_eq_true rfl, Nat.le_of_ble_eq_true rfl⟩ (Nat.le_of_ble_eq_true rfl) d_D_init_1 ?_
  refine lv_aload_n hx hb d_D_init_4 rfl (lv_at hl 0 rfl) ?_
  refine lv_iconst (v := nI 1) hx hb d_D_init_5 (by decide) ?_
  refine k_put (ws' := [(m0, .inr (2, [.int 0, .int 0, .int 0, .int (nI 1), .int 0, .int 0, .int 0, .null, .null, .null, .null, .null, .null, .null]))]) S i_D t_D_ok n_D hK hP hD hS 0 rfl rfl 3 (by decide) tb_219 rfl rfl rfl rfl (Nat.le_of_ble_eq_true rfl) rfl d_D_init_6 (fun H locs hP hD hS => ?_)
  refine lv_aload_n hx hb d_D_init_9 rfl (lv_at hl 0 rfl) ?_
  refine lv_sipush (v := nI 4001) hx hb d_D_init_10 (by decide) ?_
  refine k_newa (ty := .int) (k2 := 1) (s2 := 4001) S rfl tb_37 hK 0 rfl hP hD hS hA (z_int _) (by omega) (by decide) (by omega) (by omega) (Nat.le_of_ble_eq_true rfl) (Nat.le_of_ble_eq_true rfl) d_D_init_13 (fun bw H hP hD hS => ?_)
  have hP : va_P D classes [(m0, .inr (2, [.int 0, .int 0, .int 0, .int (nI 1), .int 0, .int 0, .int 0, .null, .null, .null, .null, .null, .null, .null])), (bw, .inl (cI, 4001, .inl (fun _ => 0)))] H := hP
  have hD : va_D A [(m0, .inr (2, [.int 0, .int 0, .int 0, .int (nI 1), .int 0, .int 0, .int 0, .null, .null, .null, .null, .null, .null, .null])), (bw, .inl (cI, 4001, .inl (fun _ => 0)))] := hD
  refine k_putF (ws' := [(m0, .inr (2, [.int 0, .int 0, .int 0, .int (nI 1), .int 0, .int 0, .int 0, .ref bw, .null, .null, .null, .null, .null, .null])), (bw, .inl (cI, 4001, .inl (fun _ => 0)))]) S i_D t_D_ok n_D hK hP hD hS 0 rfl rfl 7 (by decide) tb_223 rfl rfl rfl hin rfl rfl (Nat.le_of_ble_eq_true rfl) rfl d_D_init_15 (fun H locs hP hD hS => ?_)
  refine lv_aload_n hx hb d_D_init_18 rfl (lv_at hl 0 rfl) ?_
  refine lv_sipush (v := nI 4001) hx hb d_D_init_19 (by decide) ?_
  refine k_newa (ty := .int) (k2 := 2) (s2 := 8002) S rfl tb_37 hK 0 rfl hP hD hS hA (z_int _) (by omega) (by decide) (by omega) (by omega) (Nat.le_of_ble_eq_true rfl) (Nat.le_of_ble_eq_true rfl) d_D_init_22 (fun bf H hP hD hS => ?_)
  have hP : va_P D classes [(m0, .inr (2, [.int 0, .int 0, .int 0, .int (nI 1), .int 0, .int 0, .int 0, .ref bw, .null, .null, .null, .null, .null, .null])), (bw, .inl (cI, 4001, .inl (fun _ => 0))), (bf, .inl (cI, 4001, .inl (fun _ => 0)))] H := hP
  have hD : va_D A [(m0, .inr (2, [.int 0, .int 0, .int 0, .int (nI 1), .int 0, .int 0, .int 0, .ref bw, .null, .null, .null, .null, .null, .null])), (bw, .inl (cI, 4001, .inl (fun _ => 0))), (bf, .inl (cI, 4001, .inl (fun _ => 0)))] := hD
  refine k_putF (ws' := [(m0, .inr (2, [.int 0, .int 0, .int 0, .int (nI 1), .int 0, .int 0, .int 0, .ref bw, .ref bf, .null, .null, .null, .null, .null])), (bw, .inl (cI, 4001, .inl (fun _ => 0))), (bf, .inl (cI, 4001, .inl (fun _ => 0)))]) S i_D t_D_ok n_D hK hP hD hS 0 rfl rfl 8 (by decide) tb_224 rfl rfl rfl hin rfl rfl (Nat.le_of_ble_eq_true rfl) rfl d_D_init_24 (fun H locs hP hD hS => ?_)
  refine lv_aload_n hx hb d_D_init_27 rfl (lv_at hl 0 rfl) ?_
  refine lv_sipush (v := nI 4002) hx hb d_D_init_28 (by decide) ?_
  refine k_newa (ty := .boolean) (k2 := 3) (s2 := 12004) S rfl tb_38 hK 2 rfl hP hD hS hA (z_bool _) (by omega) (by decide) (by omega) (by omega) (Nat.le_of_ble_eq_true rfl) (Nat.le_of_ble_eq_true rfl) d_D_init_31 (fun bb H hP hD hS => ?_)
  have hP : va_P D classes [(m0, .inr (2, [.int 0, .int 0, .int 0, .int (nI 1), .int 0, .int 0, .int 0, .ref bw, .ref bf, .null, .null, .null, .null, .null])), (bw, .inl (cI, 4001, .inl (fun _ => 0))), (bf, .inl (cI, 4001, .inl (fun _ => 0))), (bb, .inl (cZ, 4002, .inl (fun _ => 0)))] H := hP
  have hD : va_D A [(m0, .inr (2, [.int 0, .int 0, .int 0, .int (nI 1), .int 0, .int 0, .int 0, .ref bw, .ref bf, .null, .null, .null, .null, .null])), (bw, .inl (cI, 4001, .inl (fun _ => 0))), (bf, .inl (cI, 4001, .inl (fun _ => 0))), (bb, .inl (cZ, 4002, .inl (fun _ => 0)))] := hD
  refine k_putF (ws' := [(m0, .inr (2, [.int 0, .int 0, .int 0, .int (nI 1), .int 0, .int 0, .int 0, .ref bw, .ref bf, .ref bb, .null, .null, .null, .null])), (bw, .inl (cI, 4001, .inl (fun _ => 0))), (bf, .inl (cI, 4001, .inl (fun _ => 0))), (bb, .inl (cZ, 4002, .inl (fun _ => 0)))]) S i_D t_D_ok n_D hK hP hD hS 0 rfl rfl 9 (by decide) tb_225 rfl rfl rfl hin rfl rfl (Nat.le_of_ble_eq_true rfl) rfl d_D_init_33 (fun H locs hP hD hS => ?_)
  refine lv_aload_n hx hb d_D_init_36 rfl (lv_at hl 0 rfl) ?_
  refine lv_sipush (v := nI 4002) hx hb d_D_init_37 (by decide) ?_
  refine k_newa (ty := .boolean) (k2 := 4) (s2 := 16006) S rfl tb_38 hK 2 rfl hP hD hS hA (z_bool _) (by omega) (by decide) (by omega) (by omega) (Nat.le_of_ble_eq_true rfl) (Nat.le_of_ble_eq_true rfl) d_D_init_40 (fun bg H hP hD hS => ?_)
  have hP : va_P D classes [(m0, .inr (2, [.int 0, .int 0, .int 0, .int (nI 1), .int 0, .int 0, .int 0, .ref bw, .ref bf, .ref bb, .null, .null, .null, .null])), (bw, .inl (cI, 4001, .inl (fun _ => 0))), (bf, .inl (cI, 4001, .inl (fun _ => 0))), (bb, .inl (cZ, 4002, .inl (fun _ => 0))), (bg, .inl (cZ, 4002, .inl (fun _ => 0)))] H := hP
  have hD : va_D A [(m0, .inr (2, [.int 0, .int 0, .int 0, .int (nI 1), .int 0, .int 0, .int 0, .ref bw, .ref bf, .ref bb, .null, .null, .null, .null])), (bw, .inl (cI, 4001, .inl (fun _ => 0))), (bf, .inl (cI, 4001, .inl (fun _ => 0))), (bb, .inl (cZ, 4002, .inl (fun _ => 0))), (bg, .inl (cZ, 4002, .inl (fun _ => 0)))] := hD
  refine k_putF (ws' := [(m0, .inr (2, [.int 0, .int 0, .int 0, .int (nI 1), .int 0, .int 0, .int 0, .ref bw, .ref bf, .ref bb, .ref bg, .null, .null, .null])), (bw, .inl (cI, 4001, .inl (fun _ => 0))), (bf, .inl (cI, 4001, .inl (fun _ => 0))), (bb, .inl (cZ, 4002, .inl (fun _ => 0))), (bg, .inl (cZ, 4002, .inl (fun _ => 0)))]) S i_D t_D_ok n_D hK hP hD hS 0 rfl rfl 10 (by decide) tb_226 rfl rfl rfl hin rfl rfl (Nat.le_of_ble_eq_true rfl) rfl d_D_init_42 (fun H locs hP hD hS => ?_)
  refine lv_aload_n hx hb d_D_init_45 rfl (lv_at hl 0 rfl) ?_
  refine lv_bipush (v := nI 8) hx hb d_D_init_46 (by decide) ?_
  refine k_newa (ty := .int) (k2 := 5) (s2 := 16014) S rfl tb_37 hK 0 rfl hP hD hS hA (z_int _) (by omega) (by decide) (by omega) (by omega) (Nat.le_of_ble_eq_true rfl) (Nat.le_of_ble_eq_true rfl) d_D_init_48 (fun br H hP hD hS => ?_)
  have hP : va_P D classes [(m0, .inr (2, [.int 0, .int 0, .int 0, .int (nI 1), .int 0, .int 0, .int 0, .ref bw, .ref bf, .ref bb, .ref bg, .null, .null, .null])), (bw, .inl (cI, 4001, .inl (fun _ => 0))), (bf, .inl (cI, 4001, .inl (fun _ => 0))), (bb, .inl (cZ, 4002, .inl (fun _ => 0))), (bg, .inl (cZ, 4002, .inl (fun _ => 0))), (br, .inl (cI, 8, .inl (fun _ => 0)))] H := hP
  have hD : va_D A [(m0, .inr (2, [.int 0, .int 0, .int 0, .int (nI 1), .int 0, .int 0, .int 0, .ref bw, .ref bf, .ref bb, .ref bg, .null, .null, .null])), (bw, .inl (cI, 4001, .inl (fun _ => 0))), (bf, .inl (cI, 4001, .inl (fun _ => 0))), (bb, .inl (cZ, 4002, .inl (fun _ => 0))), (bg, .inl (cZ, 4002, .inl (fun _ => 0))), (br, .inl (cI, 8, .inl (fun _ => 0)))] := hD
  refine k_putF (ws' := [(m0, .inr (2, [.int 0, .int 0, .int 0, .int (nI 1), .int 0, .int 0, .int 0, .ref bw, .ref bf, .ref bb, .ref bg, .ref br, .null, .null])), (bw, .inl (cI, 4001, .inl (fun _ => 0))), (bf, .inl (cI, 4001, .inl (fun _ => 0))), (bb, .inl (cZ, 4002, .inl (fun _ => 0))), (bg, .inl (cZ, 4002, .inl (fun _ => 0))), (br, .inl (cI, 8, .inl (fun _ => 0)))]) S i_D t_D_ok n_D hK hP hD hS 0 rfl rfl 11 (by decide) tb_227 rfl rfl rfl hin rfl rfl (Nat.le_of_ble_eq_true rfl) rfl d_D_init_50 (fun H locs hP hD hS => ?_)
  refine lv_aload_n hx hb d_D_init_53 rfl (lv_at hl 0 rfl) ?_
  refine lv_sipush (v := nI 4001) hx hb d_D_init_54 (by decide) ?_
  refine k_newa (ty := .int) (k2 := 6) (s2 := 20015) S rfl tb_37 hK 0 rfl hP hD hS hA (z_int _) (by omega) (by decide) (by omega) (by omega) (Nat.le_of_ble_eq_true rfl) (Nat.le_of_ble_eq_true rfl) d_D_init_57 (fun bn H hP hD hS => ?_)
  have hP : va_P D classes [(m0, .inr (2, [.int 0, .int 0, .int 0, .int (nI 1), .int 0, .int 0, .int 0, .ref bw, .ref bf, .ref bb, .ref bg, .ref br, .null, .null])), (bw, .inl (cI, 4001, .inl (fun _ => 0))), (bf, .inl (cI, 4001, .inl (fun _ => 0))), (bb, .inl (cZ, 4002, .inl (fun _ => 0))), (bg, .inl (cZ, 4002, .inl (fun _ => 0))), (br, .inl (cI, 8, .inl (fun _ => 0))), (bn, .inl (cI, 4001, .inl (fun _ => 0)))] H := hP
  have hD : va_D A [(m0, .inr (2, [.int 0, .int 0, .int 0, .int (nI 1), .int 0, .int 0, .int 0, .ref bw, .ref bf, .ref bb, .ref bg, .ref br, .null, .null])), (bw, .inl (cI, 4001, .inl (fun _ => 0))), (bf, .inl (cI, 4001, .inl (fun _ => 0))), (bb, .inl (cZ, 4002, .inl (fun _ => 0))), (bg, .inl (cZ, 4002, .inl (fun _ => 0))), (br, .inl (cI, 8, .inl (fun _ => 0))), (bn, .inl (cI, 4001, .inl (fun _ => 0)))] := hD
  refine k_putF (ws' := [(m0, .inr (2, [.int 0, .int 0, .int 0, .int (nI 1), .int 0, .int 0, .int 0, .ref bw, .ref bf, .ref bb, .ref bg, .ref br, .ref bn, .null])), (bw, .inl (cI, 4001, .inl (fun _ => 0))), (bf, .inl (cI, 4001, .inl (fun _ => 0))), (bb, .inl (cZ, 4002, .inl (fun _ => 0))), (bg, .inl (cZ, 4002, .inl (fun _ => 0))), (br, .inl (cI, 8, .inl (fun _ => 0))), (bn, .inl (cI, 4001, .inl (fun _ => 0)))]) S i_D t_D_ok n_D hK hP hD hS 0 rfl rfl 12 (by decide) tb_228 rfl rfl rfl hin rfl rfl (Nat.le_of_ble_eq_true rfl) rfl d_D_init_59 (fun H locs hP hD hS => ?_)
  refine lv_aload_n hx hb d_D_init_62 rfl (lv_at hl 0 rfl) ?_
  refine lv_sipush (v := nI 4001) hx hb d_D_init_63 (by decide) ?_
  refine k_newa (ty := .int) (k2 := 7) (s2 := 24016) S rfl tb_37 hK 0 rfl hP hD hS hA (z_int _) (by omega) (by decide) (by omega) (by omega) (Nat.le_of_ble_eq_true rfl) (Nat.le_of_ble_eq_true rfl) d_D_init_66 (fun ba H hP hD hS => ?_)
  have hP : va_P D classes [(m0, .inr (2, [.int 0, .int 0, .int 0, .int (nI 1), .int 0, .int 0, .int 0, .ref bw, .ref bf, .ref bb, .ref bg, .ref br, .ref bn, .null])), (bw, .inl (cI, 4001, .inl (fun _ => 0))), (bf, .inl (cI, 4001, .inl (fun _ => 0))), (bb, .inl (cZ, 4002, .inl (fun _ => 0))), (bg, .inl (cZ, 4002, .inl (fun _ => 0))), (br, .inl (cI, 8, .inl (fun _ => 0))), (bn, .inl (cI, 4001, .inl (fun _ => 0))), (ba, .inl (cI, 4001, .inl (fun _ => 0)))] H := hP
  have hD : va_D A [(m0, .inr (2, [.int 0, .int 0, .int 0, .int (nI 1), .int 0, .int 0, .int 0, .ref bw, .ref bf, .ref bb, .ref bg, .ref br, .ref bn, .null])), (bw, .inl (cI, 4001, .inl (fun _ => 0))), (bf, .inl (cI, 4001, .inl (fun _ => 0))), (bb, .inl (cZ, 4002, .inl (fun _ => 0))), (bg, .inl (cZ, 4002, .inl (fun _ => 0))), (br, .inl (cI, 8, .inl (fun _ => 0))), (bn, .inl (cI, 4001, .inl (fun _ => 0))), (ba, .inl (cI, 4001, .inl (fun _ => 0)))] := hD
  refine k_putF (ws' := [(m0, .inr (2, [.int 0, .int 0, .int 0, .int (nI 1), .int 0, .int 0, .int 0, .ref bw, .ref bf, .ref bb, .ref bg, .ref br, .ref bn, .ref ba])), (bw, .inl (cI, 4001, .inl (fun _ => 0))), (bf, .inl (cI, 4001, .inl (fun _ => 0))), (bb, .inl (cZ, 4002, .inl (fun _ => 0))), (bg, .inl (cZ, 4002, .inl (fun _ => 0))), (br, .inl (cI, 8, .inl (fun _ => 0))), (bn, .inl (cI, 4001, .inl (fun _ => 0))), (ba, .inl (cI, 4001, .inl (fun _ => 0)))]) S i_D t_D_ok n_D hK hP hD hS 0 rfl rfl 13 (by decide) tb_229 rfl rfl rfl hin rfl rfl (Nat.le_of_ble_eq_true rfl) rfl d_D_init_68 (fun H locs hP hD hS => ?_)
  refine lv_aload_n hx hb d_D_init_71 rfl (lv_at hl 0 rfl) ?_
  refine lv_iload_n hx hb d_D_init_72 rfl (lv_at hl 1 rfl) ?_
  refine lv_bipush (v := nI 16) hx hb d_D_init_73 (by decide) ?_
  have tailN : ∀ (N0 : Nat) (hN0 : N0 = nOf a), W p l e ({ frames := 1, cells := 7, slots := 24016, locals := 20 } : Room) s m args below meth c H locs 7 24016 (MQ below (va_Qv (fun _ : Nat × Nat × Nat × Nat × Nat × Nat × Nat => True) (fun (u : Nat × Nat × Nat × Nat × Nat × Nat × Nat) t => va_P D classes ((dW m0 u.1 u.2.1 u.2.2.1 u.2.2.2.1 u.2.2.2.2.1 u.2.2.2.2.2.1 u.2.2.2.2.2.2 cI cZ (nOf a) (bOf b) 1 0 0 0 0 (fun _ => 0) (fun _ => 0) (fun _ => 0) (fun _ => 0) (fun _ => 0) (fun _ => 0) (fun _ => 0))) t.heap ∧ va_D A ((dW m0 u.1 u.2.1 u.2.2.1 u.2.2.2.1 u.2.2.2.2.1 u.2.2.2.2.2.1 u.2.2.2.2.2.2 cI cZ (nOf a) (bOf b) 1 0 0 0 0 (fun _ => 0) (fun _ => 0) (fun _ => 0) (fun _ => 0) (fun _ => 0) (fun _ => 0) (fun _ => 0)))) A) args s 7 24016 A) (F0 m 97 ls [.int (nI N0), .ref m0]) := by
    intro N0 hN0
    subst hN0
    refine k_put (ws' := [(m0, .inr (2, [.int 0, .int (nI (nOf a)), .int 0, .int (nI 1), .int 0, .int 0, .int 0, .ref bw, .ref bf, .ref bb, .ref bg, .ref br, .ref bn, .ref ba])), (bw, .inl (cI, 4001, .inl (fun _ => 0))), (bf, .inl (cI, 4001, .inl (fun _ => 0))), (bb, .inl (cZ, 4002, .inl (fun _ => 0))), (bg, .inl (cZ, 4002, .inl (fun _ => 0))), (br, .inl (cI, 8, .inl (fun _ => 0))), (bn, .inl (cI, 4001, .inl (fun _ => 0))), (ba, .inl (cI, 4001, .inl (fun _ => 0)))]) S i_D t_D_ok n_D hK hP hD hS 0 rfl rfl 1 (by decide) tb_217 rfl rfl rfl rfl (Nat.le_of_ble_eq_true rfl) rfl d_D_init_97 (fun H locs hP hD hS => ?_)
    refine lv_aload_n hx hb d_D_init_100 rfl (lv_at hl 0 rfl) ?_
    have tail : ∀ (B0 : Nat) (hB0 : B0 = bOf b), W p l e ({ frames := 1, cells := 7, slots := 24016, locals := 20 } : Room) s m args below meth c H locs 7 24016 (MQ below (va_Qv (fun _ : Nat × Nat × Nat × Nat × Nat × Nat × Nat => True) (fun (u : Nat × Nat × Nat × Nat × Nat × Nat × Nat) t => va_P D classes ((dW m0 u.1 u.2.1 u.2.2.1 u.2.2.2.1 u.2.2.2.2.1 u.2.2.2.2.2.1 u.2.2.2.2.2.2 cI cZ (nOf a) (bOf b) 1 0 0 0 0 (fun _ => 0) (fun _ => 0) (fun _ => 0) (fun _ => 0) (fun _ => 0) (fun _ => 0) (fun _ => 0))) t.heap ∧ va_D A ((dW m0 u.1 u.2.1 u.2.2.1 u.2.2.2.1 u.2.2.2.2.1 u.2.2.2.2.2.1 u.2.2.2.2.2.2 cI cZ (nOf a) (bOf b) 1 0 0 0 0 (fun _ => 0) (fun _ => 0) (fun _ => 0) (fun _ => 0) (fun _ => 0) (fun _ => 0) (fun _ => 0)))) A) args s 7 24016 A) (F0 m 125 ls [.int (nI B0), .ref m0]) := by
      intro B0 hB0
      subst hB0
      refine k_put (ws' := [(m0, .inr (2, [.int 0, .int (nI (nOf a)), .int (nI (bOf b)), .int (nI 1), .int 0, .int 0, .int 0, .ref bw, .ref bf, .ref bb, .ref bg, .ref br, .ref bn, .ref ba])), (bw, .inl (cI, 4001, .inl (fun _ => 0))), (bf, .inl (cI, 4001, .inl (fun _ => 0))), (bb, .inl (cZ, 4002, .inl (fun _ => 0))), (bg, .inl (cZ, 4002, .inl (fun _ => 0))), (br, .inl (cI, 8, .inl (fun _ => 0))), (bn, .inl (cI, 4001, .inl (fun _ => 0))), (ba, .inl (cI, 4001, .inl (fun _ => 0)))]) S i_D t_D_ok n_D hK hP hD hS 0 rfl rfl 2 (by decide) tb_218 rfl rfl rfl rfl (Nat.le_of_ble_eq_true rfl) rfl d_D_init_125 (fun H locs hP hD hS => ?_)
      have hP : va_P D classes (dW m0 bw bf bb bg br bn ba cI cZ (nOf a) (bOf b) 1 0 0 0 0 (fun _ => 0) (fun _ => 0) (fun _ => 0) (fun _ => 0) (fun _ => 0) (fun _ => 0) (fun _ => 0)) H := hP
      have hD : va_D A (dW m0 bw bf bb bg br bn ba cI cZ (nOf a) (bOf b) 1 0 0 0 0 (fun _ => 0) (fun _ => 0) (fun _ => 0) (fun _ => 0) (fun _ => 0) (fun _ => 0) (fun _ => 0)) := hD
      exact k_ctret S hr hlocks (bw, bf, bb, bg, br, bn, ba) hP hD hS (Nat.le_of_ble_eq_true rfl) (Nat.le_of_ble_eq_true rfl) d_D_init_128
    refine lv_iload_n hx hb d_D_init_101 rfl (lv_at hl 2 rfl) ?_
    refine lv_bipush (v := nI 8) hx hb d_D_init_102 (by decide) ?_
    refine lv_icmp_eq (tgt := 119) hx hb d_D_init_104 (by decide) (fun d1 => ?_) (fun d1 => ?_)
    · subst d1
      refine lv_iload_n hx hb d_D_init_119 rfl (lv_at hl 2 rfl) ?_
      refine lv_goto (tgt := 125) hx hb d_D_init_120 (by decide) ?_
      exact tail 8 (by decide)
    · refine lv_iload_n hx hb d_D_init_107 rfl (lv_at hl 2 rfl) ?_
      refine lv_bipush (v := nI 16) hx hb d_D_init_108 (by decide) ?_
      refine lv_icmp_eq (tgt := 119) hx hb d_D_init_110 (by decide) (fun d2 => ?_) (fun d2 => ?_)
      · subst d2
        refine lv_iload_n hx hb d_D_init_119 rfl (lv_at hl 2 rfl) ?_
        refine lv_goto (tgt := 125) hx hb d_D_init_120 (by decide) ?_
        exact tail 16 (by decide)
      · refine lv_iload_n hx hb d_D_init_113 rfl (lv_at hl 2 rfl) ?_
        refine lv_bipush (v := nI 64) hx hb d_D_init_114 (by decide) ?_
        refine lv_icmp_ne (tgt := 123) hx hb d_D_init_116 (by decide) (fun d3 => ?_) (fun d3 => ?_)
        · refine lv_bipush (v := nI 32) hx hb d_D_init_123 (by decide) ?_
          exact tail 32 (by unfold bOf; rw [if_neg d1, if_neg d2, if_neg d3])
        · subst d3
          refine lv_iload_n hx hb d_D_init_119 rfl (lv_at hl 2 rfl) ?_
          refine lv_goto (tgt := 125) hx hb d_D_init_120 (by decide) ?_
          exact tail 64 (by decide)
  refine lv_icmp_ge (tgt := 83) hx hb d_D_init_75 (by decide) (fun e1 => ?_) (fun e1 => ?_)
  · refine lv_iload_n hx hb d_D_init_83 rfl (lv_at hl 1 rfl) ?_
    refine lv_sipush (v := nI 4000) hx hb d_D_init_84 (by decide) ?_
    refine lv_icmp_le (tgt := 96) hx hb d_D_init_87 (by decide) (fun e2 => ?_) (fun e2 => ?_)
    · have e3 : nOf a = hdN a ∧ a = nI (nOf a) := by
        rcases nOf_cases a with ⟨h, -⟩ | ⟨-, h, -⟩ | ⟨h1, h2, h3, -⟩
        · exact absurd h (Int32.not_lt.mpr e1)
        · exact absurd h (Int32.not_lt.mpr e2)
        · exact ⟨by unfold nOf; rw [if_neg h1, if_neg h2], h3⟩
      refine lv_iload_n hx hb d_D_init_96 rfl (lv_at hl 1 rfl) ?_
      refine k_top (y := nI (nOf a)) (e3.2) ?_
      exact tailN _ rfl
    · have e3 : nOf a = 4000 := by unfold nOf; rw [if_neg (Int32.not_lt.mpr e1), if_pos (Int32.not_le.mp e2)]
      refine lv_sipush (v := nI 4000) hx hb d_D_init_90 (by decide) ?_
      refine lv_goto (tgt := 97) hx hb d_D_init_93 (by decide) ?_
      exact tailN _ e3.symm
  · have e3 : nOf a = 16 := by unfold nOf; rw [if_pos (Int32.not_le.mp e1)]
    refine lv_bipush (v := nI 16) hx hb d_D_init_78 (by decide) ?_
    refine lv_goto (tgt := 97) hx hb d_D_init_80 (by decide) ?_
    exact tailN _ e3.symm
end CT
end
section
/-! THE PLAIN LAW, last: each change keeps the heap's shape; class and model agree -/
theorem Hp.word {N T : Nat} {w rt : Nat → Int32} {L : List Nat} (hH : Hp N T w L rt) {a j : Nat} {v : Int32} (ha : a ∈ L) (h1 : a < j) (h2 : j < a + szN (w a)) (hv : j ≤ a + rfN (w a) → Ld L v) : Hp N T (upd w j v) L rt := by
  have hob := hH.obj ha
  have hne : ∀ x ∈ L, x ≠ j := fun x hx e => by
    subst e
    have := hH.one ha hx (Nat.le_of_lt h1) h2 (Nat.le_refl _) (by have := szN_pos (w x); omega)
    omega
  have hw : ∀ x ∈ L, upd w j v x = w x := fun x hx => pk_un (hne x hx)
  refine ⟨hH.N, hH.2.1, hH.ch.congr hw, fun i hi => ?_, ?_, fun x hx k hk => ?_, hH.rt⟩
  · rw [pk_un (by omega)]; exact hH.zero i hi
  · rw [pk_un (by omega)]; exact hH.w0
  · rw [hw x hx] at hk
    by_cases e : x + 1 + k = j
    · rw [e, pk_us]
      have hs : szN (w x) = 1 + rfN (w x) + plN (w x) := rfl
      have := hH.one ha hx (i := j) (Nat.le_of_lt h1) h2 (by omega) (by omega)
      subst this
      exact hv (by omega)
    · rw [pk_un e]; exact hH.rf x hx k hk
theorem Hp.refer {N T : Nat} {w rt : Nat → Int32} {L : List Nat} (hH : Hp N T w L rt) (o k v : Int32) : Hp N T (rfW w L o k v) L rt := by
  unfold rfW
  cases h : rfS w L o k v
  · exact hH
  · simp only [rfS, Bool.and_eq_true] at h
    obtain ⟨⟨h1, h2⟩, h3⟩ := h
    obtain ⟨t, ht, -, e, -, -⟩ := isO_nat hH h1
    rw [e] at h2 ⊢
    have hr := rfN_lt (w t)
    obtain ⟨kn, hk, rfl⟩ := inR_m1 (by omega) h2
    rw [hdN_nI (by omega)]
    have hs : szN (w t) = 1 + rfN (w t) + plN (w t) := rfl
    exact hH.word ht (by omega) (by omega) (fun _ => isLd_iff.mp h3)
theorem Hp.put {N T : Nat} {w rt : Nat → Int32} {L : List Nat} (hH : Hp N T w L rt) (o k v : Int32) : Hp N T (stW w L o k v) L rt := by
  unfold stW
  cases h : stS w L o k
  · exact hH
  · simp only [stS, Bool.and_eq_true] at h
    obtain ⟨h1, h2⟩ := h
    obtain ⟨t, ht, -, e, -, -⟩ := isO_nat hH h1
    rw [e] at h2 ⊢
    have hp := plN_lt (w t)
    obtain ⟨kn, hk, rfl⟩ := inR_m1 (by omega) h2
    rw [hdN_nI (by omega)]
    have hs : szN (w t) = 1 + rfN (w t) + plN (w t) := rfl
    exact hH.word ht (by omega) (by omega) (fun q => by omega)
theorem Hp.root {N T : Nat} {w rt : Nat → Int32} {L : List Nat} (hH : Hp N T w L rt) (k o : Int32) : Hp N T w L (roW rt L k o) := by
  unfold roW
  cases h : roS L k o
  · exact hH
  · simp only [roS, Bool.and_eq_true] at h
    refine ⟨hH.N, hH.2.1, hH.ch, hH.zero, hH.w0, hH.rf, fun j hj => ?_⟩
    show Ld L (upd rt (hdN k) o j)
    by_cases e : j = hdN k
    · rw [e, pk_us]; exact isLd_iff.mp h.2
    · rw [pk_un e]; exact hH.rt j hj
theorem sz_hd {r q : Nat} (hr : r ≤ 15) (hq : q ≤ 100) : szN (nI (256 * q + 16 * r)) = 1 + r + q ∧ rfN (nI (256 * q + 16 * r)) = r := by
  unfold szN rfN plN
  rw [hdN_nI (by omega)]
  omega
theorem Ld.more {L L' : List Nat} {v : Int32} (h : Ld L v) (hs : ∀ a ∈ L, a ∈ L') : Ld L' v := by
  obtain ⟨t, e, h⟩ := h
  exact ⟨t, e, h.imp id (hs t)⟩
theorem Hp.new {N T : Nat} {w rt : Nat → Int32} {L : List Nat} (hH : Hp N T w L rt) {r q : Nat} (hr : r ≤ 15) (hq : q ≤ 100) (hT : T + r + q ≤ N) : Hp N (T + 1 + r + q) (upd w T (nI (256 * q + 16 * r))) (L ++ [T]) rt := by
  have hN := hH.N
  have hTT := hH.T
  obtain ⟨e1, e2⟩ := sz_hd hr hq
  have hlt : ∀ a ∈ L, a + szN (w a) ≤ T := fun a ha => (hH.obj ha).2.1
  have hw : ∀ a ∈ L, upd w T (nI (256 * q + 16 * r)) a = w a := fun a ha => pk_un (by have := hlt a ha; have := szN_pos (w a); omega)
  refine ⟨hN, by omega, ?_, fun j hj => ?_, ?_, fun a ha k hk => ?_, fun k hk => (hH.rt k hk).more (fun a ha => List.mem_append_left _ ha)⟩
  · refine Chn.app.mpr ⟨T, hH.ch.congr hw, rfl, ?_, ?_⟩
    · rw [pk_us]; exact nI_pos (by omega)
    · rw [pk_us, e1]
      show T + (1 + r + q) = T + 1 + r + q
      omega
  · rw [pk_un (by omega)]; exact hH.zero j (by omega)
  · rw [pk_un (by omega)]; exact hH.w0
  · rcases List.mem_append.mp ha with ha | ha
    · rw [hw a ha] at hk
      have hs : szN (w a) = 1 + rfN (w a) + plN (w a) := rfl
      have := hlt a ha
      rw [pk_un (by omega)]
      exact (hH.rf a ha k hk).more (fun a ha => List.mem_append_left _ ha)
    · rw [List.mem_singleton.mp ha]
      rw [pk_un (by omega), hH.zero _ (by omega)]
      exact ⟨0, nI_0.symm, Or.inl rfl⟩
theorem Hp.make {N T O T1 O1 : Nat} {w rt w1 : Nat → Int32} {L : List Nat} {v : Int32} (hH : Hp N T w L rt) (hO : O = L.length) (r q : Int32) (h : (v, T1, O1, w1) = mkS N T O w r q) : Hp N T1 w1 (mkL N T L r q) rt ∧ O1 = (mkL N T L r q).length := by
  unfold mkS at h
  unfold mkL
  cases h1 : inR r (nI 0) (nI 15)
  · rw [h1] at h
    cases h
    exact ⟨hH, hO⟩
  · cases h2 : inR q (nI 0) (nI 100)
    · rw [h1, h2] at h
      cases h
      exact ⟨hH, hO⟩
    · obtain ⟨rn, hr, rfl⟩ := inR_nat (by omega) h1
      obtain ⟨qn, hq, rfl⟩ := inR_nat (by omega) h2
      rw [h1, h2, hdN_nI (by omega), hdN_nI (by omega)] at h
      rw [hdN_nI (by omega), hdN_nI (by omega)]
      have h : (v, T1, O1, w1) = if T + rn + qn ≤ N then _ else _ := h
      by_cases h3 : T + rn + qn ≤ N
      · rw [if_pos h3] at h
        cases h
        rw [show decide (T + rn + qn ≤ N) = true by simp [h3]]
        refine ⟨hH.new hr hq h3, ?_⟩
        show O + 1 = (L ++ [T]).length
        rw [List.length_append, hO]; rfl
      · rw [if_neg h3] at h
        cases h
        rw [show decide (T + rn + qn ≤ N) = false by simp; omega]
        exact ⟨hH, hO⟩
/-- between the law's steps -/
def Inv (N B T O : Nat) (w rt : Nat → Int32) (L : List Nat) (bs : Nat → Int64) (os : Nat → Int32) (bt : Nat → Bool) (gn wn : Nat → Int32) : Prop :=
  Hp N T w L rt ∧ Bk B ∧ Mp N B bs os ∧ (∀ j, j ≤ N → bitAt bs j = bt j) ∧ Bg N L gn ∧ Wn N bt wn ∧ O = L.length
theorem cnt_eq {N : Nat} {bs : Nat → Int64} {bt : Nat → Bool} (h : ∀ j, j ≤ N → bitAt bs j = bt j) {i : Nat} (hi : i ≤ N + 1) : cnt (bitAt bs) 0 i = cnt bt 0 i := cnt_congr (fun j hj => by rw [Nat.zero_add]; exact h j (by omega))
theorem bt_eq {N : Nat} {bs : Nat → Int64} {bt : Nat → Bool} (hN : N ≤ 4000) (h : ∀ j, j ≤ N → bitAt bs j = bt j) (i : Int32) : btS N (bitAt bs) i = btS N bt i := by
  unfold btS
  cases h1 : inR i (nI 0) (nI N)
  · rfl
  · obtain ⟨k, hk, rfl⟩ := inR_nat (by omega) h1
    rw [hdN_nI (by omega), h k hk]
theorem mv_eq {N : Nat} {bs : Nat → Int64} {bt : Nat → Bool} (hN : N ≤ 4000) (h : ∀ j, j ≤ N → bitAt bs j = bt j) (i : Int32) : mvS N (bitAt bs) i = mvS N bt i := by
  unfold mvS
  cases h1 : inR i (nI 0) (nI N)
  · rfl
  · obtain ⟨k, hk, rfl⟩ := inR_nat (by omega) h1
    rw [hdN_nI (by omega), h k hk, cnt_eq h (by omega)]
theorem of_eq {N B : Nat} {bs : Nat → Int64} {os : Nat → Int32} {bt : Nat → Bool} (hN : N ≤ 4000) (hM : Mp N B bs os) (h : ∀ j, j ≤ N → bitAt bs j = bt j) (i : Int32) : (if inR i (nI 0) (nI (N / B)) then os i.toNatClampNeg else -1) = ofS N B bt i := by
  unfold ofS
  cases h1 : inR i (nI 0) (nI (N / B))
  · rfl
  · have hq := Nat.div_le_self N B
    obtain ⟨k, hk, rfl⟩ := inR_nat (by omega) h1
    have hkB : k * B ≤ N := Nat.le_trans (Nat.mul_le_mul_right B hk) (Nat.div_mul_le_self N B)
    rw [nI_clamp (by omega), hdN_nI (by omega), hM k hk, cnt_eq h (by omega)]
theorem Inv.start (a b : Int32) : Inv (nOf a) (bOf b) 1 0 (fun _ => 0) (fun _ => 0) [] (fun _ => 0) (fun _ => 0) (fun _ => false) (fun _ => 0) (fun _ => 0) := by
  have hb : ∀ j, bitAt (fun _ => 0) j = false := fun j => bit_0 rfl
  refine ⟨⟨nOf_in a, by have := nOf_in a; omega, rfl, fun _ _ => rfl, rfl, fun a ha => absurd ha List.not_mem_nil, fun k _ => ⟨0, rfl, Or.inl rfl⟩⟩, bOf_ok b, fun k hk => ?_, fun j _ => hb j, fun a _ => rfl, fun j _ => rfl, rfl⟩
  rw [cnt_none (fun j _ => hb _)]
  rfl
theorem gt_sub {i Ln : Nat} (hL : Ln ≤ 2050) (hi : i ≤ 3000) : nI Ln - nI 4 < nI i ↔ Ln < i + 4 := by
  rw [Int32.lt_iff_toInt_lt, pk_sub_toInt (by omega) (by omega), nI_toInt (by omega)]
  omega
theorem sw_cases (v : Int32) : ∃ j : Nat, j < 16 ∧ v &&& nI 15 = nI j := pk_andE v (m := nI 15) 4 (by decide)
end
section
/-! THE CLAIM OUT OF ONE WALK OF THE LAW'S BODY. Your part is whole_start (and what it stands on); all else here is the same for every law, but numbers. -/
def R_law : String := "OffsetHeapLaw"
def lw_P (b : Addr) (xs : List Int32) (args : Array Value) (s : State) : Prop := args = #[.ref b] ∧ s.IntsAt b xs ∧ xs.length ≤ 2050 ∧ (Jvm.Cond.and given_1 narrow_1).before args s = true
def lw_Q (_ : Array Value) (s : State) (o : Outcome) (t : State) : Prop := o = .returned (some (.int 1)) ∧ Framed s o t [] 600000 7302250
def lw_Z (below : List Frame) (a : Array Value) (s : State) : State → Prop := fun t => ∃ o, t.status = .running ∧ Ended t below o ∧ lw_Q a s o t
/-- the law's own end, with 1 on the stack, nothing written that was there before, its room as the claim has it -/
theorem lw_ret {p : Program} {l : Launch} {e : Env} {s : State} {m : MethodId} {below : List Frame} {meth : Method} {c : Code} {b : Nat} (hx : p.tables.exec = Jvm.exec) (hb : c.code = code) (hr : meth.sig.returnType = ret) (hlocks : meth.locks = false) {pc : Nat} {H : Heap} {ls : Array Slot} (hdg : decode code pc = .ok (.ireturn, 1)) : W p l e room_1 s m #[Value.ref b] below meth c H [] 600000 7302250 (lw_Z below #[Value.ref b] s) (F0 m pc ls [.int 1]) := by
  intro T hT X
  obtain ⟨fs, hret, hrun, hended, hW, hframe⟩ := X.leave (v := some (.int 1)) (hlocks := hlocks) (fun h => by rw [hr] at h; cases h)
  have hmeth' : T.vm.method? m = some meth := X.method'
  refine ⟨T.setFrames fs, ?_, .returned (some (.int 1)), hrun, hended, rfl, ⟨_, rfl⟩, hW, hframe⟩
  jvm_step X.here [X.here.top, hx, hb, hdg, hmeth', hr, ret, narrow_b1]
  (try refine ⟨rfl, ?_⟩); (try refine ⟨rfl, ?_⟩)
  first | (intro acts; rw [hret _ acts rfl rfl rfl]) | rw [hret _ _ rfl rfl rfl]
  exact Steps.refl _
/-- what holds at the law's entry: the machine, the code, the tables' words (any of lw_tbl by 'hts w (by decide +kernel)'), the script of L ints xs at the cell b, what the Statement gives of the start (any of its parts by flat_of_before) -/
def lw_At (p : Program) (s : State) (m : MethodId) (meth : Method) (c : Code) (b L : Nat) (xs : Nat → Int32) : Prop :=
  p.tables.exec = Jvm.exec ∧ c.code = code ∧ meth.sig.returnType = ret ∧ c.maxLocals = 4 ∧ s.vm.findClass R_law = some m.cls ∧ (∀ w ∈ lw_tbl, w.before #[Value.ref b] s = true) ∧ va_X b L xs s s.heap ∧ b < s.heap.size ∧ meth.locks = false ∧ (Jvm.Cond.and given_1 narrow_1).before #[Value.ref b] s = true
section KS
variable {p : Program} {l : Launch} {e : Env} {R : Room} {s : State} {m : MethodId} {args : Array Value} {below : List Frame} {meth : Method} {c : Code} {H : Heap} {locs : List Loc} {cells slots : Nat} {Q : State → Prop} {cc : ByteArray} {pc : Nat} {ls : Array Slot} {rest : List Value} {A : Nat → Prop} {H0 : Heap}
theorem k_slen (hx : p.tables.exec = Jvm.exec) (hb : c.code = cc) {sb Ln : Nat} {xs : Nat → Int32} (hX : va_X sb Ln xs s H0) (hbl : sb < H0.size) (hbA : ¬ A sb) (hS : va_S A H0 H locs) (hdg : decode cc pc = .ok (.arraylength, 1))
    (kk : W p l e R s m args below meth c H locs cells slots Q (F0 m (pc + 1) ls (.int (nI Ln) :: rest))) : W p l e R s m args below meth c H locs cells slots Q (F0 m pc ls (.ref sb :: rest)) := va_slen hx hb hX hbl hbA hS hdg kk
theorem k_sld (hx : p.tables.exec = Jvm.exec) (hb : c.code = cc) {sb Ln : Nat} {xs : Nat → Int32} (hX : va_X sb Ln xs s H0) (hbl : sb < H0.size) (hbA : ¬ A sb) (hS : va_S A H0 H locs) {i : Nat} (hi : i < Ln) (hL : Ln < 2 ^ 31) (hdg : decode cc pc = .ok (.iaload, 1))
    (kk : W p l e R s m args below meth c H locs cells slots Q (F0 m (pc + 1) ls (.int (xs i) :: rest))) : W p l e R s m args below meth c H locs cells slots Q (F0 m pc ls (.int (nI i) :: .ref sb :: rest)) :=
  va_sld hx hb hX hbl hbA hS (vp_in_nI hi hL) hdg (k_top (by rw [nI_clamp (Nat.lt_trans hi hL)]) kk)
end KS
/-- the tables' words at the law's entry -/
theorem law_fix {p : Program} {s : State} {m : MethodId} {meth : Method} {c : Code} {sb Ln : Nat} {xs : Nat → Int32} (C0 : lw_At p s m meth c sb Ln xs) : CallFix p m c code 4 s #[Value.ref sb] (Cond.initialized R_L :: GT) R_L :=
  ⟨C0.1, C0.2.1, C0.2.2.2.1, C0.2.2.2.2.1, fun w hw => C0.2.2.2.2.2.1 w (by
    rcases List.mem_cons.mp hw with rfl | hw
    · exact (List.mem_filter.mp tb_0).1
    · exact (List.mem_filter.mp hw).1)⟩
set_option maxHeartbeats 4000000 in
set_option maxRecDepth 100000 in
/-- cell: an int of the script, or 0 -/
theorem c_L_cell {l : Launch} {sb Ln : Nat} {xs : Nat → Int32} (k : Nat) (hk : k ≤ 1) (hL : Ln ≤ 2050) : Met l y_L_cell (.code y_L_cell b_L_cell 2 (some .int) :: GT) ({ frames := 0, cells := 0, slots := 0, locals := 0 } : Room) (va_Pc [.ref sb, .int (nI k)] (fun U => va_X sb Ln xs U U.heap ∧ sb < U.heap.size)) (vp_Si (fun r => r = if k < Ln then xs k else 0)) 0 0 (fun _ => False) := by
  refine Met.ofW (cc := b_L_cell) (maxL := 2) (ret := some .int) (by decide) rfl ?_
  intro p e s m args below meth c s₁ B hml hv
  obtain ⟨rfl, hX, hbl⟩ := hv
  have S : CallFix p m c b_L_cell 2 s _ (.code y_L_cell b_L_cell 2 (some .int) :: GT) y_L_cell.cls := ⟨B.exec, B.bytes, hml, findClass_of_methodNamed B.named, atoms_spec (ws := .code y_L_cell b_L_cell 2 (some .int) :: GT) B.pre⟩
  have hx := S.1
  have hb := S.2.1
  have hr := B.returns
  have hlocks := B.notSynchronized
  have hS : va_S (fun _ : Nat => False) s.heap s.heap [] := va_S.rf
  have hbA : ¬ (fun _ : Nat => False) sb := fun h => h
  have hl := lv_entry ([.ref sb, .int (nI k)]) (n := 2) (Nat.le_of_ble_eq_true rfl)
  rw [lg_entry_eq]
  generalize (lg_sl ([.ref sb, .int (nI k)]) ++ List.replicate (2 - (lg_sl ([.ref sb, .int (nI k)])).length) Slot.unset).toArray = ls at hl ⊢
  have hl : lv_has ls 2 [(0, .ref sb), (1, .int (nI k))] := hl
  refine lv_iload_n hx hb d_L_cell_0 rfl (lv_at hl 1 rfl) ?_
  refine lv_aload_n hx hb d_L_cell_1 rfl (lv_at hl 0 rfl) ?_
  refine k_slen hx hb hX hbl hbA hS d_L_cell_2 ?_
  refine k_ige (tgt := 12) hx hb d_L_cell_3 (by decide) (by omega) (by omega) (fun c1 => ?_) (fun c1 => ?_)
  · refine lv_iconst (v := nI 0) hx hb d_L_cell_12 (by decide) ?_
    refine k_top (y := 0) (rfl) ?_
    exact k_ret S hr hlocks (by rw [if_neg (by omega)]) d_L_cell_13
  · refine lv_aload_n hx hb d_L_cell_6 rfl (lv_at hl 0 rfl) ?_
    refine lv_iload_n hx hb d_L_cell_7 rfl (lv_at hl 1 rfl) ?_
    refine k_sld hx hb hX hbl hbA hS (by omega) (by omega) d_L_cell_8 ?_
    refine lv_goto (tgt := 13) hx hb d_L_cell_9 (by decide) ?_
    exact k_ret S hr hlocks (by rw [if_pos c1]) d_L_cell_13
end
section
set_option maxHeartbeats 40000000 in
set_option maxRecDepth 100000 in
/-- THE LAW'S LOOP -/
theorem law_loop {p : Program} {l : Launch} {e : Env} {s : State} {m : MethodId} {below : List Frame} {meth : Method} {c : Code} {sb Ln : Nat} {xs : Nat → Int32} (hL : Ln ≤ 2050) (C0 : lw_At p s m meth c sb Ln xs) {D : va_G} {cI cL cZ : ClassId} (hK : kK D (tyS cI cL cZ) s) {x am ab ao ar ap az m0 bw bf bb bg br bn ba N B : Nat} :
    ∀ (n i : Nat) (aw af T O C R : Nat) (rf th : Int32) (w f : Nat → Int32) (bs : Nat → Int64) (os rt op sn g gn fg wn fr : Nat → Int32) (Lo : List Nat) (bt : Nat → Bool), Ln < i + n → i ≤ Ln + 6 → Inv N B T O w rt Lo bs os bt gn wn → ∀ (H : Heap) (locs : List Loc), va_P D classes ((xW x aw af am ab ao ar ap az cI cL cZ N B T O C R rf w f bs os rt op sn) ++ (dW m0 bw bf bb bg br bn ba cI cZ N B T O C R th w g gn fg rt wn fr)) H → va_D (fun q : Nat => s.heap.size ≤ q) ((xW x aw af am ab ao ar ap az cI cL cZ N B T O C R rf w f bs os rt op sn) ++ (dW m0 bw bf bb bg br bn ba cI cZ N B T O C R th w g gn fg rt wn fr)) → va_S (fun q : Nat => s.heap.size ≤ q) s.heap H locs → ∀ ls : Array Slot, lv_has ls 4 [(3, .int (nI i)), (2, .ref m0), (1, .ref x), (0, .ref sb)] → W p l e room_1 s m #[Value.ref sb] below meth c H locs 17 40622 (lw_Z below #[Value.ref sb] s) (F0 m 38 ls []) := by
  have S := law_fix C0
  obtain ⟨hx, hb, hr, hml, hown, hts, hX, hbl, hlocks, hgv⟩ := C0
  obtain ⟨A, eA⟩ : ∃ A : Nat → Prop, A = fun q : Nat => s.heap.size ≤ q := ⟨_, rfl⟩
  rw [← eA]
  have hA : ∀ q : Nat, s.heap.size ≤ q → A q := fun q h => by rw [eA]; exact h
  have hbA : ¬ A sb := by rw [eA]; exact Nat.not_le.mpr hbl
  intro n
  induction n with
  | zero =>
    intro i aw af T O C R rf th w f bs os rt op sn g gn fg wn fr Lo bt h1 h2 hI H locs hP hD hS ls hl
    refine lv_iload_n hx hb d_L_law_38 rfl (lv_at hl 0 rfl) ?_
    refine lv_aload_n hx hb d_L_law_39 rfl (lv_at hl 3 rfl) ?_
    refine k_slen hx hb hX hbl hbA hS d_L_law_40 ?_
    refine lv_iconst (v := nI 4) hx hb d_L_law_41 (by decide) ?_
    refine lv_isub hx hb d_L_law_42 ?_
    refine lv_icmp_gt (tgt := 509) hx hb d_L_law_43 (by decide) (fun c1 => ?_) (fun c1 => ?_)
    · refine lv_iconst (v := nI 1) hx hb d_L_law_509 (by decide) ?_
      refine k_top (y := 1) rfl ?_
      refine va_forget (fun q hq => by have := hS.2.2 q hq; rw [eA] at this; exact this) ?_
      refine W.widen (k := 600000) (n := 7302250) (Nat.le_of_ble_eq_true rfl) (Nat.le_of_ble_eq_true rfl) ?_
      exact lw_ret hx hb hr hlocks d_L_law_510
    · exact absurd ((gt_sub hL (by omega)).mpr (by omega)) c1
  | succ n ih =>
    intro i aw af T O C R rf th w f bs os rt op sn g gn fg wn fr Lo bt h1 h2 hI H locs hP hD hS ls hl
    refine lv_iload_n hx hb d_L_law_38 rfl (lv_at hl 0 rfl) ?_
    refine lv_aload_n hx hb d_L_law_39 rfl (lv_at hl 3 rfl) ?_
    refine k_slen hx hb hX hbl hbA hS d_L_law_40 ?_
    refine lv_iconst (v := nI 4) hx hb d_L_law_41 (by decide) ?_
    refine lv_isub hx hb d_L_law_42 ?_
    refine lv_icmp_gt (tgt := 509) hx hb d_L_law_43 (by decide) (fun c1 => ?_) (fun c1 => ?_)
    · refine lv_iconst (v := nI 1) hx hb d_L_law_509 (by decide) ?_
      refine k_top (y := 1) rfl ?_
      refine va_forget (fun q hq => by have := hS.2.2 q hq; rw [eA] at this; exact this) ?_
      refine W.widen (k := 600000) (n := 7302250) (Nat.le_of_ble_eq_true rfl) (Nat.le_of_ble_eq_true rfl) ?_
      exact lw_ret hx hb hr hlocks d_L_law_510
    · have hi4 : i + 4 ≤ Ln := by
        rcases Nat.lt_or_ge Ln (i + 4) with q | q
        · exact absurd ((gt_sub hL (by omega)).mpr q) c1
        · exact q
      obtain ⟨hH, hB, hM, hbit, hG, hW, hO⟩ := hI
      have hN := hH.N
      have hBp := hB.pos
      have next : ∀ (aw af T O C R : Nat) (rf th : Int32) (w f : Nat → Int32) (bs : Nat → Int64) (os rt op sn g gn fg wn fr : Nat → Int32) (Lo : List Nat) (bt : Nat → Bool), Inv N B T O w rt Lo bs os bt gn wn → ∀ (H : Heap) (locs : List Loc), va_P D classes ((xW x aw af am ab ao ar ap az cI cL cZ N B T O C R rf w f bs os rt op sn) ++ (dW m0 bw bf bb bg br bn ba cI cZ N B T O C R th w g gn fg rt wn fr)) H → va_D A ((xW x aw af am ab ao ar ap az cI cL cZ N B T O C R rf w f bs os rt op sn) ++ (dW m0 bw bf bb bg br bn ba cI cZ N B T O C R th w g gn fg rt wn fr)) → va_S A s.heap H locs → ∀ ls : Array Slot, lv_has ls 4 [(3, .int (nI i)), (2, .ref m0), (1, .ref x), (0, .ref sb)] → W p l e room_1 s m #[Value.ref sb] below meth c H locs 17 40622 (lw_Z below #[Value.ref sb] s) (F0 m 503 ls []) := by
        intro aw af T O C R rf th w f bs os rt op sn g gn fg wn fr Lo bt hI H locs hP hD hS ls hl
        refine lv_iinc (k := 0) (v := nI (i + 4)) (lv' := [(3, .int (nI (i + 4))), (2, .ref m0), (1, .ref x), (0, .ref sb)]) hx hb d_L_law_503 hl rfl (nI_add _ _) (by decide) rfl (fun ls hl => ?_)
        refine lv_goto (tgt := 38) hx hb d_L_law_506 (by decide) ?_
        exact ih (i + 4) aw af T O C R rf th w f bs os rt op sn g gn fg wn fr Lo bt (by omega) (by omega) hI H locs hP hD hS ls (lv_sub hl [0, 1, 2, 3] rfl)
      refine lv_aload_n hx hb d_L_law_46 rfl (lv_at hl 3 rfl) ?_
      refine lv_iload_n hx hb d_L_law_47 rfl (lv_at hl 0 rfl) ?_
      refine k_sld hx hb hX hbl hbA hS (by omega) (by omega) d_L_law_48 ?_
      refine lv_bipush (v := nI 15) hx hb d_L_law_49 (by decide) ?_
      refine lv_iand hx hb d_L_law_51 ?_
      obtain ⟨sj, hsj, esj⟩ := sw_cases (xs i)
      refine k_top (y := nI sj) esj ?_
      rcases (show sj = 0 ∨ sj = 1 ∨ sj = 2 ∨ sj = 3 ∨ sj = 4 ∨ sj = 5 ∨ sj = 6 ∨ sj = 7 ∨ sj = 8 ∨ sj = 9 ∨ sj = 10 ∨ sj = 11 ∨ sj = 12 ∨ sj = 13 ∨ sj = 14 ∨ sj = 15 by omega) with rfl | rfl | rfl | rfl | rfl | rfl | rfl | rfl | rfl | rfl | rfl | rfl | rfl | rfl | rfl | rfl
      · refine lv_tableIn (off := 76) (tgt := 128) hx hb d_L_law_52 (by decide) (by decide) (by decide) (by decide) ?_
        refine lv_aload_n hx hb d_L_law_128 rfl (lv_at hl 2 rfl) ?_
        refine lv_aload_n hx hb d_L_law_129 rfl (lv_at hl 3 rfl) ?_
        refine lv_iload_n hx hb d_L_law_130 rfl (lv_at hl 0 rfl) ?_
        refine lv_iconst (v := nI 1) hx hb d_L_law_131 (by decide) ?_
        refine k_add hx hb d_L_law_132 ?_
        refine k_sld hx hb hX hbl hbA hS (by omega) (by omega) d_L_law_133 ?_
        refine lv_aload_n hx hb d_L_law_134 rfl (lv_at hl 3 rfl) ?_
        refine lv_iload_n hx hb d_L_law_135 rfl (lv_at hl 0 rfl) ?_
        refine lv_iconst (v := nI 2) hx hb d_L_law_136 (by decide) ?_
        refine k_add hx hb d_L_law_137 ?_
        refine k_sld hx hb hX hbl hbA hS (by omega) (by omega) d_L_law_138 ?_
        refine k_muV (np := 2) (wr := (dW m0 bw bf bb bg br bn ba cI cZ N B T O C R th w g gn fg rt wn fr)) (As := [.int (xs (i + 1)), .int (xs (i + 2))]) (rest := []) S (c_H_make (xs (i + 1)) (xs (i + 2)) hN.2 hH.2.1) (gd_V tb_96 tb_97 tb_98 tb_1 tb_99) hK hP hD hS hA [0, 1, 2, 3, 4, 5, 6, 7, 8] [9, 10, 11, 12, 13, 14, 15, 16] rfl rfl rfl (by decide) (by decide) (by decide) rfl rfl (by decide +kernel) rfl ⟨rfl, rfl⟩ ⟨Nat.le_of_ble_eq_true rfl, Nat.le_of_ble_eq_true rfl⟩ hl.1 rfl (Nat.le_of_ble_eq_true rfl) d_L_law_139 ⟨Nat.le_of_ble_eq_true rfl, Nat.le_of_ble_eq_true rfl⟩ (fun v1 u H locs hw hP hD hS => ?_)
        obtain ⟨T1, O1, w1⟩ := u
        have hP : va_P D classes ((xW x aw af am ab ao ar ap az cI cL cZ N B T1 O1 C R rf w1 f bs os rt op sn) ++ (dW m0 bw bf bb bg br bn ba cI cZ N B T O C R th w g gn fg rt wn fr)) H := hP.sub [8, 9, 10, 11, 12, 13, 14, 15, 16, 0, 1, 2, 3, 4, 5, 6, 7] rfl
        have hD : va_D A ((xW x aw af am ab ao ar ap az cI cL cZ N B T1 O1 C R rf w1 f bs os rt op sn) ++ (dW m0 bw bf bb bg br bn ba cI cZ N B T O C R th w g gn fg rt wn fr)) := hD.sub [8, 9, 10, 11, 12, 13, 14, 15, 16, 0, 1, 2, 3, 4, 5, 6, 7] (by decide) rfl
        have hw1 := hw
        refine lv_aload_n hx hb d_L_law_142 rfl (lv_at hl 1 rfl) ?_
        refine lv_aload_n hx hb d_L_law_143 rfl (lv_at hl 3 rfl) ?_
        refine lv_iload_n hx hb d_L_law_144 rfl (lv_at hl 0 rfl) ?_
        refine lv_iconst (v := nI 1) hx hb d_L_law_145 (by decide) ?_
        refine k_add hx hb d_L_law_146 ?_
        refine k_sld hx hb hX hbl hbA hS (by omega) (by omega) d_L_law_147 ?_
        refine lv_aload_n hx hb d_L_law_148 rfl (lv_at hl 3 rfl) ?_
        refine lv_iload_n hx hb d_L_law_149 rfl (lv_at hl 0 rfl) ?_
        refine lv_iconst (v := nI 2) hx hb d_L_law_150 (by decide) ?_
        refine k_add hx hb d_L_law_151 ?_
        refine k_sld hx hb hX hbl hbA hS (by omega) (by omega) d_L_law_152 ?_
        refine k_muV (np := 2) (wr := (xW x aw af am ab ao ar ap az cI cL cZ N B T1 O1 C R rf w1 f bs os rt op sn)) (As := [.int (xs (i + 1)), .int (xs (i + 2))]) (rest := [.int v1]) S (c_D_make (xs (i + 1)) (xs (i + 2)) hH hG) (gd_V tb_259 tb_260 tb_261 tb_4 tb_262) hK hP hD hS hA [9, 10, 11, 12, 13, 14, 15, 16] [0, 1, 2, 3, 4, 5, 6, 7, 8] rfl rfl rfl (by decide) (by decide) (by decide) rfl rfl (by decide +kernel) rfl ⟨rfl, rfl⟩ ⟨Nat.le_of_ble_eq_true rfl, Nat.le_of_ble_eq_true rfl⟩ hl.1 rfl (Nat.le_of_ble_eq_true rfl) d_L_law_153 ⟨Nat.le_of_ble_eq_true rfl, Nat.le_of_ble_eq_true rfl⟩ (fun v2 u H locs hw hP hD hS => ?_)
        obtain ⟨⟨T2, O2, w2⟩, gn2⟩ := u
        obtain ⟨hw2, hG2⟩ := hw
        dsimp only at hw2 hG2
        have e12 := hw2.trans hw1.symm
        cases e12
        obtain ⟨hH2, hO2⟩ := hH.make hO _ _ hw1
        have hP : va_P D classes ((xW x aw af am ab ao ar ap az cI cL cZ N B T1 O1 C R rf w1 f bs os rt op sn) ++ (dW m0 bw bf bb bg br bn ba cI cZ N B T1 O1 C R th w1 g gn2 fg rt wn fr)) H := hP
        have hD : va_D A ((xW x aw af am ab ao ar ap az cI cL cZ N B T1 O1 C R rf w1 f bs os rt op sn) ++ (dW m0 bw bf bb bg br bn ba cI cZ N B T1 O1 C R th w1 g gn2 fg rt wn fr)) := hD
        refine lv_icmp_eq (tgt := 503) hx hb d_L_law_156 (by decide) (fun c2 => ?_) (fun c2 => ?_)
        · exact next aw af T1 O1 C R rf th w1 f bs os rt op sn g gn2 fg wn fr (mkL N T Lo (xs (i + 1)) (xs (i + 2))) bt (⟨hH2, hB, hM, hbit, hG2, hW, hO2⟩) H locs hP hD hS ls (lv_sub hl [0, 1, 2, 3] rfl)
        · exact absurd rfl c2
      · refine lv_tableIn (off := 109) (tgt := 161) hx hb d_L_law_52 (by decide) (by decide) (by decide) (by decide) ?_
        refine lv_aload_n hx hb d_L_law_161 rfl (lv_at hl 2 rfl) ?_
        refine lv_aload_n hx hb d_L_law_162 rfl (lv_at hl 3 rfl) ?_
        refine lv_iload_n hx hb d_L_law_163 rfl (lv_at hl 0 rfl) ?_
        refine lv_iconst (v := nI 1) hx hb d_L_law_164 (by decide) ?_
        refine k_add hx hb d_L_law_165 ?_
        refine k_sld hx hb hX hbl hbA hS (by omega) (by omega) d_L_law_166 ?_
        refine lv_aload_n hx hb d_L_law_167 rfl (lv_at hl 3 rfl) ?_
        refine lv_iload_n hx hb d_L_law_168 rfl (lv_at hl 0 rfl) ?_
        refine lv_iconst (v := nI 2) hx hb d_L_law_169 (by decide) ?_
        refine k_add hx hb d_L_law_170 ?_
        refine k_sld hx hb hX hbl hbA hS (by omega) (by omega) d_L_law_171 ?_
        refine lv_aload_n hx hb d_L_law_172 rfl (lv_at hl 3 rfl) ?_
        refine lv_iload_n hx hb d_L_law_173 rfl (lv_at hl 0 rfl) ?_
        refine lv_iconst (v := nI 3) hx hb d_L_law_174 (by decide) ?_
        refine k_add hx hb d_L_law_175 ?_
        refine k_sld hx hb hX hbl hbA hS (by omega) (by omega) d_L_law_176 ?_
        refine k_muV (np := 3) (wr := (dW m0 bw bf bb bg br bn ba cI cZ N B T O C R th w g gn fg rt wn fr)) (As := [.int (xs (i + 1)), .int (xs (i + 2)), .int (xs (i + 3))]) (rest := []) S (c_H_refer (xs (i + 1)) (xs (i + 2)) (xs (i + 3)) hH) (gd_V tb_103 tb_104 tb_105 tb_1 tb_106) hK hP hD hS hA [0, 1, 2, 3, 4, 5, 6, 7, 8] [9, 10, 11, 12, 13, 14, 15, 16] rfl rfl rfl (by decide) (by decide) (by decide) rfl rfl (by decide +kernel) rfl ⟨rfl, rfl⟩ ⟨Nat.le_of_ble_eq_true rfl, Nat.le_of_ble_eq_true rfl⟩ hl.1 rfl (Nat.le_of_ble_eq_true rfl) d_L_law_177 ⟨Nat.le_of_ble_eq_true rfl, Nat.le_of_ble_eq_true rfl⟩ (fun v1 u H locs hw hP hD hS => ?_)
        obtain ⟨hv1, rfl⟩ := hw
        have hP : va_P D classes ((xW x aw af am ab ao ar ap az cI cL cZ N B T O C R rf (rfW w Lo (xs (i + 1)) (xs (i + 2)) (xs (i + 3))) f bs os rt op sn) ++ (dW m0 bw bf bb bg br bn ba cI cZ N B T O C R th w g gn fg rt wn fr)) H := hP.sub [8, 9, 10, 11, 12, 13, 14, 15, 16, 0, 1, 2, 3, 4, 5, 6, 7] rfl
        have hD : va_D A ((xW x aw af am ab ao ar ap az cI cL cZ N B T O C R rf (rfW w Lo (xs (i + 1)) (xs (i + 2)) (xs (i + 3))) f bs os rt op sn) ++ (dW m0 bw bf bb bg br bn ba cI cZ N B T O C R th w g gn fg rt wn fr)) := hD.sub [8, 9, 10, 11, 12, 13, 14, 15, 16, 0, 1, 2, 3, 4, 5, 6, 7] (by decide) rfl
        refine lv_aload_n hx hb d_L_law_180 rfl (lv_at hl 1 rfl) ?_
        refine lv_aload_n hx hb d_L_law_181 rfl (lv_at hl 3 rfl) ?_
        refine lv_iload_n hx hb d_L_law_182 rfl (lv_at hl 0 rfl) ?_
        refine lv_iconst (v := nI 1) hx hb d_L_law_183 (by decide) ?_
        refine k_add hx hb d_L_law_184 ?_
        refine k_sld hx hb hX hbl hbA hS (by omega) (by omega) d_L_law_185 ?_
        refine lv_aload_n hx hb d_L_law_186 rfl (lv_at hl 3 rfl) ?_
        refine lv_iload_n hx hb d_L_law_187 rfl (lv_at hl 0 rfl) ?_
        refine lv_iconst (v := nI 2) hx hb d_L_law_188 (by decide) ?_
        refine k_add hx hb d_L_law_189 ?_
        refine k_sld hx hb hX hbl hbA hS (by omega) (by omega) d_L_law_190 ?_
        refine lv_aload_n hx hb d_L_law_191 rfl (lv_at hl 3 rfl) ?_
        refine lv_iload_n hx hb d_L_law_192 rfl (lv_at hl 0 rfl) ?_
        refine lv_iconst (v := nI 3) hx hb d_L_law_193 (by decide) ?_
        refine k_add hx hb d_L_law_194 ?_
        refine k_sld hx hb hX hbl hbA hS (by omega) (by omega) d_L_law_195 ?_
        refine k_muV (np := 3) (wr := (xW x aw af am ab ao ar ap az cI cL cZ N B T O C R rf (rfW w Lo (xs (i + 1)) (xs (i + 2)) (xs (i + 3))) f bs os rt op sn)) (As := [.int (xs (i + 1)), .int (xs (i + 2)), .int (xs (i + 3))]) (rest := [.int v1]) S (c_D_refer (xs (i + 1)) (xs (i + 2)) (xs (i + 3)) hH hG) (gd_V tb_270 tb_271 tb_272 tb_4 tb_273) hK hP hD hS hA [9, 10, 11, 12, 13, 14, 15, 16] [0, 1, 2, 3, 4, 5, 6, 7, 8] rfl rfl rfl (by decide) (by decide) (by decide) rfl rfl (by decide +kernel) rfl ⟨rfl, rfl⟩ ⟨Nat.le_of_ble_eq_true rfl, Nat.le_of_ble_eq_true rfl⟩ hl.1 rfl (Nat.le_of_ble_eq_true rfl) d_L_law_196 ⟨Nat.le_of_ble_eq_true rfl, Nat.le_of_ble_eq_true rfl⟩ (fun v2 u H locs hw hP hD hS => ?_)
        obtain ⟨hv2, rfl⟩ := hw
        have hP : va_P D classes ((xW x aw af am ab ao ar ap az cI cL cZ N B T O C R rf (rfW w Lo (xs (i + 1)) (xs (i + 2)) (xs (i + 3))) f bs os rt op sn) ++ (dW m0 bw bf bb bg br bn ba cI cZ N B T O C R th (rfW w Lo (xs (i + 1)) (xs (i + 2)) (xs (i + 3))) g gn fg rt wn fr)) H := hP
        have hD : va_D A ((xW x aw af am ab ao ar ap az cI cL cZ N B T O C R rf (rfW w Lo (xs (i + 1)) (xs (i + 2)) (xs (i + 3))) f bs os rt op sn) ++ (dW m0 bw bf bb bg br bn ba cI cZ N B T O C R th (rfW w Lo (xs (i + 1)) (xs (i + 2)) (xs (i + 3))) g gn fg rt wn fr)) := hD
        refine lv_icmp_eq (tgt := 503) hx hb d_L_law_199 (by decide) (fun c2 => ?_) (fun c2 => ?_)
        · exact next aw af T O C R rf th (rfW w Lo (xs (i + 1)) (xs (i + 2)) (xs (i + 3))) f bs os rt op sn g gn fg wn fr Lo bt (⟨hH.refer _ _ _, hB, hM, hbit, hG, hW, hO⟩) H locs hP hD hS ls (lv_sub hl [0, 1, 2, 3] rfl)
        · exact absurd (hv1.trans hv2.symm) c2
      · refine lv_tableIn (off := 152) (tgt := 204) hx hb d_L_law_52 (by decide) (by decide) (by decide) (by decide) ?_
        refine lv_aload_n hx hb d_L_law_204 rfl (lv_at hl 2 rfl) ?_
        refine lv_aload_n hx hb d_L_law_205 rfl (lv_at hl 3 rfl) ?_
        refine lv_iload_n hx hb d_L_law_206 rfl (lv_at hl 0 rfl) ?_
        refine lv_iconst (v := nI 1) hx hb d_L_law_207 (by decide) ?_
        refine k_add hx hb d_L_law_208 ?_
        refine k_sld hx hb hX hbl hbA hS (by omega) (by omega) d_L_law_209 ?_
        refine lv_aload_n hx hb d_L_law_210 rfl (lv_at hl 3 rfl) ?_
        refine lv_iload_n hx hb d_L_law_211 rfl (lv_at hl 0 rfl) ?_
        refine lv_iconst (v := nI 2) hx hb d_L_law_212 (by decide) ?_
        refine k_add hx hb d_L_law_213 ?_
        refine k_sld hx hb hX hbl hbA hS (by omega) (by omega) d_L_law_214 ?_
        refine lv_aload_n hx hb d_L_law_215 rfl (lv_at hl 3 rfl) ?_
        refine lv_iload_n hx hb d_L_law_216 rfl (lv_at hl 0 rfl) ?_
        refine lv_iconst (v := nI 3) hx hb d_L_law_217 (by decide) ?_
        refine k_add hx hb d_L_law_218 ?_
        refine k_sld hx hb hX hbl hbA hS (by omega) (by omega) d_L_law_219 ?_
        refine k_muV (np := 3) (wr := (dW m0 bw bf bb bg br bn ba cI cZ N B T O C R th w g gn fg rt wn fr)) (As := [.int (xs (i + 1)), .int (xs (i + 2)), .int (xs (i + 3))]) (rest := []) S (c_H_set (xs (i + 1)) (xs (i + 2)) (xs (i + 3)) hH) (gd_V tb_108 tb_109 tb_110 tb_1 tb_111) hK hP hD hS hA [0, 1, 2, 3, 4, 5, 6, 7, 8] [9, 10, 11, 12, 13, 14, 15, 16] rfl rfl rfl (by decide) (by decide) (by decide) rfl rfl (by decide +kernel) rfl ⟨rfl, rfl⟩ ⟨Nat.le_of_ble_eq_true rfl, Nat.le_of_ble_eq_true rfl⟩ hl.1 rfl (Nat.le_of_ble_eq_true rfl) d_L_law_220 ⟨Nat.le_of_ble_eq_true rfl, Nat.le_of_ble_eq_true rfl⟩ (fun v1 u H locs hw hP hD hS => ?_)
        obtain ⟨hv1, rfl⟩ := hw
        have hP : va_P D classes ((xW x aw af am ab ao ar ap az cI cL cZ N B T O C R rf (stW w Lo (xs (i + 1)) (xs (i + 2)) (xs (i + 3))) f bs os rt op sn) ++ (dW m0 bw bf bb bg br bn ba cI cZ N B T O C R th w g gn fg rt wn fr)) H := hP.sub [8, 9, 10, 11, 12, 13, 14, 15, 16, 0, 1, 2, 3, 4, 5, 6, 7] rfl
        have hD : va_D A ((xW x aw af am ab ao ar ap az cI cL cZ N B T O C R rf (stW w Lo (xs (i + 1)) (xs (i + 2)) (xs (i + 3))) f bs os rt op sn) ++ (dW m0 bw bf bb bg br bn ba cI cZ N B T O C R th w g gn fg rt wn fr)) := hD.sub [8, 9, 10, 11, 12, 13, 14, 15, 16, 0, 1, 2, 3, 4, 5, 6, 7] (by decide) rfl
        refine lv_aload_n hx hb d_L_law_223 rfl (lv_at hl 1 rfl) ?_
        refine lv_aload_n hx hb d_L_law_224 rfl (lv_at hl 3 rfl) ?_
        refine lv_iload_n hx hb d_L_law_225 rfl (lv_at hl 0 rfl) ?_
        refine lv_iconst (v := nI 1) hx hb d_L_law_226 (by decide) ?_
        refine k_add hx hb d_L_law_227 ?_
        refine k_sld hx hb hX hbl hbA hS (by omega) (by omega) d_L_law_228 ?_
        refine lv_aload_n hx hb d_L_law_229 rfl (lv_at hl 3 rfl) ?_
        refine lv_iload_n hx hb d_L_law_230 rfl (lv_at hl 0 rfl) ?_
        refine lv_iconst (v := nI 2) hx hb d_L_law_231 (by decide) ?_
        refine k_add hx hb d_L_law_232 ?_
        refine k_sld hx hb hX hbl hbA hS (by omega) (by omega) d_L_law_233 ?_
        refine lv_aload_n hx hb d_L_law_234 rfl (lv_at hl 3 rfl) ?_
        refine lv_iload_n hx hb d_L_law_235 rfl (lv_at hl 0 rfl) ?_
        refine lv_iconst (v := nI 3) hx hb d_L_law_236 (by decide) ?_
        refine k_add hx hb d_L_law_237 ?_
        refine k_sld hx hb hX hbl hbA hS (by omega) (by omega) d_L_law_238 ?_
        refine k_muV (np := 3) (wr := (xW x aw af am ab ao ar ap az cI cL cZ N B T O C R rf (stW w Lo (xs (i + 1)) (xs (i + 2)) (xs (i + 3))) f bs os rt op sn)) (As := [.int (xs (i + 1)), .int (xs (i + 2)), .int (xs (i + 3))]) (rest := [.int v1]) S (c_D_set (xs (i + 1)) (xs (i + 2)) (xs (i + 3)) hH hG) (gd_V tb_283 tb_284 tb_285 tb_4 tb_286) hK hP hD hS hA [9, 10, 11, 12, 13, 14, 15, 16] [0, 1, 2, 3, 4, 5, 6, 7, 8] rfl rfl rfl (by decide) (by decide) (by decide) rfl rfl (by decide +kernel) rfl ⟨rfl, rfl⟩ ⟨Nat.le_of_ble_eq_true rfl, Nat.le_of_ble_eq_true rfl⟩ hl.1 rfl (Nat.le_of_ble_eq_true rfl) d_L_law_239 ⟨Nat.le_of_ble_eq_true rfl, Nat.le_of_ble_eq_true rfl⟩ (fun v2 u H locs hw hP hD hS => ?_)
        obtain ⟨hv2, rfl⟩ := hw
        have hP : va_P D classes ((xW x aw af am ab ao ar ap az cI cL cZ N B T O C R rf (stW w Lo (xs (i + 1)) (xs (i + 2)) (xs (i + 3))) f bs os rt op sn) ++ (dW m0 bw bf bb bg br bn ba cI cZ N B T O C R th (stW w Lo (xs (i + 1)) (xs (i + 2)) (xs (i + 3))) g gn fg rt wn fr)) H := hP
        have hD : va_D A ((xW x aw af am ab ao ar ap az cI cL cZ N B T O C R rf (stW w Lo (xs (i + 1)) (xs (i + 2)) (xs (i + 3))) f bs os rt op sn) ++ (dW m0 bw bf bb bg br bn ba cI cZ N B T O C R th (stW w Lo (xs (i + 1)) (xs (i + 2)) (xs (i + 3))) g gn fg rt wn fr)) := hD
        refine lv_icmp_eq (tgt := 503) hx hb d_L_law_242 (by decide) (fun c2 => ?_) (fun c2 => ?_)
        · exact next aw af T O C R rf th (stW w Lo (xs (i + 1)) (xs (i + 2)) (xs (i + 3))) f bs os rt op sn g gn fg wn fr Lo bt (⟨hH.put _ _ _, hB, hM, hbit, hG, hW, hO⟩) H locs hP hD hS ls (lv_sub hl [0, 1, 2, 3] rfl)
        · exact absurd (hv1.trans hv2.symm) c2
      · refine lv_tableIn (off := 195) (tgt := 247) hx hb d_L_law_52 (by decide) (by decide) (by decide) (by decide) ?_
        refine lv_aload_n hx hb d_L_law_247 rfl (lv_at hl 2 rfl) ?_
        refine lv_aload_n hx hb d_L_law_248 rfl (lv_at hl 3 rfl) ?_
        refine lv_iload_n hx hb d_L_law_249 rfl (lv_at hl 0 rfl) ?_
        refine lv_iconst (v := nI 1) hx hb d_L_law_250 (by decide) ?_
        refine k_add hx hb d_L_law_251 ?_
        refine k_sld hx hb hX hbl hbA hS (by omega) (by omega) d_L_law_252 ?_
        refine lv_aload_n hx hb d_L_law_253 rfl (lv_at hl 3 rfl) ?_
        refine lv_iload_n hx hb d_L_law_254 rfl (lv_at hl 0 rfl) ?_
        refine lv_iconst (v := nI 2) hx hb d_L_law_255 (by decide) ?_
        refine k_add hx hb d_L_law_256 ?_
        refine k_sld hx hb hX hbl hbA hS (by omega) (by omega) d_L_law_257 ?_
        refine k_muV (np := 2) (wr := (dW m0 bw bf bb bg br bn ba cI cZ N B T O C R th w g gn fg rt wn fr)) (As := [.int (xs (i + 1)), .int (xs (i + 2))]) (rest := []) S (c_H_root (xs (i + 1)) (xs (i + 2)) hH) (gd_V tb_112 tb_113 tb_114 tb_1 tb_115) hK hP hD hS hA [0, 1, 2, 3, 4, 5, 6, 7, 8] [9, 10, 11, 12, 13, 14, 15, 16] rfl rfl rfl (by decide) (by decide) (by decide) rfl rfl (by decide +kernel) rfl ⟨rfl, rfl⟩ ⟨Nat.le_of_ble_eq_true rfl, Nat.le_of_ble_eq_true rfl⟩ hl.1 rfl (Nat.le_of_ble_eq_true rfl) d_L_law_258 ⟨Nat.le_of_ble_eq_true rfl, Nat.le_of_ble_eq_true rfl⟩ (fun v1 u H locs hw hP hD hS => ?_)
        obtain ⟨hv1, rfl⟩ := hw
        have hP : va_P D classes ((xW x aw af am ab ao ar ap az cI cL cZ N B T O C R rf w f bs os (roW rt Lo (xs (i + 1)) (xs (i + 2))) op sn) ++ (dW m0 bw bf bb bg br bn ba cI cZ N B T O C R th w g gn fg rt wn fr)) H := hP.sub [8, 9, 10, 11, 12, 13, 14, 15, 16, 0, 1, 2, 3, 4, 5, 6, 7] rfl
        have hD : va_D A ((xW x aw af am ab ao ar ap az cI cL cZ N B T O C R rf w f bs os (roW rt Lo (xs (i + 1)) (xs (i + 2))) op sn) ++ (dW m0 bw bf bb bg br bn ba cI cZ N B T O C R th w g gn fg rt wn fr)) := hD.sub [8, 9, 10, 11, 12, 13, 14, 15, 16, 0, 1, 2, 3, 4, 5, 6, 7] (by decide) rfl
        refine lv_aload_n hx hb d_L_law_261 rfl (lv_at hl 1 rfl) ?_
        refine lv_aload_n hx hb d_L_law_262 rfl (lv_at hl 3 rfl) ?_
        refine lv_iload_n hx hb d_L_law_263 rfl (lv_at hl 0 rfl) ?_
        refine lv_iconst (v := nI 1) hx hb d_L_law_264 (by decide) ?_
        refine k_add hx hb d_L_law_265 ?_
        refine k_sld hx hb hX hbl hbA hS (by omega) (by omega) d_L_law_266 ?_
        refine lv_aload_n hx hb d_L_law_267 rfl (lv_at hl 3 rfl) ?_
        refine lv_iload_n hx hb d_L_law_268 rfl (lv_at hl 0 rfl) ?_
        refine lv_iconst (v := nI 2) hx hb d_L_law_269 (by decide) ?_
        refine k_add hx hb d_L_law_270 ?_
        refine k_sld hx hb hX hbl hbA hS (by omega) (by omega) d_L_law_271 ?_
        refine k_muV (np := 2) (wr := (xW x aw af am ab ao ar ap az cI cL cZ N B T O C R rf w f bs os (roW rt Lo (xs (i + 1)) (xs (i + 2))) op sn)) (As := [.int (xs (i + 1)), .int (xs (i + 2))]) (rest := [.int v1]) S (c_D_root (xs (i + 1)) (xs (i + 2)) hH hG) (gd_V tb_291 tb_292 tb_293 tb_4 tb_294) hK hP hD hS hA [9, 10, 11, 12, 13, 14, 15, 16] [0, 1, 2, 3, 4, 5, 6, 7, 8] rfl rfl rfl (by decide) (by decide) (by decide) rfl rfl (by decide +kernel) rfl ⟨rfl, rfl⟩ ⟨Nat.le_of_ble_eq_true rfl, Nat.le_of_ble_eq_true rfl⟩ hl.1 rfl (Nat.le_of_ble_eq_true rfl) d_L_law_272 ⟨Nat.le_of_ble_eq_true rfl, Nat.le_of_ble_eq_true rfl⟩ (fun v2 u H locs hw hP hD hS => ?_)
        obtain ⟨hv2, rfl⟩ := hw
        have hP : va_P D classes ((xW x aw af am ab ao ar ap az cI cL cZ N B T O C R rf w f bs os (roW rt Lo (xs (i + 1)) (xs (i + 2))) op sn) ++ (dW m0 bw bf bb bg br bn ba cI cZ N B T O C R th w g gn fg (roW rt Lo (xs (i + 1)) (xs (i + 2))) wn fr)) H := hP
        have hD : va_D A ((xW x aw af am ab ao ar ap az cI cL cZ N B T O C R rf w f bs os (roW rt Lo (xs (i + 1)) (xs (i + 2))) op sn) ++ (dW m0 bw bf bb bg br bn ba cI cZ N B T O C R th w g gn fg (roW rt Lo (xs (i + 1)) (xs (i + 2))) wn fr)) := hD
        refine lv_icmp_eq (tgt := 503) hx hb d_L_law_275 (by decide) (fun c2 => ?_) (fun c2 => ?_)
        · exact next aw af T O C R rf th w f bs os (roW rt Lo (xs (i + 1)) (xs (i + 2))) op sn g gn fg wn fr Lo bt (⟨hH.root _ _, hB, hM, hbit, hG, hW, hO⟩) H locs hP hD hS ls (lv_sub hl [0, 1, 2, 3] rfl)
        · exact absurd (hv1.trans hv2.symm) c2
      · refine lv_tableIn (off := 228) (tgt := 280) hx hb d_L_law_52 (by decide) (by decide) (by decide) (by decide) ?_
        refine lv_aload_n hx hb d_L_law_280 rfl (lv_at hl 2 rfl) ?_
        refine k_muV (np := 0) (wr := (dW m0 bw bf bb bg br bn ba cI cZ N B T O C R th w g gn fg rt wn fr)) (As := []) (rest := []) S (c_H_collect hH hB) (gd_V tb_116 tb_117 tb_118 tb_1 tb_119) hK hP hD hS hA [0, 1, 2, 3, 4, 5, 6, 7, 8] [9, 10, 11, 12, 13, 14, 15, 16] rfl rfl rfl (by decide) (by decide) (by decide) rfl rfl (by decide +kernel) rfl ⟨rfl, rfl⟩ ⟨Nat.le_of_ble_eq_true rfl, Nat.le_of_ble_eq_true rfl⟩ hl.1 rfl (Nat.le_of_ble_eq_true rfl) d_L_law_281 ⟨Nat.le_of_ble_eq_true rfl, Nat.le_of_ble_eq_true rfl⟩ (fun v1 u H locs hw hP hD hS => ?_)
        obtain ⟨bs2, os2, op2, sn2, rf2⟩ := u
        obtain ⟨hv1, hbit2, hM2⟩ := hw
        dsimp only at hv1 hbit2 hM2
        have hP : va_P D classes ((xW x af aw am ab ao ar ap az cI cL cZ N B (cAd w rt Lo N T) (rchN w rt Lo N) (C + 1) (cnt (lvB w rt Lo N) 0 T) rf2 (cW w rt Lo N T) w bs2 os2 (cR w rt Lo N) op2 sn2) ++ (dW m0 bw bf bb bg br bn ba cI cZ N B T O C R th w g gn fg rt wn fr)) H := hP.sub [8, 9, 10, 11, 12, 13, 14, 15, 16, 0, 1, 2, 3, 4, 5, 6, 7] rfl
        have hD : va_D A ((xW x af aw am ab ao ar ap az cI cL cZ N B (cAd w rt Lo N T) (rchN w rt Lo N) (C + 1) (cnt (lvB w rt Lo N) 0 T) rf2 (cW w rt Lo N T) w bs2 os2 (cR w rt Lo N) op2 sn2) ++ (dW m0 bw bf bb bg br bn ba cI cZ N B T O C R th w g gn fg rt wn fr)) := hD.sub [8, 9, 10, 11, 12, 13, 14, 15, 16, 0, 1, 2, 3, 4, 5, 6, 7] (by decide) rfl
        refine lv_aload_n hx hb d_L_law_284 rfl (lv_at hl 1 rfl) ?_
        refine k_muV (np := 0) (wr := (xW x af aw am ab ao ar ap az cI cL cZ N B (cAd w rt Lo N T) (rchN w rt Lo N) (C + 1) (cnt (lvB w rt Lo N) 0 T) rf2 (cW w rt Lo N T) w bs2 os2 (cR w rt Lo N) op2 sn2)) (As := []) (rest := [.int v1]) S (c_D_collect hH) (gd_V tb_295 tb_296 tb_297 tb_4 tb_298) hK hP hD hS hA [9, 10, 11, 12, 13, 14, 15, 16] [0, 1, 2, 3, 4, 5, 6, 7, 8] rfl rfl rfl (by decide) (by decide) (by decide) rfl rfl (by decide +kernel) rfl ⟨rfl, rfl⟩ ⟨Nat.le_of_ble_eq_true rfl, Nat.le_of_ble_eq_true rfl⟩ hl.1 rfl (Nat.le_of_ble_eq_true rfl) d_L_law_285 ⟨Nat.le_of_ble_eq_true rfl, Nat.le_of_ble_eq_true rfl⟩ (fun v2 u H locs hw hP hD hS => ?_)
        obtain ⟨g2, gn2, fg2, wn2, fr2⟩ := u
        obtain ⟨hv2, hG2, hW2⟩ := hw
        dsimp only at hv2 hG2 hW2
        have hP : va_P D classes ((xW x af aw am ab ao ar ap az cI cL cZ N B (cAd w rt Lo N T) (rchN w rt Lo N) (C + 1) (cnt (lvB w rt Lo N) 0 T) rf2 (cW w rt Lo N T) w bs2 os2 (cR w rt Lo N) op2 sn2) ++ (dW m0 bw bf bb bg br bn ba cI cZ N B (cAd w rt Lo N T) (rchN w rt Lo N) (C + 1) (cnt (lvB w rt Lo N) 0 T) th (cW w rt Lo N T) g2 gn2 fg2 (cR w rt Lo N) wn2 fr2)) H := hP
        have hD : va_D A ((xW x af aw am ab ao ar ap az cI cL cZ N B (cAd w rt Lo N T) (rchN w rt Lo N) (C + 1) (cnt (lvB w rt Lo N) 0 T) rf2 (cW w rt Lo N T) w bs2 os2 (cR w rt Lo N) op2 sn2) ++ (dW m0 bw bf bb bg br bn ba cI cZ N B (cAd w rt Lo N T) (rchN w rt Lo N) (C + 1) (cnt (lvB w rt Lo N) 0 T) th (cW w rt Lo N T) g2 gn2 fg2 (cR w rt Lo N) wn2 fr2)) := hD
        refine lv_icmp_eq (tgt := 503) hx hb d_L_law_288 (by decide) (fun c2 => ?_) (fun c2 => ?_)
        · exact next af aw (cAd w rt Lo N T) (rchN w rt Lo N) (C + 1) (cnt (lvB w rt Lo N) 0 T) rf2 th (cW w rt Lo N T) w bs2 os2 (cR w rt Lo N) op2 sn2 g2 gn2 fg2 wn2 fr2 (cLs w rt Lo N Lo) (lvB w rt Lo N) (⟨hH.collect, hB, hM2, hbit2, hG2, hW2, cLs_len.symm⟩) H locs hP hD hS ls (lv_sub hl [0, 1, 2, 3] rfl)
        · exact absurd (hv1.trans hv2.symm) c2
      · refine lv_tableIn (off := 241) (tgt := 293) hx hb d_L_law_52 (by decide) (by decide) (by decide) (by decide) ?_
        refine lv_aload_n hx hb d_L_law_293 rfl (lv_at hl 2 rfl) ?_
        refine lv_aload_n hx hb d_L_law_294 rfl (lv_at hl 3 rfl) ?_
        refine lv_iload_n hx hb d_L_law_295 rfl (lv_at hl 0 rfl) ?_
        refine lv_iconst (v := nI 1) hx hb d_L_law_296 (by decide) ?_
        refine k_add hx hb d_L_law_297 ?_
        refine k_sld hx hb hX hbl hbA hS (by omega) (by omega) d_L_law_298 ?_
        refine k_roV (np := 1) (As := [.int (xs (i + 1))]) (rest := []) S (c_H_word (xs (i + 1)) hN.2) (gd_V tb_168 tb_169 tb_170 tb_1 tb_171) hK (hP.sub [0, 1, 2, 3, 4, 5, 6, 7, 8] rfl) rfl rfl (by decide +kernel) rfl ⟨rfl, rfl⟩ ⟨Nat.le_of_ble_eq_true rfl, Nat.le_of_ble_eq_true rfl⟩ hl.1 rfl (Nat.le_of_ble_eq_true rfl) d_L_law_299 ⟨Nat.le_of_ble_eq_true rfl, Nat.le_of_ble_eq_true rfl⟩ (fun v1 hv1 => ?_)
        subst hv1
        refine lv_aload_n hx hb d_L_law_302 rfl (lv_at hl 1 rfl) ?_
        refine lv_aload_n hx hb d_L_law_303 rfl (lv_at hl 3 rfl) ?_
        refine lv_iload_n hx hb d_L_law_304 rfl (lv_at hl 0 rfl) ?_
        refine lv_iconst (v := nI 1) hx hb d_L_law_305 (by decide) ?_
        refine k_add hx hb d_L_law_306 ?_
        refine k_sld hx hb hX hbl hbA hS (by omega) (by omega) d_L_law_307 ?_
        refine k_roV (np := 1) (As := [.int (xs (i + 1))]) (rest := [.int (if inR (xs (i + 1)) (nI 0) (nI N) then w (xs (i + 1)).toNatClampNeg else -1)]) S (c_D_word (xs (i + 1)) hN.2) (gd_V tb_308 tb_309 tb_310 tb_4 tb_311) hK (hP.sub [9, 10, 11, 12, 13, 14, 15, 16] rfl) rfl rfl (by decide +kernel) rfl ⟨rfl, rfl⟩ ⟨Nat.le_of_ble_eq_true rfl, Nat.le_of_ble_eq_true rfl⟩ hl.1 rfl (Nat.le_of_ble_eq_true rfl) d_L_law_308 ⟨Nat.le_of_ble_eq_true rfl, Nat.le_of_ble_eq_true rfl⟩ (fun v2 hv2 => ?_)
        subst hv2
        refine lv_icmp_eq (tgt := 503) hx hb d_L_law_311 (by decide) (fun c2 => ?_) (fun c2 => ?_)
        · exact next aw af T O C R rf th w f bs os rt op sn g gn fg wn fr Lo bt (⟨hH, hB, hM, hbit, hG, hW, hO⟩) H locs hP hD hS ls (lv_sub hl [0, 1, 2, 3] rfl)
        · exact absurd rfl c2
      · refine lv_tableIn (off := 264) (tgt := 316) hx hb d_L_law_52 (by decide) (by decide) (by decide) (by decide) ?_
        refine lv_aload_n hx hb d_L_law_316 rfl (lv_at hl 2 rfl) ?_
        refine lv_aload_n hx hb d_L_law_317 rfl (lv_at hl 3 rfl) ?_
        refine lv_iload_n hx hb d_L_law_318 rfl (lv_at hl 0 rfl) ?_
        refine lv_iconst (v := nI 1) hx hb d_L_law_319 (by decide) ?_
        refine k_add hx hb d_L_law_320 ?_
        refine k_sld hx hb hX hbl hbA hS (by omega) (by omega) d_L_law_321 ?_
        refine k_roV (np := 1) (As := [.int (xs (i + 1))]) (rest := []) S (c_H_isObject hH (xs (i + 1))) (gd_V tb_80 tb_81 tb_82 tb_1 tb_83) hK (hP.sub [0, 1, 2, 3, 4, 5, 6, 7, 8] rfl) rfl rfl (by decide +kernel) rfl ⟨rfl, rfl⟩ ⟨Nat.le_of_ble_eq_true rfl, Nat.le_of_ble_eq_true rfl⟩ hl.1 rfl (Nat.le_of_ble_eq_true rfl) d_L_law_322 ⟨Nat.le_of_ble_eq_true rfl, Nat.le_of_ble_eq_true rfl⟩ (fun v3 hv3 => ?_)
        subst hv3
        refine lv_aload_n hx hb d_L_law_325 rfl (lv_at hl 1 rfl) ?_
        refine lv_aload_n hx hb d_L_law_326 rfl (lv_at hl 3 rfl) ?_
        refine lv_iload_n hx hb d_L_law_327 rfl (lv_at hl 0 rfl) ?_
        refine lv_iconst (v := nI 1) hx hb d_L_law_328 (by decide) ?_
        refine k_add hx hb d_L_law_329 ?_
        refine k_sld hx hb hX hbl hbA hS (by omega) (by omega) d_L_law_330 ?_
        refine k_roV (np := 1) (As := [.int (xs (i + 1))]) (rest := [.int (b2i (isO Lo (xs (i + 1))))]) S (c_D_isObject hH hG (xs (i + 1))) (gd_V tb_266 tb_267 tb_268 tb_4 tb_269) hK (hP.sub [9, 10, 11, 12, 13, 14, 15, 16] rfl) rfl rfl (by decide +kernel) rfl ⟨rfl, rfl⟩ ⟨Nat.le_of_ble_eq_true rfl, Nat.le_of_ble_eq_true rfl⟩ hl.1 rfl (Nat.le_of_ble_eq_true rfl) d_L_law_331 ⟨Nat.le_of_ble_eq_true rfl, Nat.le_of_ble_eq_true rfl⟩ (fun v4 hv4 => ?_)
        subst hv4
        refine lv_icmp_eq (tgt := 503) hx hb d_L_law_334 (by decide) (fun c2 => ?_) (fun c2 => ?_)
        · exact next aw af T O C R rf th w f bs os rt op sn g gn fg wn fr Lo bt (⟨hH, hB, hM, hbit, hG, hW, hO⟩) H locs hP hD hS ls (lv_sub hl [0, 1, 2, 3] rfl)
        · exact absurd rfl c2
      · refine lv_tableIn (off := 287) (tgt := 339) hx hb d_L_law_52 (by decide) (by decide) (by decide) (by decide) ?_
        refine lv_aload_n hx hb d_L_law_339 rfl (lv_at hl 2 rfl) ?_
        refine lv_aload_n hx hb d_L_law_340 rfl (lv_at hl 3 rfl) ?_
        refine lv_iload_n hx hb d_L_law_341 rfl (lv_at hl 0 rfl) ?_
        refine lv_iconst (v := nI 1) hx hb d_L_law_342 (by decide) ?_
        refine k_add hx hb d_L_law_343 ?_
        refine k_sld hx hb hX hbl hbA hS (by omega) (by omega) d_L_law_344 ?_
        refine k_roV (np := 1) (As := [.int (xs (i + 1))]) (rest := []) S (c_H_rootOf (xs (i + 1))) (gd_V tb_172 tb_173 tb_174 tb_1 tb_175) hK (hP.sub [0, 1, 2, 3, 4, 5, 6, 7, 8] rfl) rfl rfl (by decide +kernel) rfl ⟨rfl, rfl⟩ ⟨Nat.le_of_ble_eq_true rfl, Nat.le_of_ble_eq_true rfl⟩ hl.1 rfl (Nat.le_of_ble_eq_true rfl) d_L_law_345 ⟨Nat.le_of_ble_eq_true rfl, Nat.le_of_ble_eq_true rfl⟩ (fun v5 hv5 => ?_)
        subst hv5
        refine lv_aload_n hx hb d_L_law_348 rfl (lv_at hl 1 rfl) ?_
        refine lv_aload_n hx hb d_L_law_349 rfl (lv_at hl 3 rfl) ?_
        refine lv_iload_n hx hb d_L_law_350 rfl (lv_at hl 0 rfl) ?_
        refine lv_iconst (v := nI 1) hx hb d_L_law_351 (by decide) ?_
        refine k_add hx hb d_L_law_352 ?_
        refine k_sld hx hb hX hbl hbA hS (by omega) (by omega) d_L_law_353 ?_
        refine k_roV (np := 1) (As := [.int (xs (i + 1))]) (rest := [.int (if inR (xs (i + 1)) (nI 0) (nI 7) then rt (xs (i + 1)).toNatClampNeg else -1)]) S (c_D_rootOf (xs (i + 1))) (gd_V tb_316 tb_317 tb_318 tb_4 tb_319) hK (hP.sub [9, 10, 11, 12, 13, 14, 15, 16] rfl) rfl rfl (by decide +kernel) rfl ⟨rfl, rfl⟩ ⟨Nat.le_of_ble_eq_true rfl, Nat.le_of_ble_eq_true rfl⟩ hl.1 rfl (Nat.le_of_ble_eq_true rfl) d_L_law_354 ⟨Nat.le_of_ble_eq_true rfl, Nat.le_of_ble_eq_true rfl⟩ (fun v6 hv6 => ?_)
        subst hv6
        refine lv_icmp_eq (tgt := 503) hx hb d_L_law_357 (by decide) (fun c2 => ?_) (fun c2 => ?_)
        · exact next aw af T O C R rf th w f bs os rt op sn g gn fg wn fr Lo bt (⟨hH, hB, hM, hbit, hG, hW, hO⟩) H locs hP hD hS ls (lv_sub hl [0, 1, 2, 3] rfl)
        · exact absurd rfl c2
      · refine lv_tableIn (off := 310) (tgt := 362) hx hb d_L_law_52 (by decide) (by decide) (by decide) (by decide) ?_
        refine lv_aload_n hx hb d_L_law_362 rfl (lv_at hl 2 rfl) ?_
        refine lv_aload_n hx hb d_L_law_363 rfl (lv_at hl 3 rfl) ?_
        refine lv_iload_n hx hb d_L_law_364 rfl (lv_at hl 0 rfl) ?_
        refine lv_iconst (v := nI 1) hx hb d_L_law_365 (by decide) ?_
        refine k_add hx hb d_L_law_366 ?_
        refine k_sld hx hb hX hbl hbA hS (by omega) (by omega) d_L_law_367 ?_
        refine k_roV (np := 1) (As := [.int (xs (i + 1))]) (rest := []) S (c_H_bit (xs (i + 1)) hN.2) (gd_V tb_176 tb_177 tb_178 tb_1 tb_179) hK (hP.sub [0, 1, 2, 3, 4, 5, 6, 7, 8] rfl) rfl rfl (by decide +kernel) rfl ⟨rfl, rfl⟩ ⟨Nat.le_of_ble_eq_true rfl, Nat.le_of_ble_eq_true rfl⟩ hl.1 rfl (Nat.le_of_ble_eq_true rfl) d_L_law_368 ⟨Nat.le_of_ble_eq_true rfl, Nat.le_of_ble_eq_true rfl⟩ (fun v7 hv7 => ?_)
        subst hv7
        refine lv_aload_n hx hb d_L_law_371 rfl (lv_at hl 1 rfl) ?_
        refine lv_aload_n hx hb d_L_law_372 rfl (lv_at hl 3 rfl) ?_
        refine lv_iload_n hx hb d_L_law_373 rfl (lv_at hl 0 rfl) ?_
        refine lv_iconst (v := nI 1) hx hb d_L_law_374 (by decide) ?_
        refine k_add hx hb d_L_law_375 ?_
        refine k_sld hx hb hX hbl hbA hS (by omega) (by omega) d_L_law_376 ?_
        refine k_roV (np := 1) (As := [.int (xs (i + 1))]) (rest := [.int (btS N (bitAt bs) (xs (i + 1)))]) S (c_D_bit (xs (i + 1)) hN.2 hW) (gd_V tb_320 tb_321 tb_322 tb_4 tb_323) hK (hP.sub [9, 10, 11, 12, 13, 14, 15, 16] rfl) rfl rfl (by decide +kernel) rfl ⟨rfl, rfl⟩ ⟨Nat.le_of_ble_eq_true rfl, Nat.le_of_ble_eq_true rfl⟩ hl.1 rfl (Nat.le_of_ble_eq_true rfl) d_L_law_377 ⟨Nat.le_of_ble_eq_true rfl, Nat.le_of_ble_eq_true rfl⟩ (fun v8 hv8 => ?_)
        subst hv8
        refine lv_icmp_eq (tgt := 503) hx hb d_L_law_380 (by decide) (fun c2 => ?_) (fun c2 => ?_)
        · exact next aw af T O C R rf th w f bs os rt op sn g gn fg wn fr Lo bt (⟨hH, hB, hM, hbit, hG, hW, hO⟩) H locs hP hD hS ls (lv_sub hl [0, 1, 2, 3] rfl)
        · exact absurd (bt_eq hN.2 hbit (xs (i + 1))) c2
      · refine lv_tableIn (off := 333) (tgt := 385) hx hb d_L_law_52 (by decide) (by decide) (by decide) (by decide) ?_
        refine lv_aload_n hx hb d_L_law_385 rfl (lv_at hl 2 rfl) ?_
        refine lv_aload_n hx hb d_L_law_386 rfl (lv_at hl 3 rfl) ?_
        refine lv_iload_n hx hb d_L_law_387 rfl (lv_at hl 0 rfl) ?_
        refine lv_iconst (v := nI 1) hx hb d_L_law_388 (by decide) ?_
        refine k_add hx hb d_L_law_389 ?_
        refine k_sld hx hb hX hbl hbA hS (by omega) (by omega) d_L_law_390 ?_
        refine k_roV (np := 1) (As := [.int (xs (i + 1))]) (rest := []) S (c_H_offset (xs (i + 1)) hN.2 (by omega)) (gd_V tb_180 tb_181 tb_182 tb_1 tb_183) hK (hP.sub [0, 1, 2, 3, 4, 5, 6, 7, 8] rfl) rfl rfl (by decide +kernel) rfl ⟨rfl, rfl⟩ ⟨Nat.le_of_ble_eq_true rfl, Nat.le_of_ble_eq_true rfl⟩ hl.1 rfl (Nat.le_of_ble_eq_true rfl) d_L_law_391 ⟨Nat.le_of_ble_eq_true rfl, Nat.le_of_ble_eq_true rfl⟩ (fun v9 hv9 => ?_)
        subst hv9
        refine lv_aload_n hx hb d_L_law_394 rfl (lv_at hl 1 rfl) ?_
        refine lv_aload_n hx hb d_L_law_395 rfl (lv_at hl 3 rfl) ?_
        refine lv_iload_n hx hb d_L_law_396 rfl (lv_at hl 0 rfl) ?_
        refine lv_iconst (v := nI 1) hx hb d_L_law_397 (by decide) ?_
        refine k_add hx hb d_L_law_398 ?_
        refine k_sld hx hb hX hbl hbA hS (by omega) (by omega) d_L_law_399 ?_
        refine k_roV (np := 1) (As := [.int (xs (i + 1))]) (rest := [.int (if inR (xs (i + 1)) (nI 0) (nI (N / B)) then os (xs (i + 1)).toNatClampNeg else -1)]) S (c_D_offset (xs (i + 1)) hN.2 (by omega) hBp.2 hW) (gd_V tb_324 tb_325 tb_326 tb_4 tb_327) hK (hP.sub [9, 10, 11, 12, 13, 14, 15, 16] rfl) rfl rfl (by decide +kernel) rfl ⟨rfl, rfl⟩ ⟨Nat.le_of_ble_eq_true rfl, Nat.le_of_ble_eq_true rfl⟩ hl.1 rfl (Nat.le_of_ble_eq_true rfl) d_L_law_400 ⟨Nat.le_of_ble_eq_true rfl, Nat.le_of_ble_eq_true rfl⟩ (fun v10 hv10 => ?_)
        subst hv10
        refine lv_icmp_eq (tgt := 503) hx hb d_L_law_403 (by decide) (fun c2 => ?_) (fun c2 => ?_)
        · exact next aw af T O C R rf th w f bs os rt op sn g gn fg wn fr Lo bt (⟨hH, hB, hM, hbit, hG, hW, hO⟩) H locs hP hD hS ls (lv_sub hl [0, 1, 2, 3] rfl)
        · exact absurd (of_eq hN.2 hM hbit (xs (i + 1))) c2
      · refine lv_tableIn (off := 356) (tgt := 408) hx hb d_L_law_52 (by decide) (by decide) (by decide) (by decide) ?_
        refine lv_aload_n hx hb d_L_law_408 rfl (lv_at hl 2 rfl) ?_
        refine lv_aload_n hx hb d_L_law_409 rfl (lv_at hl 3 rfl) ?_
        refine lv_iload_n hx hb d_L_law_410 rfl (lv_at hl 0 rfl) ?_
        refine lv_iconst (v := nI 1) hx hb d_L_law_411 (by decide) ?_
        refine k_add hx hb d_L_law_412 ?_
        refine k_sld hx hb hX hbl hbA hS (by omega) (by omega) d_L_law_413 ?_
        refine k_roV (np := 1) (As := [.int (xs (i + 1))]) (rest := []) S (c_H_moved (xs (i + 1)) hM hB hN.2) (gd_V tb_184 tb_185 tb_186 tb_1 tb_187) hK (hP.sub [0, 1, 2, 3, 4, 5, 6, 7, 8] rfl) rfl rfl (by decide +kernel) rfl ⟨rfl, rfl⟩ ⟨Nat.le_of_ble_eq_true rfl, Nat.le_of_ble_eq_true rfl⟩ hl.1 rfl (Nat.le_of_ble_eq_true rfl) d_L_law_414 ⟨Nat.le_of_ble_eq_true rfl, Nat.le_of_ble_eq_true rfl⟩ (fun v11 hv11 => ?_)
        subst hv11
        refine lv_aload_n hx hb d_L_law_417 rfl (lv_at hl 1 rfl) ?_
        refine lv_aload_n hx hb d_L_law_418 rfl (lv_at hl 3 rfl) ?_
        refine lv_iload_n hx hb d_L_law_419 rfl (lv_at hl 0 rfl) ?_
        refine lv_iconst (v := nI 1) hx hb d_L_law_420 (by decide) ?_
        refine k_add hx hb d_L_law_421 ?_
        refine k_sld hx hb hX hbl hbA hS (by omega) (by omega) d_L_law_422 ?_
        refine k_roV (np := 1) (As := [.int (xs (i + 1))]) (rest := [.int (mvS N (bitAt bs) (xs (i + 1)))]) S (c_D_moved (xs (i + 1)) hN.2 hW) (gd_V tb_332 tb_333 tb_334 tb_4 tb_335) hK (hP.sub [9, 10, 11, 12, 13, 14, 15, 16] rfl) rfl rfl (by decide +kernel) rfl ⟨rfl, rfl⟩ ⟨Nat.le_of_ble_eq_true rfl, Nat.le_of_ble_eq_true rfl⟩ hl.1 rfl (Nat.le_of_ble_eq_true rfl) d_L_law_423 ⟨Nat.le_of_ble_eq_true rfl, Nat.le_of_ble_eq_true rfl⟩ (fun v12 hv12 => ?_)
        subst hv12
        refine lv_icmp_eq (tgt := 503) hx hb d_L_law_426 (by decide) (fun c2 => ?_) (fun c2 => ?_)
        · exact next aw af T O C R rf th w f bs os rt op sn g gn fg wn fr Lo bt (⟨hH, hB, hM, hbit, hG, hW, hO⟩) H locs hP hD hS ls (lv_sub hl [0, 1, 2, 3] rfl)
        · exact absurd (mv_eq hN.2 hbit (xs (i + 1))) c2
      · refine lv_tableIn (off := 379) (tgt := 431) hx hb d_L_law_52 (by decide) (by decide) (by decide) (by decide) ?_
        refine lv_aload_n hx hb d_L_law_431 rfl (lv_at hl 2 rfl) ?_
        refine k_roV (np := 0) (As := []) (rest := []) S (c_H_reads) (gd_V tb_188 tb_189 tb_190 tb_1 tb_191) hK (hP.sub [0, 1, 2, 3, 4, 5, 6, 7, 8] rfl) rfl rfl (by decide +kernel) rfl ⟨rfl, rfl⟩ ⟨Nat.le_of_ble_eq_true rfl, Nat.le_of_ble_eq_true rfl⟩ hl.1 rfl (Nat.le_of_ble_eq_true rfl) d_L_law_432 ⟨Nat.le_of_ble_eq_true rfl, Nat.le_of_ble_eq_true rfl⟩ (fun v13 hv13 => ?_)
        subst hv13
        refine lv_aload_n hx hb d_L_law_435 rfl (lv_at hl 1 rfl) ?_
        refine k_roV (np := 0) (As := []) (rest := [.int (nI R)]) S (c_D_reads) (gd_V tb_336 tb_337 tb_338 tb_4 tb_339) hK (hP.sub [9, 10, 11, 12, 13, 14, 15, 16] rfl) rfl rfl (by decide +kernel) rfl ⟨rfl, rfl⟩ ⟨Nat.le_of_ble_eq_true rfl, Nat.le_of_ble_eq_true rfl⟩ hl.1 rfl (Nat.le_of_ble_eq_true rfl) d_L_law_436 ⟨Nat.le_of_ble_eq_true rfl, Nat.le_of_ble_eq_true rfl⟩ (fun v14 hv14 => ?_)
        subst hv14
        refine lv_icmp_eq (tgt := 503) hx hb d_L_law_439 (by decide) (fun c2 => ?_) (fun c2 => ?_)
        · exact next aw af T O C R rf th w f bs os rt op sn g gn fg wn fr Lo bt (⟨hH, hB, hM, hbit, hG, hW, hO⟩) H locs hP hD hS ls (lv_sub hl [0, 1, 2, 3] rfl)
        · exact absurd rfl c2
      · refine lv_tableIn (off := 392) (tgt := 444) hx hb d_L_law_52 (by decide) (by decide) (by decide) (by decide) ?_
        refine lv_aload_n hx hb d_L_law_444 rfl (lv_at hl 2 rfl) ?_
        refine lv_aload_n hx hb d_L_law_445 rfl (lv_at hl 3 rfl) ?_
        refine lv_iload_n hx hb d_L_law_446 rfl (lv_at hl 0 rfl) ?_
        refine lv_iconst (v := nI 1) hx hb d_L_law_447 (by decide) ?_
        refine k_add hx hb d_L_law_448 ?_
        refine k_sld hx hb hX hbl hbA hS (by omega) (by omega) d_L_law_449 ?_
        refine k_muV (np := 1) (wr := (dW m0 bw bf bb bg br bn ba cI cZ N B T O C R th w g gn fg rt wn fr)) (As := [.int (xs (i + 1))]) (rest := []) S (c_H_near (xs (i + 1)) hH) (gd_V tb_192 tb_193 tb_194 tb_1 tb_195) hK hP hD hS hA [0, 1, 2, 3, 4, 5, 6, 7, 8] [9, 10, 11, 12, 13, 14, 15, 16] rfl rfl rfl (by decide) (by decide) (by decide) rfl rfl (by decide +kernel) rfl ⟨rfl, rfl⟩ ⟨Nat.le_of_ble_eq_true rfl, Nat.le_of_ble_eq_true rfl⟩ hl.1 rfl (Nat.le_of_ble_eq_true rfl) d_L_law_450 ⟨Nat.le_of_ble_eq_true rfl, Nat.le_of_ble_eq_true rfl⟩ (fun v1 u H locs hw hP hD hS => ?_)
        obtain ⟨op2, sn2⟩ := u
        have hv1 := hw
        have hP : va_P D classes ((xW x aw af am ab ao ar ap az cI cL cZ N B T O C R rf w f bs os rt op2 sn2) ++ (dW m0 bw bf bb bg br bn ba cI cZ N B T O C R th w g gn fg rt wn fr)) H := hP.sub [8, 9, 10, 11, 12, 13, 14, 15, 16, 0, 1, 2, 3, 4, 5, 6, 7] rfl
        have hD : va_D A ((xW x aw af am ab ao ar ap az cI cL cZ N B T O C R rf w f bs os rt op2 sn2) ++ (dW m0 bw bf bb bg br bn ba cI cZ N B T O C R th w g gn fg rt wn fr)) := hD.sub [8, 9, 10, 11, 12, 13, 14, 15, 16, 0, 1, 2, 3, 4, 5, 6, 7] (by decide) rfl
        refine lv_aload_n hx hb d_L_law_453 rfl (lv_at hl 1 rfl) ?_
        refine lv_aload_n hx hb d_L_law_454 rfl (lv_at hl 3 rfl) ?_
        refine lv_iload_n hx hb d_L_law_455 rfl (lv_at hl 0 rfl) ?_
        refine lv_iconst (v := nI 1) hx hb d_L_law_456 (by decide) ?_
        refine k_add hx hb d_L_law_457 ?_
        refine k_sld hx hb hX hbl hbA hS (by omega) (by omega) d_L_law_458 ?_
        refine k_muV (np := 1) (wr := (xW x aw af am ab ao ar ap az cI cL cZ N B T O C R rf w f bs os rt op2 sn2)) (As := [.int (xs (i + 1))]) (rest := [.int v1]) S (c_D_near (xs (i + 1)) hH) (gd_V tb_340 tb_341 tb_342 tb_4 tb_343) hK hP hD hS hA [9, 10, 11, 12, 13, 14, 15, 16] [0, 1, 2, 3, 4, 5, 6, 7, 8] rfl rfl rfl (by decide) (by decide) (by decide) rfl rfl (by decide +kernel) rfl ⟨rfl, rfl⟩ ⟨Nat.le_of_ble_eq_true rfl, Nat.le_of_ble_eq_true rfl⟩ hl.1 rfl (Nat.le_of_ble_eq_true rfl) d_L_law_459 ⟨Nat.le_of_ble_eq_true rfl, Nat.le_of_ble_eq_true rfl⟩ (fun v2 u H locs hw hP hD hS => ?_)
        obtain ⟨fr2, rfl⟩ : ∃ z, z = u := ⟨_, rfl⟩
        have hv2 := hw
        have hP : va_P D classes ((xW x aw af am ab ao ar ap az cI cL cZ N B T O C R rf w f bs os rt op2 sn2) ++ (dW m0 bw bf bb bg br bn ba cI cZ N B T O C R th w g gn fg rt wn fr2)) H := hP
        have hD : va_D A ((xW x aw af am ab ao ar ap az cI cL cZ N B T O C R rf w f bs os rt op2 sn2) ++ (dW m0 bw bf bb bg br bn ba cI cZ N B T O C R th w g gn fg rt wn fr2)) := hD
        refine lv_icmp_eq (tgt := 503) hx hb d_L_law_462 (by decide) (fun c2 => ?_) (fun c2 => ?_)
        · exact next aw af T O C R rf th w f bs os rt op2 sn2 g gn fg wn fr2 Lo bt (⟨hH, hB, hM, hbit, hG, hW, hO⟩) H locs hP hD hS ls (lv_sub hl [0, 1, 2, 3] rfl)
        · exact absurd (hv1.trans hv2.symm) c2
      · refine lv_tableIn (off := 415) (tgt := 467) hx hb d_L_law_52 (by decide) (by decide) (by decide) (by decide) ?_
        refine lv_aload_n hx hb d_L_law_467 rfl (lv_at hl 2 rfl) ?_
        refine k_roV (np := 0) (As := []) (rest := []) S (c_H_sound hH hM hB) (gd_V tb_196 tb_197 tb_198 tb_1 tb_199) hK (hP.sub [0, 1, 2, 3, 4, 5, 6, 7, 8] rfl) rfl rfl (by decide +kernel) rfl ⟨rfl, rfl⟩ ⟨Nat.le_of_ble_eq_true rfl, Nat.le_of_ble_eq_true rfl⟩ hl.1 rfl (Nat.le_of_ble_eq_true rfl) d_L_law_468 ⟨Nat.le_of_ble_eq_true rfl, Nat.le_of_ble_eq_true rfl⟩ (fun v15 hv15 => ?_)
        subst hv15
        refine lv_aload_n hx hb d_L_law_471 rfl (lv_at hl 1 rfl) ?_
        refine k_roV (np := 0) (As := []) (rest := [.int (b2i true)]) S (c_D_sound hH hG hO) (gd_V tb_344 tb_345 tb_346 tb_4 tb_347) hK (hP.sub [9, 10, 11, 12, 13, 14, 15, 16] rfl) rfl rfl (by decide +kernel) rfl ⟨rfl, rfl⟩ ⟨Nat.le_of_ble_eq_true rfl, Nat.le_of_ble_eq_true rfl⟩ hl.1 rfl (Nat.le_of_ble_eq_true rfl) d_L_law_472 ⟨Nat.le_of_ble_eq_true rfl, Nat.le_of_ble_eq_true rfl⟩ (fun v16 hv16 => ?_)
        subst hv16
        refine lv_icmp_eq (tgt := 503) hx hb d_L_law_475 (by decide) (fun c2 => ?_) (fun c2 => ?_)
        · exact next aw af T O C R rf th w f bs os rt op sn g gn fg wn fr Lo bt (⟨hH, hB, hM, hbit, hG, hW, hO⟩) H locs hP hD hS ls (lv_sub hl [0, 1, 2, 3] rfl)
        · exact absurd rfl c2
      · refine lv_tableIn (off := 428) (tgt := 480) hx hb d_L_law_52 (by decide) (by decide) (by decide) (by decide) ?_
        refine lv_aload_n hx hb d_L_law_480 rfl (lv_at hl 2 rfl) ?_
        refine lv_aload_n hx hb d_L_law_481 rfl (lv_at hl 3 rfl) ?_
        refine lv_iload_n hx hb d_L_law_482 rfl (lv_at hl 0 rfl) ?_
        refine lv_iconst (v := nI 1) hx hb d_L_law_483 (by decide) ?_
        refine k_add hx hb d_L_law_484 ?_
        refine k_sld hx hb hX hbl hbA hS (by omega) (by omega) d_L_law_485 ?_
        refine k_roV (np := 1) (As := [.int (xs (i + 1))]) (rest := []) S (c_H_count (xs (i + 1))) (gd_V tb_204 tb_205 tb_206 tb_1 tb_207) hK (hP.sub [0, 1, 2, 3, 4, 5, 6, 7, 8] rfl) rfl rfl (by decide +kernel) rfl ⟨rfl, rfl⟩ ⟨Nat.le_of_ble_eq_true rfl, Nat.le_of_ble_eq_true rfl⟩ hl.1 rfl (Nat.le_of_ble_eq_true rfl) d_L_law_486 ⟨Nat.le_of_ble_eq_true rfl, Nat.le_of_ble_eq_true rfl⟩ (fun v17 hv17 => ?_)
        subst hv17
        refine lv_aload_n hx hb d_L_law_489 rfl (lv_at hl 1 rfl) ?_
        refine lv_aload_n hx hb d_L_law_490 rfl (lv_at hl 3 rfl) ?_
        refine lv_iload_n hx hb d_L_law_491 rfl (lv_at hl 0 rfl) ?_
        refine lv_iconst (v := nI 1) hx hb d_L_law_492 (by decide) ?_
        refine k_add hx hb d_L_law_493 ?_
        refine k_sld hx hb hX hbl hbA hS (by omega) (by omega) d_L_law_494 ?_
        refine k_roV (np := 1) (As := [.int (xs (i + 1))]) (rest := [.int (cntOf (xs (i + 1)) T O C N (N / B + 1))]) S (c_D_count (xs (i + 1)) hN.2 (by omega) hBp.2) (gd_V tb_348 tb_349 tb_350 tb_4 tb_351) hK (hP.sub [9, 10, 11, 12, 13, 14, 15, 16] rfl) rfl rfl (by decide +kernel) rfl ⟨rfl, rfl⟩ ⟨Nat.le_of_ble_eq_true rfl, Nat.le_of_ble_eq_true rfl⟩ hl.1 rfl (Nat.le_of_ble_eq_true rfl) d_L_law_495 ⟨Nat.le_of_ble_eq_true rfl, Nat.le_of_ble_eq_true rfl⟩ (fun v18 hv18 => ?_)
        subst hv18
        refine lv_icmp_eq (tgt := 503) hx hb d_L_law_498 (by decide) (fun c2 => ?_) (fun c2 => ?_)
        · exact next aw af T O C R rf th w f bs os rt op sn g gn fg wn fr Lo bt (⟨hH, hB, hM, hbit, hG, hW, hO⟩) H locs hP hD hS ls (lv_sub hl [0, 1, 2, 3] rfl)
        · exact absurd rfl c2
      · refine lv_tableOut (tgt := 503) hx hb d_L_law_52 (by decide) (by decide) ?_
        exact next aw af T O C R rf th w f bs os rt op sn g gn fg wn fr Lo bt ⟨hH, hB, hM, hbit, hG, hW, hO⟩ H locs hP hD hS ls (lv_sub hl [0, 1, 2, 3] rfl)
end
section
set_option maxHeartbeats 40000000 in
set_option maxRecDepth 100000 in
/-- THE LAW, from its entry -/
theorem whole_start {p : Program} {e : Env} {s : State} {m : MethodId} {below : List Frame} {meth : Method} {c : Code} (l : Launch) {sb Ln : Nat} {xs : Nat → Int32} (hL : Ln ≤ 2050) (C0 : lw_At p s m meth c sb Ln xs) : W p l e room_1 s m #[Value.ref sb] below meth c s.heap [] 0 0 (lw_Z below #[Value.ref sb] s) (entryFrame m ([Value.ref sb] : List Value).toArray 4) := by
  have S := law_fix C0
  obtain ⟨hx, hb, hr, hml, hown, hts, hX, hbl, hlocks, hgv⟩ := id C0
  obtain ⟨A, eA⟩ : ∃ A : Nat → Prop, A = fun q : Nat => s.heap.size ≤ q := ⟨_, rfl⟩
  have hA : ∀ q : Nat, s.heap.size ≤ q → A q := fun q h => by rw [eA]; exact h
  have hbA : ¬ A sb := by rw [eA]; exact Nat.not_le.mpr hbl
  obtain ⟨c0, iS0, hKn0⟩ := u_known (C := R_H) (T := F_H) (N := 13) (n := 13) hts (fun w h => (List.mem_filter.mp (i_H w h)).1) (hts _ (List.mem_filter.mp tb_7).1)
  obtain ⟨c1, iS1, hKn1⟩ := u_known (C := R_M) (T := F_M) (N := 3) (n := 3) hts (fun w h => (List.mem_filter.mp (i_M w h)).1) (hts _ (List.mem_filter.mp tb_21).1)
  obtain ⟨c2, iS2, hKn2⟩ := u_known (C := R_D) (T := F_D) (N := 14) (n := 14) hts (fun w h => (List.mem_filter.mp (i_D w h)).1) (hts _ (List.mem_filter.mp tb_212).1)
  obtain ⟨cI, hI1, hI2⟩ := arr_of (hts _ (List.mem_filter.mp tb_37).1) (fun C h => by cases h)
  obtain ⟨cL, hJ1, hJ2⟩ := arr_of (hts _ (List.mem_filter.mp tb_39).1) (fun C h => by cases h)
  obtain ⟨cZ, hZ1, hZ2⟩ := arr_of (hts _ (List.mem_filter.mp tb_38).1) (fun C h => by cases h)
  obtain ⟨D, hKc⟩ : ∃ D : va_G, ∀ (k : Nat) (q : vw_C), classes[k]? = some q → u_Kn s q.1 q.2.1 q.2.2 (D.1 k) (D.2 k) := by
    refine ⟨(fun k => if k = 0 then c0 else if k = 1 then c1 else c2, fun k => if k = 0 then iS0 else if k = 1 then iS1 else iS2), ?_⟩
    intro k q hq
    match k, hq with
    | 0, hq => cases hq; exact hKn0
    | 1, hq => cases hq; exact hKn1
    | 2, hq => cases hq; exact hKn2
    | k + 3, hq => simp [classes] at hq
  have hK : kK D (tyS cI cL cZ) s := by
    refine ⟨⟨hKc, fun k q hq => ?_⟩, va_Nw.of rfl (hts nW tb_nest)⟩
    match k, hq with
    | 0, hq => cases hq; exact ⟨hI1, hI2⟩
    | 1, hq => cases hq; exact ⟨hJ1, hJ2⟩
    | 2, hq => cases hq; exact ⟨hZ1, hZ2⟩
    | k + 3, hq => simp [tyS] at hq
  have hS : va_S A s.heap s.heap [] := va_S.rf
  have hP : va_P D classes [] s.heap := fun k q h => by simp at h
  have hD : va_D A [] := ⟨fun i j p q h => by simp at h, fun k q h => by simp at h⟩
  have hl := lv_entry ([.ref sb]) (n := 4) (Nat.le_of_ble_eq_true rfl)
  rw [lg_entry_eq]
  generalize (lg_sl ([.ref sb]) ++ List.replicate (4 - (lg_sl ([.ref sb])).length) Slot.unset).toArray = ls at hl ⊢
  have hl : lv_has ls 4 [(0, .ref sb)] := hl
  refine k_new (k2 := 1) (s2 := 13) (ci := 0) (C := R_H) (T := F_H) (N := 13) (fs := [.int 0, .int 0, .null, .null, .null, .null, .null, .null, .int 0, .int 0, .int 0, .int 0, .int 0]) S i_H t_H_ok tb_6 tb_7 tb_1 hK hP hD hS hA rfl (fun j hj => by rcases (show j = 0 ∨ j = 1 ∨ j = 2 ∨ j = 3 ∨ j = 4 ∨ j = 5 ∨ j = 6 ∨ j = 7 ∨ j = 8 ∨ j = 9 ∨ j = 10 ∨ j = 11 ∨ j = 12 by omega) with rfl | rfl | rfl | rfl | rfl | rfl | rfl | rfl | rfl | rfl | rfl | rfl | rfl <;> rfl) (by omega) (by omega) (Nat.le_of_ble_eq_true rfl) (Nat.le_of_ble_eq_true rfl) d_L_law_0 (fun x H hP hD hS => ?_)
  have hP : va_P D classes [(x, .inr (0, [.int 0, .int 0, .null, .null, .null, .null, .null, .null, .int 0, .int 0, .int 0, .int 0, .int 0]))] H := hP
  have hD : va_D A [(x, .inr (0, [.int 0, .int 0, .null, .null, .null, .null, .null, .null, .int 0, .int 0, .int 0, .int 0, .int 0]))] := hD
  refine lv_dup hx hb d_L_law_3 rfl ?_
  refine lv_aload_n hx hb d_L_law_4 rfl (lv_at hl 0 rfl) ?_
  refine lv_iconst (v := nI 0) hx hb d_L_law_5 (by decide) ?_
  refine vp_callSi (W.runS (As := [.ref sb, .int (nI 0)]) (rest := [.ref x, .ref x]) S (c_L_cell (xs := xs) 0 (by decide) hL) (va_cwS 2 S.2.2.2.2 (gd_S tb_208 tb_209 tb_0 tb_210) rfl rfl rfl (by decide +kernel) ⟨(Nat.le_of_ble_eq_true rfl), (Nat.le_of_ble_eq_true rfl)⟩) ⟨fun x U g mk q => ⟨q.1, va_X.moved (Vm.Alike.refl U.vm) q.2.1, q.2.2⟩, fun U hU hW => ⟨rfl, by rw [hU]; exact va_X.moved hW.alike (hX.kept (hS.2.1 sb hbl hbA)), by rw [hU]; exact Nat.lt_of_lt_of_le hbl hS.1⟩⟩ rfl rfl hl.1 rfl (lv_room (Nat.le_of_ble_eq_true rfl)) d_L_law_6 ⟨(Nat.le_of_ble_eq_true rfl), (Nat.le_of_ble_eq_true rfl)⟩) (fun v0 hv0 => ?_)
  subst hv0
  refine lv_aload_n hx hb d_L_law_9 rfl (lv_at hl 0 rfl) ?_
  refine lv_iconst (v := nI 1) hx hb d_L_law_10 (by decide) ?_
  refine vp_callSi (W.runS (As := [.ref sb, .int (nI 1)]) (rest := [.int (if 0 < Ln then xs 0 else 0), .ref x, .ref x]) S (c_L_cell (xs := xs) 1 (by decide) hL) (va_cwS 2 S.2.2.2.2 (gd_S tb_208 tb_209 tb_0 tb_210) rfl rfl rfl (by decide +kernel) ⟨(Nat.le_of_ble_eq_true rfl), (Nat.le_of_ble_eq_true rfl)⟩) ⟨fun x U g mk q => ⟨q.1, va_X.moved (Vm.Alike.refl U.vm) q.2.1, q.2.2⟩, fun U hU hW => ⟨rfl, by rw [hU]; exact va_X.moved hW.alike (hX.kept (hS.2.1 sb hbl hbA)), by rw [hU]; exact Nat.lt_of_lt_of_le hbl hS.1⟩⟩ rfl rfl hl.1 rfl (lv_room (Nat.le_of_ble_eq_true rfl)) d_L_law_11 ⟨(Nat.le_of_ble_eq_true rfl), (Nat.le_of_ble_eq_true rfl)⟩) (fun v1 hv1 => ?_)
  subst hv1
  refine k_ctI (k2 := 9) (s2 := 16592) (np := 2) (wr := []) (As := [.int (if 0 < Ln then xs 0 else 0), .int (if 1 < Ln then xs 1 else 0)]) (rest := [.ref x]) S (c_H_init (if 0 < Ln then xs 0 else 0) (if 1 < Ln then xs 1 else 0)) tb_10 tb_1 tb_8 tb_9 rfl hK hP hD hS hA [0] [] rfl rfl rfl (by decide) (by decide) (by decide) (by decide +kernel) rfl ⟨rfl, rfl⟩ ⟨(Nat.le_of_ble_eq_true rfl), (Nat.le_of_ble_eq_true rfl)⟩ hl.1 rfl (Nat.le_of_ble_eq_true rfl) d_L_law_14 (by omega) (by omega) (Nat.le_of_ble_eq_true rfl) (Nat.le_of_ble_eq_true rfl) (fun u H locs hP hD hS => ?_)
  obtain ⟨aw, af, am, ab, ao, ar, ap, az⟩ := u
  have hP : va_P D classes (xW x aw af am ab ao ar ap az cI cL cZ (nOf (if 0 < Ln then xs 0 else 0)) (bOf (if 1 < Ln then xs 1 else 0)) 1 0 0 0 0 (fun _ => 0) (fun _ => 0) (fun _ => 0) (fun _ => 0) (fun _ => 0) (fun _ => 0) (fun _ => 0)) H := hP
  have hD : va_D A (xW x aw af am ab ao ar ap az cI cL cZ (nOf (if 0 < Ln then xs 0 else 0)) (bOf (if 1 < Ln then xs 1 else 0)) 1 0 0 0 0 (fun _ => 0) (fun _ => 0) (fun _ => 0) (fun _ => 0) (fun _ => 0) (fun _ => 0) (fun _ => 0)) := hD
  refine lv_astore_n (lv' := [(1, .ref x), (0, .ref sb)]) hx hb d_L_law_17 rfl hl (by decide) rfl (fun ls hl => ?_)
  refine k_new (k2 := 10) (s2 := 16606) (ci := 2) (C := R_D) (T := F_D) (N := 14) (fs := [.int 0, .int 0, .int 0, .int 0, .int 0, .int 0, .int 0, .null, .null, .null, .null, .null, .null, .null]) S i_D t_D_ok tb_211 tb_212 tb_4 hK hP hD hS hA rfl (fun j hj => by rcases (show j = 0 ∨ j = 1 ∨ j = 2 ∨ j = 3 ∨ j = 4 ∨ j = 5 ∨ j = 6 ∨ j = 7 ∨ j = 8 ∨ j = 9 ∨ j = 10 ∨ j = 11 ∨ j = 12 ∨ j = 13 by omega) with rfl | rfl | rfl | rfl | rfl | rfl | rfl | rfl | rfl | rfl | rfl | rfl | rfl | rfl <;> rfl) (by omega) (by omega) (Nat.le_of_ble_eq_true rfl) (Nat.le_of_ble_eq_true rfl) d_L_law_18 (fun m0 H hP hD hS => ?_)
  have hP : va_P D classes ((xW x aw af am ab ao ar ap az cI cL cZ (nOf (if 0 < Ln then xs 0 else 0)) (bOf (if 1 < Ln then xs 1 else 0)) 1 0 0 0 0 (fun _ => 0) (fun _ => 0) (fun _ => 0) (fun _ => 0) (fun _ => 0) (fun _ => 0) (fun _ => 0)) ++ [(m0, .inr (2, [.int 0, .int 0, .int 0, .int 0, .int 0, .int 0, .int 0, .null, .null, .null, .null, .null, .null, .null]))]) H := hP
  have hD : va_D A ((xW x aw af am ab ao ar ap az cI cL cZ (nOf (if 0 < Ln then xs 0 else 0)) (bOf (if 1 < Ln then xs 1 else 0)) 1 0 0 0 0 (fun _ => 0) (fun _ => 0) (fun _ => 0) (fun _ => 0) (fun _ => 0) (fun _ => 0) (fun _ => 0)) ++ [(m0, .inr (2, [.int 0, .int 0, .int 0, .int 0, .int 0, .int 0, .int 0, .null, .null, .null, .null, .null, .null, .null]))]) := hD
  refine lv_dup hx hb d_L_law_21 rfl ?_
  refine lv_aload_n hx hb d_L_law_22 rfl (lv_at hl 1 rfl) ?_
  refine lv_iconst (v := nI 0) hx hb d_L_law_23 (by decide) ?_
  refine vp_callSi (W.runS (As := [.ref sb, .int (nI 0)]) (rest := [.ref m0, .ref m0]) S (c_L_cell (xs := xs) 0 (by decide) hL) (va_cwS 2 S.2.2.2.2 (gd_S tb_208 tb_209 tb_0 tb_210) rfl rfl rfl (by decide +kernel) ⟨(Nat.le_of_ble_eq_true rfl), (Nat.le_of_ble_eq_true rfl)⟩) ⟨fun x U g mk q => ⟨q.1, va_X.moved (Vm.Alike.refl U.vm) q.2.1, q.2.2⟩, fun U hU hW => ⟨rfl, by rw [hU]; exact va_X.moved hW.alike (hX.kept (hS.2.1 sb hbl hbA)), by rw [hU]; exact Nat.lt_of_lt_of_le hbl hS.1⟩⟩ rfl rfl hl.1 rfl (lv_room (Nat.le_of_ble_eq_true rfl)) d_L_law_24 ⟨(Nat.le_of_ble_eq_true rfl), (Nat.le_of_ble_eq_true rfl)⟩) (fun v2 hv2 => ?_)
  subst hv2
  refine lv_aload_n hx hb d_L_law_27 rfl (lv_at hl 1 rfl) ?_
  refine lv_iconst (v := nI 1) hx hb d_L_law_28 (by decide) ?_
  refine vp_callSi (W.runS (As := [.ref sb, .int (nI 1)]) (rest := [.int (if 0 < Ln then xs 0 else 0), .ref m0, .ref m0]) S (c_L_cell (xs := xs) 1 (by decide) hL) (va_cwS 2 S.2.2.2.2 (gd_S tb_208 tb_209 tb_0 tb_210) rfl rfl rfl (by decide +kernel) ⟨(Nat.le_of_ble_eq_true rfl), (Nat.le_of_ble_eq_true rfl)⟩) ⟨fun x U g mk q => ⟨q.1, va_X.moved (Vm.Alike.refl U.vm) q.2.1, q.2.2⟩, fun U hU hW => ⟨rfl, by rw [hU]; exact va_X.moved hW.alike (hX.kept (hS.2.1 sb hbl hbA)), by rw [hU]; exact Nat.lt_of_lt_of_le hbl hS.1⟩⟩ rfl rfl hl.1 rfl (lv_room (Nat.le_of_ble_eq_true rfl)) d_L_law_29 ⟨(Nat.le_of_ble_eq_true rfl), (Nat.le_of_ble_eq_true rfl)⟩) (fun v3 hv3 => ?_)
  subst hv3
  refine k_ctI (k2 := 17) (s2 := 40622) (np := 2) (wr := (xW x aw af am ab ao ar ap az cI cL cZ (nOf (if 0 < Ln then xs 0 else 0)) (bOf (if 1 < Ln then xs 1 else 0)) 1 0 0 0 0 (fun _ => 0) (fun _ => 0) (fun _ => 0) (fun _ => 0) (fun _ => 0) (fun _ => 0) (fun _ => 0))) (As := [.int (if 0 < Ln then xs 0 else 0), .int (if 1 < Ln then xs 1 else 0)]) (rest := [.ref m0]) S (c_D_init (if 0 < Ln then xs 0 else 0) (if 1 < Ln then xs 1 else 0)) tb_215 tb_4 tb_213 tb_214 rfl hK hP hD hS hA [9] [0, 1, 2, 3, 4, 5, 6, 7, 8] rfl rfl rfl (by decide) (by decide) (by decide) (by decide +kernel) rfl ⟨rfl, rfl⟩ ⟨(Nat.le_of_ble_eq_true rfl), (Nat.le_of_ble_eq_true rfl)⟩ hl.1 rfl (Nat.le_of_ble_eq_true rfl) d_L_law_32 (by omega) (by omega) (Nat.le_of_ble_eq_true rfl) (Nat.le_of_ble_eq_true rfl) (fun u H locs hP hD hS => ?_)
  obtain ⟨bw, bf, bb, bg, br, bn, ba⟩ := u
  have hP : va_P D classes ((xW x aw af am ab ao ar ap az cI cL cZ (nOf (if 0 < Ln then xs 0 else 0)) (bOf (if 1 < Ln then xs 1 else 0)) 1 0 0 0 0 (fun _ => 0) (fun _ => 0) (fun _ => 0) (fun _ => 0) (fun _ => 0) (fun _ => 0) (fun _ => 0)) ++ (dW m0 bw bf bb bg br bn ba cI cZ (nOf (if 0 < Ln then xs 0 else 0)) (bOf (if 1 < Ln then xs 1 else 0)) 1 0 0 0 0 (fun _ => 0) (fun _ => 0) (fun _ => 0) (fun _ => 0) (fun _ => 0) (fun _ => 0) (fun _ => 0))) H := hP
  have hD : va_D A ((xW x aw af am ab ao ar ap az cI cL cZ (nOf (if 0 < Ln then xs 0 else 0)) (bOf (if 1 < Ln then xs 1 else 0)) 1 0 0 0 0 (fun _ => 0) (fun _ => 0) (fun _ => 0) (fun _ => 0) (fun _ => 0) (fun _ => 0) (fun _ => 0)) ++ (dW m0 bw bf bb bg br bn ba cI cZ (nOf (if 0 < Ln then xs 0 else 0)) (bOf (if 1 < Ln then xs 1 else 0)) 1 0 0 0 0 (fun _ => 0) (fun _ => 0) (fun _ => 0) (fun _ => 0) (fun _ => 0) (fun _ => 0) (fun _ => 0))) := hD
  refine lv_astore_n (lv' := [(2, .ref m0), (1, .ref x), (0, .ref sb)]) hx hb d_L_law_35 rfl hl (by decide) rfl (fun ls hl => ?_)
  refine lv_iconst (v := nI 2) hx hb d_L_law_36 (by decide) ?_
  refine lv_istore_n (lv' := [(3, .int (nI 2)), (2, .ref m0), (1, .ref x), (0, .ref sb)]) hx hb d_L_law_37 rfl hl (by decide) rfl (fun ls hl => ?_)
  rw [eA] at hD hS
  exact law_loop hL C0 hK (Ln + 1) 2 aw af 1 0 0 0 0 0 (fun _ => 0) (fun _ => 0) (fun _ => 0) (fun _ => 0) (fun _ => 0) (fun _ => 0) (fun _ => 0) (fun _ => 0) (fun _ => 0) (fun _ => 0) (fun _ => 0) (fun _ => 0) [] (fun _ => false) (by omega) (by omega) (Inv.start (if 0 < Ln then xs 0 else 0) (if 1 < Ln then xs 1 else 0)) H locs hP hD hS ls (lv_sub hl [0, 1, 2, 3] rfl)
end
section
set_option maxHeartbeats 4000000 in
theorem lw_walk (l : Launch) (b : Addr) (xs : List Int32) : MetFree l x (headSpec (Jvm.Cond.code x code maxLocals ret :: tables_1) room_1) (lw_P b xs) (fun _ _ _ _ _ => True) lw_Q := by
  refine MetFree.of_bodyS (code := code) (maxLocals := maxLocals) (ret := ret) (by decide) ?_ ?_
  · intro args s m h hn
    obtain ⟨meth, c, h1, h2, h3, h4, h5, h6, -, -⟩ := Cond.code_spec hn (atoms_spec (ws := Jvm.Cond.code x code maxLocals ret :: tables_1) h _ List.mem_cons_self)
    exact ⟨meth, c, h1, h2, h3, h4, h5, h6⟩
  · intro p e s m args below meth c s₁ B hml0 hP _
    obtain ⟨rfl, hx, hbd, hgv⟩ := hP
    obtain ⟨scr, harrAt, hlist, hof, hsmall⟩ := hx
    obtain ⟨hcb, hkn, -, -⟩ := State.arrayAt?_spec harrAt
    have hown : s.vm.findClass R_law = some m.cls := findClass_of_methodNamed B.named
    have hts0 : ∀ c ∈ (Jvm.Cond.code x code maxLocals ret :: tables_1), c.before #[Value.ref b] s = true := atoms_spec (ws := Jvm.Cond.code x code maxLocals ret :: tables_1) B.pre
    have hts : ∀ w ∈ lw_tbl, w.before #[Value.ref b] s = true := k2_hts_sels lw_privs (fun w hw => hts0 w (List.mem_cons_of_mem _ hw)) lw_privs_ok
    have hml : c.maxLocals = 4 := B.maxLocals_eq (hts0 _ List.mem_cons_self)
    have X₀ : Stand p l e room_1 s m #[Value.ref b] below meth c s₁ [] 0 0 := Stand.of_body B
    have hh0 : s₁.heap = s.heap := by rw [B.state]; rfl
    have hsz : scr.slots.size = xs.length := by rw [← Array.length_toList, hlist, List.length_map]
    have hval : ∀ j : Nat, j < xs.length → scr.slots[j]? = some (.int (xs.getD j 0)) := fun j hj => by
      rw [← Array.getElem?_toList, hlist]
      simp [hj]
    have hbl : b < s.heap.size := (Array.getElem?_eq_some_iff.mp hcb).1
    have hX : va_X b xs.length (fun j => xs.getD j 0) s s.heap := ⟨scr, hcb, hof, hkn, hsz, hval⟩
    have K : W p l e room_1 s m #[Value.ref b] below meth c s₁.heap [] 0 0 (lw_Z below #[Value.ref b] s) (entryFrame m ([Value.ref b] : List Value).toArray 4) := by
      rw [hh0]
      exact whole_start l hbd ⟨B.exec, B.bytes, B.returns, hml, hown, hts, hX, hbl, B.notSynchronized, hgv⟩
    obtain ⟨t, a1, o, b1, b2, b3⟩ := K s₁ rfl X₀
    exact ⟨t, o, a1, b1, b2, b3⟩
theorem lw_pre_spec {args : Array Value} {s : State} (h : (Jvm.Cond.and given_1 narrow_1).before args s = true) (hr : rest_1_c.before args s = true) : ∃ (b : Addr) (xs : List Int32), lw_P b xs args s := by
  have hs := flat_of_before _ h
  have hq := flat_of_before _ hr
  have hc : (Cond.count 1).before args s = true := hs _ (by decide +kernel)
  have harr : (Cond.arrayOf (.arg 0) .int).before args s = true := hs _ (by decide +kernel)
  have hle : (Cond.le (.length (.arg 0)) (.int 2050)).before args s = true := hs _ (by decide +kernel)
  have hlen : (Cond.isInt (.length (.arg 0))).before args s = true := hq _ (by decide +kernel)
  have hall : (Cond.all (.arg 0) (.isInt (.elem (.arg 0) (.index 0)))).before args s = true := hq _ (by decide +kernel)
  obtain ⟨b, xs, hb, hx⟩ := State.ints_of_pre rfl harr hlen hall
  have hsm : xs.length < 2 ^ 31 := hx.choose_spec.2.2.2
  have hev : (Term.length (.arg 0)).eval args s none [] s = some (.int xs.length.toInt32) := hx.length_eval hb
  have hv := Cond.le_ints hev (show (Term.int 2050).eval args s none [] s = some (.int 2050) from rfl)
  have hd : xs.length.toInt32 ≤ 2050 := by
    simpa [Cond.before, Cond.holds, hv] using hle
  have hN : xs.length ≤ 2050 := (Int32.ofNat_le_ofNat hsm (by decide)).mp (show Int32.ofNat xs.length ≤ Int32.ofNat 2050 from hd)
  exact ⟨b, xs, Cond.one_arg hc (show args[0]? = some (.ref b) from hb), hx, hN, h⟩
theorem lw_comes (l : Launch) : Comes l x (Jvm.Cond.code x code maxLocals ret :: tables_1) room_1 (fun tb e args s => Calls_1 tb e args s ∧ rest_1 tb e args s ∧ Pre_1 tb e args s)
    (fun _ _ args s o t => lw_Q args s o t) := by
  intro p e ha hc hk s m args below hf hfit hheap happ hpre
  obtain ⟨b, xs, hP⟩ := lw_pre_spec hpre.2.2 hpre.2.1
  obtain ⟨k, o, h1, h2, h3, hQ⟩ := lw_walk l b xs p e ha hc hk s m args below hf ((Spec.applies_iff_loose hf).mp happ).1 hP trivial
  exact ⟨k, o, h1, h2, h3, hQ⟩
theorem lw_frame {s t : State} {o : Outcome} {args : Array Value} (h : Framed s o t [] 600000 7302250) :
    Framed s o t (fieldLocs frame_1_writes args s ++ arrayLocs frame_1_arrays args s ++ staticLocs frame_1_statics s) 600000 7302250 := h
theorem lw_limb (L : Cond) (hL : ∀ (args : Array Value) (s t : State), L.after args s (.returned (some (.int 1))) t = true) :
    ArmFor flags0 classFile x code maxLocals ret World_1 tables_1 room_1 Calls_1 rest_1 Pre_1
      (fun tb e a s o t => postC L tb e a s o t ∧ Framed s o t (fieldLocs frame_1_writes a s ++ arrayLocs frame_1_arrays a s ++ staticLocs frame_1_statics s) 600000 7302250) := by
  intro l _ _ _ p e ha hc hk s m args below hf hfit hheap happ hpre
  obtain ⟨k, o, h1, h2, h3, rfl, hF⟩ := lw_comes l p e ha hc hk s m args below hf hfit hheap happ hpre
  exact ⟨k, _, h1, h2, h3, hL args s _, lw_frame hF⟩
theorem i_vc : Claimed_1_1 ∧ Claimed_1_2 := ⟨lw_limb limb_1_1 (fun args s t => by simp [limb_1_1, Cond.after, Cond.holds, Cond.value]), lw_limb limb_1_2 (fun args s t => Cond.after_iff.mpr (by
  first | (rw [show limb_1_2 = Cond.eq .result (.int 1) from rfl, Cond.eq_ints (x := 1) (y := 1) rfl rfl]; simp; done) | (simp [limb_1_2, Cond.value, Term.eval]; done)))⟩
end
